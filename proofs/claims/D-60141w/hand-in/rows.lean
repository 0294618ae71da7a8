section
/-- a private method of a class that the tables say can be made, by its rows of tables_1 -/
def lw_okq (q : MethodName × Nat) : Prop := (q.1.cls ≠ "java/lang/invoke/MethodHandle" ∧ q.1.cls ≠ "java/lang/invoke/VarHandle") ∧ Cond.instantiable q.1.cls q.2 ∈ tables_1 ∧ Cond.privateMethod q.1 ∈ tables_1 ∧ Cond.instanceMethod q.1 ∈ tables_1
set_option maxRecDepth 100000
theorem lw_t1 {w : Cond} (h : w ∈ tables_1_1) : w ∈ tables_1 := List.mem_append_left _ h
theorem lw_t2 {w : Cond} (h : w ∈ tables_1_2) : w ∈ tables_1 := List.mem_append_right _ h
theorem lw_p0 : lw_okq (⟨"StyledText", "badLetter", "(I)Z"⟩, 11) := ⟨⟨by decide +kernel, by decide +kernel⟩, lw_t1 (List.mem_of_getElem? (i := 4) rfl), lw_t1 (List.mem_of_getElem? (i := 51) rfl), lw_t1 (List.mem_of_getElem? (i := 52) rfl)⟩
theorem lw_p1 : lw_okq (⟨"StyledText", "styleHere", "(I)I"⟩, 11) := ⟨⟨by decide +kernel, by decide +kernel⟩, lw_t1 (List.mem_of_getElem? (i := 4) rfl), lw_t1 (List.mem_of_getElem? (i := 55) rfl), lw_t1 (List.mem_of_getElem? (i := 56) rfl)⟩
theorem lw_p2 : lw_okq (⟨"StyledText", "runAt", "(I)I"⟩, 11) := ⟨⟨by decide +kernel, by decide +kernel⟩, lw_t1 (List.mem_of_getElem? (i := 4) rfl), lw_t1 (List.mem_of_getElem? (i := 59) rfl), lw_t1 (List.mem_of_getElem? (i := 60) rfl)⟩
theorem lw_p3 : lw_okq (⟨"StyledText", "insert", "(IIII)V"⟩, 11) := ⟨⟨by decide +kernel, by decide +kernel⟩, lw_t1 (List.mem_of_getElem? (i := 4) rfl), lw_t1 (List.mem_of_getElem? (i := 63) rfl), lw_t1 (List.mem_of_getElem? (i := 64) rfl)⟩
theorem lw_p4 : lw_okq (⟨"StyledText", "putLetter", "(II)V"⟩, 11) := ⟨⟨by decide +kernel, by decide +kernel⟩, lw_t1 (List.mem_of_getElem? (i := 4) rfl), lw_t1 (List.mem_of_getElem? (i := 67) rfl), lw_t1 (List.mem_of_getElem? (i := 68) rfl)⟩
theorem lw_p5 : lw_okq (⟨"StyledText", "moveGap", "(I)V"⟩, 11) := ⟨⟨by decide +kernel, by decide +kernel⟩, lw_t1 (List.mem_of_getElem? (i := 4) rfl), lw_t1 (List.mem_of_getElem? (i := 71) rfl), lw_t1 (List.mem_of_getElem? (i := 72) rfl)⟩
theorem lw_p6 : lw_okq (⟨"StyledText", "putStyles", "(III)V"⟩, 11) := ⟨⟨by decide +kernel, by decide +kernel⟩, lw_t1 (List.mem_of_getElem? (i := 4) rfl), lw_t1 (List.mem_of_getElem? (i := 75) rfl), lw_t1 (List.mem_of_getElem? (i := 76) rfl)⟩
theorem lw_p7 : lw_okq (⟨"StyledText", "cutAt", "(I)I"⟩, 11) := ⟨⟨by decide +kernel, by decide +kernel⟩, lw_t1 (List.mem_of_getElem? (i := 4) rfl), lw_t1 (List.mem_of_getElem? (i := 79) rfl), lw_t1 (List.mem_of_getElem? (i := 80) rfl)⟩
theorem lw_p8 : lw_okq (⟨"StyledText", "openRun", "(I)V"⟩, 11) := ⟨⟨by decide +kernel, by decide +kernel⟩, lw_t1 (List.mem_of_getElem? (i := 4) rfl), lw_t1 (List.mem_of_getElem? (i := 83) rfl), lw_t1 (List.mem_of_getElem? (i := 84) rfl)⟩
theorem lw_p9 : lw_okq (⟨"StyledText", "joinRuns", "()V"⟩, 11) := ⟨⟨by decide +kernel, by decide +kernel⟩, lw_t1 (List.mem_of_getElem? (i := 4) rfl), lw_t1 (List.mem_of_getElem? (i := 87) rfl), lw_t1 (List.mem_of_getElem? (i := 88) rfl)⟩
theorem lw_p10 : lw_okq (⟨"StyledText", "closeRun", "(I)V"⟩, 11) := ⟨⟨by decide +kernel, by decide +kernel⟩, lw_t1 (List.mem_of_getElem? (i := 4) rfl), lw_t1 (List.mem_of_getElem? (i := 91) rfl), lw_t1 (List.mem_of_getElem? (i := 92) rfl)⟩
theorem lw_p11 : lw_okq (⟨"StyledText", "moveFlag", "(II)V"⟩, 11) := ⟨⟨by decide +kernel, by decide +kernel⟩, lw_t1 (List.mem_of_getElem? (i := 4) rfl), lw_t1 (List.mem_of_getElem? (i := 95) rfl), lw_t1 (List.mem_of_getElem? (i := 96) rfl)⟩
theorem lw_p12 : lw_okq (⟨"StyledText", "bad", "(II)Z"⟩, 11) := ⟨⟨by decide +kernel, by decide +kernel⟩, lw_t1 (List.mem_of_getElem? (i := 4) rfl), lw_t1 (List.mem_of_getElem? (i := 107) rfl), lw_t1 (List.mem_of_getElem? (i := 108) rfl)⟩
theorem lw_p13 : lw_okq (⟨"StyledText", "delete", "(II)V"⟩, 11) := ⟨⟨by decide +kernel, by decide +kernel⟩, lw_t1 (List.mem_of_getElem? (i := 4) rfl), lw_t1 (List.mem_of_getElem? (i := 111) rfl), lw_t1 (List.mem_of_getElem? (i := 112) rfl)⟩
theorem lw_p14 : lw_okq (⟨"StyledText", "dropLetters", "(II)V"⟩, 11) := ⟨⟨by decide +kernel, by decide +kernel⟩, lw_t1 (List.mem_of_getElem? (i := 4) rfl), lw_t1 (List.mem_of_getElem? (i := 115) rfl), lw_t1 (List.mem_of_getElem? (i := 116) rfl)⟩
theorem lw_p15 : lw_okq (⟨"StyledText", "dropStyles", "(II)V"⟩, 11) := ⟨⟨by decide +kernel, by decide +kernel⟩, lw_t1 (List.mem_of_getElem? (i := 4) rfl), lw_t1 (List.mem_of_getElem? (i := 119) rfl), lw_t1 (List.mem_of_getElem? (i := 120) rfl)⟩
def lw_privs_1 : List (MethodName × Nat) := [(⟨"StyledText", "badLetter", "(I)Z"⟩, 11), (⟨"StyledText", "styleHere", "(I)I"⟩, 11), (⟨"StyledText", "runAt", "(I)I"⟩, 11), (⟨"StyledText", "insert", "(IIII)V"⟩, 11), (⟨"StyledText", "putLetter", "(II)V"⟩, 11), (⟨"StyledText", "moveGap", "(I)V"⟩, 11), (⟨"StyledText", "putStyles", "(III)V"⟩, 11), (⟨"StyledText", "cutAt", "(I)I"⟩, 11), (⟨"StyledText", "openRun", "(I)V"⟩, 11), (⟨"StyledText", "joinRuns", "()V"⟩, 11), (⟨"StyledText", "closeRun", "(I)V"⟩, 11), (⟨"StyledText", "moveFlag", "(II)V"⟩, 11), (⟨"StyledText", "bad", "(II)Z"⟩, 11), (⟨"StyledText", "delete", "(II)V"⟩, 11), (⟨"StyledText", "dropLetters", "(II)V"⟩, 11), (⟨"StyledText", "dropStyles", "(II)V"⟩, 11)]
theorem lw_r1 : ∀ q ∈ lw_privs_1, lw_okq q := List.forall_mem_cons.mpr ⟨lw_p0, List.forall_mem_cons.mpr ⟨lw_p1, List.forall_mem_cons.mpr ⟨lw_p2, List.forall_mem_cons.mpr ⟨lw_p3, List.forall_mem_cons.mpr ⟨lw_p4, List.forall_mem_cons.mpr ⟨lw_p5, List.forall_mem_cons.mpr ⟨lw_p6, List.forall_mem_cons.mpr ⟨lw_p7, List.forall_mem_cons.mpr ⟨lw_p8, List.forall_mem_cons.mpr ⟨lw_p9, List.forall_mem_cons.mpr ⟨lw_p10, List.forall_mem_cons.mpr ⟨lw_p11, List.forall_mem_cons.mpr ⟨lw_p12, List.forall_mem_cons.mpr ⟨lw_p13, List.forall_mem_cons.mpr ⟨lw_p14, List.forall_mem_cons.mpr ⟨lw_p15, fun _ h => absurd h List.not_mem_nil⟩⟩⟩⟩⟩⟩⟩⟩⟩⟩⟩⟩⟩⟩⟩⟩
theorem lw_p16 : lw_okq (⟨"StyledText", "hold", "(II)V"⟩, 11) := ⟨⟨by decide +kernel, by decide +kernel⟩, lw_t1 (List.mem_of_getElem? (i := 4) rfl), lw_t1 (List.mem_of_getElem? (i := 127) rfl), lw_t1 (List.mem_of_getElem? (i := 128) rfl)⟩
theorem lw_p17 : lw_okq (⟨"StyledText", "cellOf", "(I)I"⟩, 11) := ⟨⟨by decide +kernel, by decide +kernel⟩, lw_t1 (List.mem_of_getElem? (i := 4) rfl), lw_t1 (List.mem_of_getElem? (i := 131) rfl), lw_t1 (List.mem_of_getElem? (i := 132) rfl)⟩
theorem lw_p18 : lw_okq (⟨"StyledText", "giveBack", "(I)V"⟩, 11) := ⟨⟨by decide +kernel, by decide +kernel⟩, lw_t1 (List.mem_of_getElem? (i := 4) rfl), lw_t1 (List.mem_of_getElem? (i := 135) rfl), lw_t1 (List.mem_of_getElem? (i := 136) rfl)⟩
theorem lw_p19 : lw_okq (⟨"StyledText", "mixed", "(III)I"⟩, 11) := ⟨⟨by decide +kernel, by decide +kernel⟩, lw_t1 (List.mem_of_getElem? (i := 4) rfl), lw_t1 (List.mem_of_getElem? (i := 147) rfl), lw_t1 (List.mem_of_getElem? (i := 148) rfl)⟩
theorem lw_p20 : lw_okq (⟨"StyledText", "off", "(I)Z"⟩, 11) := ⟨⟨by decide +kernel, by decide +kernel⟩, lw_t1 (List.mem_of_getElem? (i := 4) rfl), lw_t1 (List.mem_of_getElem? (i := 168) rfl), lw_t1 (List.mem_of_getElem? (i := 169) rfl)⟩
theorem lw_p21 : lw_okq (⟨"StyledTextModel", "isLetter", "(I)Z"⟩, 6) := ⟨⟨by decide +kernel, by decide +kernel⟩, lw_t1 (List.mem_of_getElem? (i := 208) rfl), lw_t1 (List.mem_of_getElem? (i := 237) rfl), lw_t1 (List.mem_of_getElem? (i := 238) rfl)⟩
theorem lw_p22 : lw_okq (⟨"StyledTextModel", "open", "(II)V"⟩, 6) := ⟨⟨by decide +kernel, by decide +kernel⟩, lw_t1 (List.mem_of_getElem? (i := 208) rfl), lw_t2 (List.mem_of_getElem? (i := 1) rfl), lw_t2 (List.mem_of_getElem? (i := 2) rfl)⟩
theorem lw_p23 : lw_okq (⟨"StyledTextModel", "isStretch", "(II)Z"⟩, 6) := ⟨⟨by decide +kernel, by decide +kernel⟩, lw_t1 (List.mem_of_getElem? (i := 208) rfl), lw_t2 (List.mem_of_getElem? (i := 13) rfl), lw_t2 (List.mem_of_getElem? (i := 14) rfl)⟩
theorem lw_p24 : lw_okq (⟨"StyledTextModel", "keep", "(II)V"⟩, 6) := ⟨⟨by decide +kernel, by decide +kernel⟩, lw_t1 (List.mem_of_getElem? (i := 208) rfl), lw_t2 (List.mem_of_getElem? (i := 21) rfl), lw_t2 (List.mem_of_getElem? (i := 22) rfl)⟩
theorem lw_p25 : lw_okq (⟨"StyledTextModel", "putKept", "(II)V"⟩, 6) := ⟨⟨by decide +kernel, by decide +kernel⟩, lw_t1 (List.mem_of_getElem? (i := 208) rfl), lw_t2 (List.mem_of_getElem? (i := 26) rfl), lw_t2 (List.mem_of_getElem? (i := 27) rfl)⟩
theorem lw_p26 : lw_okq (⟨"StyledTextModel", "setParts", "(IIII)I"⟩, 6) := ⟨⟨by decide +kernel, by decide +kernel⟩, lw_t1 (List.mem_of_getElem? (i := 208) rfl), lw_t2 (List.mem_of_getElem? (i := 38) rfl), lw_t2 (List.mem_of_getElem? (i := 39) rfl)⟩
theorem lw_p27 : lw_okq (⟨"StyledTextModel", "isBegin", "(I)Z"⟩, 6) := ⟨⟨by decide +kernel, by decide +kernel⟩, lw_t1 (List.mem_of_getElem? (i := 208) rfl), lw_t2 (List.mem_of_getElem? (i := 66) rfl), lw_t2 (List.mem_of_getElem? (i := 67) rfl)⟩
def lw_privs_2 : List (MethodName × Nat) := [(⟨"StyledText", "hold", "(II)V"⟩, 11), (⟨"StyledText", "cellOf", "(I)I"⟩, 11), (⟨"StyledText", "giveBack", "(I)V"⟩, 11), (⟨"StyledText", "mixed", "(III)I"⟩, 11), (⟨"StyledText", "off", "(I)Z"⟩, 11), (⟨"StyledTextModel", "isLetter", "(I)Z"⟩, 6), (⟨"StyledTextModel", "open", "(II)V"⟩, 6), (⟨"StyledTextModel", "isStretch", "(II)Z"⟩, 6), (⟨"StyledTextModel", "keep", "(II)V"⟩, 6), (⟨"StyledTextModel", "putKept", "(II)V"⟩, 6), (⟨"StyledTextModel", "setParts", "(IIII)I"⟩, 6), (⟨"StyledTextModel", "isBegin", "(I)Z"⟩, 6)]
theorem lw_r2 : ∀ q ∈ lw_privs_2, lw_okq q := List.forall_mem_cons.mpr ⟨lw_p16, List.forall_mem_cons.mpr ⟨lw_p17, List.forall_mem_cons.mpr ⟨lw_p18, List.forall_mem_cons.mpr ⟨lw_p19, List.forall_mem_cons.mpr ⟨lw_p20, List.forall_mem_cons.mpr ⟨lw_p21, List.forall_mem_cons.mpr ⟨lw_p22, List.forall_mem_cons.mpr ⟨lw_p23, List.forall_mem_cons.mpr ⟨lw_p24, List.forall_mem_cons.mpr ⟨lw_p25, List.forall_mem_cons.mpr ⟨lw_p26, List.forall_mem_cons.mpr ⟨lw_p27, fun _ h => absurd h List.not_mem_nil⟩⟩⟩⟩⟩⟩⟩⟩⟩⟩⟩⟩
def lw_privs : List (MethodName × Nat) := lw_privs_1 ++ (lw_privs_2)
def lw_tbl : List Cond := k2_sels lw_privs ++ tables_1
theorem lw_privs_ok : ∀ q ∈ lw_privs, lw_okq q := by
  show ∀ q ∈ lw_privs_1 ++ (lw_privs_2), lw_okq q
  exact List.forall_mem_append.mpr ⟨lw_r1, lw_r2⟩
-- ===== ONE list of words for every method: the tables' words that hold all through a run =====
def lw_all : List Cond := lw_tbl.filter goodWord
/-- a word of the tables by its place: claim/WORDS.tsv -/
theorem lw_w {w : Cond} (i : Nat) (h : lw_tbl[i]? = some w) (g : goodWord w = true) : w ∈ lw_all := List.mem_filter.mpr ⟨List.mem_of_getElem? h, g⟩
theorem lw_all_tbl {w : Cond} (h : w ∈ lw_all) : w ∈ lw_tbl := (List.mem_filter.mp h).1
theorem lw_self : GoodIn lw_all lw_all := fun w h => ⟨h, good_of_word (List.mem_filter.mp h).2⟩
/-- a class's field words, by their places -/
theorem lw_in (ws : List Cond) (ps : List Nat) (hp : ws = ps.filterMap (fun i => lw_tbl[i]?)) (hg : ws.all goodWord = true) : ∀ w ∈ ws, w ∈ lw_all := by
  intro w h
  have h1 := List.all_eq_true.mp hg w h
  rw [hp] at h
  obtain ⟨i, -, hi⟩ := List.mem_filterMap.mp h
  exact lw_w i hi h1
/-- the words of a contract for the method y with code b, L locals, answer r -/
abbrev ws_ (y : MethodName) (b : ByteArray) (L : Nat) (r : Option FieldType) : List Cond := Cond.code y b L r :: lw_all
theorem lw_meth {y : MethodName} {b : ByteArray} {L : Nat} {r : Option FieldType} (h : Cond.code y b L r ∈ lw_all) : GoodIn lw_all (ws_ y b L r) := by
  intro w hw
  rcases List.mem_cons.mp hw with e | e
  · rw [e]
    exact lw_self _ h
  · exact lw_self _ e
theorem lw_app {a c : List Cond} (ha : ∀ w ∈ a, w ∈ lw_all) (hc : GoodIn lw_all c) : GoodIn lw_all (a ++ c) := by
  intro w hw
  rcases List.mem_append.mp hw with e | e
  · exact lw_self w (ha w e)
  · exact hc w e
/-- what a call through an object asks: cwV n hts (lw_V ..) -/
theorem lw_V {own : String} {idx : Nat} {C : String} {y : MethodName} {b : ByteArray} {L : Nat} {r : Option FieldType} (h1 : Cond.methodLink own idx y ∈ lw_all) (h2 : Cond.instanceMethod y ∈ lw_all) (h3 : Cond.selects C y y ∈ lw_all) (h4 : Cond.initialized C ∈ lw_all) (h5 : Cond.code y b L r ∈ lw_all) : GoodIn lw_all (wsV own idx C y (ws_ y b L r)) := by
  refine lw_app ?_ (lw_meth h5)
  intro w hw
  simp only [List.mem_cons, List.not_mem_nil, or_false] at hw
  rcases hw with e | e | e | e
  · rw [e]; exact h1
  · rw [e]; exact h2
  · rw [e]; exact h3
  · rw [e]; exact h4
/-- what a static call asks: va_cwS n hts (lw_S ..) -/
theorem lw_S {own : String} {idx : Nat} {y : MethodName} {b : ByteArray} {L : Nat} {r : Option FieldType} (h1 : Cond.methodLink own idx y ∈ lw_all) (h2 : Cond.static y ∈ lw_all) (h3 : Cond.initialized y.cls ∈ lw_all) (h4 : Cond.code y b L r ∈ lw_all) : GoodIn lw_all (va_wsS own idx y (ws_ y b L r)) := by
  refine lw_app ?_ (lw_meth h4)
  intro w hw
  simp only [List.mem_cons, List.not_mem_nil, or_false] at hw
  rcases hw with e | e | e
  · rw [e]; exact h1
  · rw [e]; exact h2
  · rw [e]; exact h3
/-- the words of a contract for a method WITH HANDLERS (hh: its table) -/
abbrev wsW_ (y : MethodName) (b : ByteArray) (L : Nat) (r : Option FieldType) (hh : List (Nat × Nat × Nat × Nat)) : List Cond := Cond.codeWith y b L r hh :: lw_all
theorem lw_methW {y : MethodName} {b : ByteArray} {L : Nat} {r : Option FieldType} {hh : List (Nat × Nat × Nat × Nat)} (h : Cond.codeWith y b L r hh ∈ lw_all) : GoodIn lw_all (wsW_ y b L r hh) := by
  intro w hw
  rcases List.mem_cons.mp hw with e | e
  · rw [e]
    exact lw_self _ h
  · exact lw_self _ e
/-- any list of words by their places (lw_in), good -/
theorem lw_good {ws : List Cond} (h : ∀ w ∈ ws, w ∈ lw_all) : GoodIn lw_all ws := fun w hw => lw_self w (h w hw)
/-- what a call of a method with handlers asks: vx_cwVW n hts (lw_VW ..), vx_cwSW n hts (lw_SW ..) -/
theorem lw_VW {own : String} {idx : Nat} {C : String} {y : MethodName} {b : ByteArray} {L : Nat} {r : Option FieldType} {hh : List (Nat × Nat × Nat × Nat)} (h1 : Cond.methodLink own idx y ∈ lw_all) (h2 : Cond.instanceMethod y ∈ lw_all) (h3 : Cond.selects C y y ∈ lw_all) (h4 : Cond.initialized C ∈ lw_all) (h5 : Cond.codeWith y b L r hh ∈ lw_all) : GoodIn lw_all (wsV own idx C y (wsW_ y b L r hh)) := by
  refine lw_app ?_ (lw_methW h5)
  intro w hw
  simp only [List.mem_cons, List.not_mem_nil, or_false] at hw
  rcases hw with e | e | e | e
  · rw [e]; exact h1
  · rw [e]; exact h2
  · rw [e]; exact h3
  · rw [e]; exact h4
theorem lw_SW {own : String} {idx : Nat} {y : MethodName} {b : ByteArray} {L : Nat} {r : Option FieldType} {hh : List (Nat × Nat × Nat × Nat)} (h1 : Cond.methodLink own idx y ∈ lw_all) (h2 : Cond.static y ∈ lw_all) (h3 : Cond.initialized y.cls ∈ lw_all) (h4 : Cond.codeWith y b L r hh ∈ lw_all) : GoodIn lw_all (va_wsS own idx y (wsW_ y b L r hh)) := by
  refine lw_app ?_ (lw_methW h4)
  intro w hw
  simp only [List.mem_cons, List.not_mem_nil, or_false] at hw
  rcases hw with e | e | e
  · rw [e]; exact h1
  · rw [e]; exact h2
  · rw [e]; exact h3
/-- a word by its place in its run of the tables -/
theorem lw_at {r : List Cond} (hr : ∀ w ∈ r, w ∈ lw_tbl) {w : Cond} (i : Nat) (h : r[i]? = some w) : w ∈ lw_tbl := hr w (List.mem_of_getElem? h)
theorem lw_g {w : Cond} (h : w ∈ lw_tbl) (g : goodWord w = true) : w ∈ lw_all := List.mem_filter.mpr ⟨h, g⟩
theorem lw_ms : ∀ w ∈ k2_sels lw_privs, w ∈ lw_tbl := fun w h => show w ∈ k2_sels lw_privs ++ tables_1 from List.mem_append_left _ h
theorem lw_m1 : ∀ w ∈ tables_1_1, w ∈ lw_tbl := fun w h => show w ∈ k2_sels lw_privs ++ tables_1 from List.mem_append_right (k2_sels lw_privs) (show w ∈ tables_1 from List.mem_append_left _ h)
theorem lw_m2 : ∀ w ∈ tables_1_2, w ∈ lw_tbl := fun w h => show w ∈ k2_sels lw_privs ++ tables_1 from List.mem_append_right (k2_sels lw_privs) (show w ∈ tables_1 from List.mem_append_right _ h)
theorem qs0 : (Cond.selects "StyledText" ⟨"StyledText", "badLetter", "(I)Z"⟩ ⟨"StyledText", "badLetter", "(I)Z"⟩) ∈ lw_all := lw_g (lw_at lw_ms 0 rfl) rfl
theorem qs1 : (Cond.selects "StyledText" ⟨"StyledText", "styleHere", "(I)I"⟩ ⟨"StyledText", "styleHere", "(I)I"⟩) ∈ lw_all := lw_g (lw_at lw_ms 1 rfl) rfl
theorem qs2 : (Cond.selects "StyledText" ⟨"StyledText", "runAt", "(I)I"⟩ ⟨"StyledText", "runAt", "(I)I"⟩) ∈ lw_all := lw_g (lw_at lw_ms 2 rfl) rfl
theorem qs3 : (Cond.selects "StyledText" ⟨"StyledText", "insert", "(IIII)V"⟩ ⟨"StyledText", "insert", "(IIII)V"⟩) ∈ lw_all := lw_g (lw_at lw_ms 3 rfl) rfl
theorem qs4 : (Cond.selects "StyledText" ⟨"StyledText", "putLetter", "(II)V"⟩ ⟨"StyledText", "putLetter", "(II)V"⟩) ∈ lw_all := lw_g (lw_at lw_ms 4 rfl) rfl
theorem qs5 : (Cond.selects "StyledText" ⟨"StyledText", "moveGap", "(I)V"⟩ ⟨"StyledText", "moveGap", "(I)V"⟩) ∈ lw_all := lw_g (lw_at lw_ms 5 rfl) rfl
theorem qs6 : (Cond.selects "StyledText" ⟨"StyledText", "putStyles", "(III)V"⟩ ⟨"StyledText", "putStyles", "(III)V"⟩) ∈ lw_all := lw_g (lw_at lw_ms 6 rfl) rfl
theorem qs7 : (Cond.selects "StyledText" ⟨"StyledText", "cutAt", "(I)I"⟩ ⟨"StyledText", "cutAt", "(I)I"⟩) ∈ lw_all := lw_g (lw_at lw_ms 7 rfl) rfl
theorem qs8 : (Cond.selects "StyledText" ⟨"StyledText", "openRun", "(I)V"⟩ ⟨"StyledText", "openRun", "(I)V"⟩) ∈ lw_all := lw_g (lw_at lw_ms 8 rfl) rfl
theorem qs9 : (Cond.selects "StyledText" ⟨"StyledText", "joinRuns", "()V"⟩ ⟨"StyledText", "joinRuns", "()V"⟩) ∈ lw_all := lw_g (lw_at lw_ms 9 rfl) rfl
theorem qs10 : (Cond.selects "StyledText" ⟨"StyledText", "closeRun", "(I)V"⟩ ⟨"StyledText", "closeRun", "(I)V"⟩) ∈ lw_all := lw_g (lw_at lw_ms 10 rfl) rfl
theorem qs11 : (Cond.selects "StyledText" ⟨"StyledText", "moveFlag", "(II)V"⟩ ⟨"StyledText", "moveFlag", "(II)V"⟩) ∈ lw_all := lw_g (lw_at lw_ms 11 rfl) rfl
theorem qs12 : (Cond.selects "StyledText" ⟨"StyledText", "bad", "(II)Z"⟩ ⟨"StyledText", "bad", "(II)Z"⟩) ∈ lw_all := lw_g (lw_at lw_ms 12 rfl) rfl
theorem qs13 : (Cond.selects "StyledText" ⟨"StyledText", "delete", "(II)V"⟩ ⟨"StyledText", "delete", "(II)V"⟩) ∈ lw_all := lw_g (lw_at lw_ms 13 rfl) rfl
theorem qs14 : (Cond.selects "StyledText" ⟨"StyledText", "dropLetters", "(II)V"⟩ ⟨"StyledText", "dropLetters", "(II)V"⟩) ∈ lw_all := lw_g (lw_at lw_ms 14 rfl) rfl
theorem qs15 : (Cond.selects "StyledText" ⟨"StyledText", "dropStyles", "(II)V"⟩ ⟨"StyledText", "dropStyles", "(II)V"⟩) ∈ lw_all := lw_g (lw_at lw_ms 15 rfl) rfl
theorem qs16 : (Cond.selects "StyledText" ⟨"StyledText", "hold", "(II)V"⟩ ⟨"StyledText", "hold", "(II)V"⟩) ∈ lw_all := lw_g (lw_at lw_ms 16 rfl) rfl
theorem qs17 : (Cond.selects "StyledText" ⟨"StyledText", "cellOf", "(I)I"⟩ ⟨"StyledText", "cellOf", "(I)I"⟩) ∈ lw_all := lw_g (lw_at lw_ms 17 rfl) rfl
theorem qs18 : (Cond.selects "StyledText" ⟨"StyledText", "giveBack", "(I)V"⟩ ⟨"StyledText", "giveBack", "(I)V"⟩) ∈ lw_all := lw_g (lw_at lw_ms 18 rfl) rfl
theorem qs19 : (Cond.selects "StyledText" ⟨"StyledText", "mixed", "(III)I"⟩ ⟨"StyledText", "mixed", "(III)I"⟩) ∈ lw_all := lw_g (lw_at lw_ms 19 rfl) rfl
theorem qs20 : (Cond.selects "StyledText" ⟨"StyledText", "off", "(I)Z"⟩ ⟨"StyledText", "off", "(I)Z"⟩) ∈ lw_all := lw_g (lw_at lw_ms 20 rfl) rfl
theorem qs21 : (Cond.selects "StyledTextModel" ⟨"StyledTextModel", "isLetter", "(I)Z"⟩ ⟨"StyledTextModel", "isLetter", "(I)Z"⟩) ∈ lw_all := lw_g (lw_at lw_ms 21 rfl) rfl
theorem qs22 : (Cond.selects "StyledTextModel" ⟨"StyledTextModel", "open", "(II)V"⟩ ⟨"StyledTextModel", "open", "(II)V"⟩) ∈ lw_all := lw_g (lw_at lw_ms 22 rfl) rfl
theorem qs23 : (Cond.selects "StyledTextModel" ⟨"StyledTextModel", "isStretch", "(II)Z"⟩ ⟨"StyledTextModel", "isStretch", "(II)Z"⟩) ∈ lw_all := lw_g (lw_at lw_ms 23 rfl) rfl
theorem qs24 : (Cond.selects "StyledTextModel" ⟨"StyledTextModel", "keep", "(II)V"⟩ ⟨"StyledTextModel", "keep", "(II)V"⟩) ∈ lw_all := lw_g (lw_at lw_ms 24 rfl) rfl
theorem qs25 : (Cond.selects "StyledTextModel" ⟨"StyledTextModel", "putKept", "(II)V"⟩ ⟨"StyledTextModel", "putKept", "(II)V"⟩) ∈ lw_all := lw_g (lw_at lw_ms 25 rfl) rfl
theorem qs26 : (Cond.selects "StyledTextModel" ⟨"StyledTextModel", "setParts", "(IIII)I"⟩ ⟨"StyledTextModel", "setParts", "(IIII)I"⟩) ∈ lw_all := lw_g (lw_at lw_ms 26 rfl) rfl
theorem qs27 : (Cond.selects "StyledTextModel" ⟨"StyledTextModel", "isBegin", "(I)Z"⟩ ⟨"StyledTextModel", "isBegin", "(I)Z"⟩) ∈ lw_all := lw_g (lw_at lw_ms 27 rfl) rfl
end
section
set_option maxRecDepth 100000
def RJ0 : String := "java/lang/Object"
abbrev cJ0_init : ByteArray := object_method_1_code
def yJ0_init : MethodName := ⟨RJ0, "<init>", "()V"⟩
theorem q37 : (Jvm.Cond.instanceMethod ({ cls := "java/lang/Object", name := "<init>", desc := "()V" } : Jvm.MethodName)) ∈ lw_all := lw_g (lw_at lw_m1 9 rfl) rfl
theorem q38 : (Jvm.Cond.code ({ cls := "java/lang/Object", name := "<init>", desc := "()V" } : Jvm.MethodName) object_method_1_code (1 : Nat) (Option.none : Option Jvm.ClassFile.FieldType)) ∈ lw_all := lw_g (lw_at lw_m1 10 rfl) rfl
def RX0 : String := "StyledText"
def TX0 : u_T := fun k => match k with
  | 0 => ("StyledText", "n", "I", false)
  | 1 => ("StyledText", "gap", "I", false)
  | 2 => ("StyledText", "cell", "[I", true)
  | 3 => ("StyledText", "count", "I", false)
  | 4 => ("StyledText", "size", "[I", true)
  | 5 => ("StyledText", "look", "[I", true)
  | 6 => ("StyledText", "flagAt", "I", false)
  | 7 => ("StyledText", "held", "I", false)
  | 8 => ("StyledText", "heldLetter", "[I", true)
  | 9 => ("StyledText", "heldStyle", "[I", true)
  | _ => ("StyledText", "begun", "I", false)
def tyX0 : Nat → FieldType := fun k => match k with
  | 0 => .int
  | 1 => .int
  | 2 => .array .int
  | 3 => .int
  | 4 => .array .int
  | 5 => .array .int
  | 6 => .int
  | 7 => .int
  | 8 => .array .int
  | 9 => .array .int
  | _ => .int
abbrev wsX00 : List Cond := u_ws RX0 TX0 11
theorem nmX0 : ∀ a, a < 11 → ∀ b, b < 11 → a ≠ b → (TX0 a).2.1 ≠ (TX0 b).2.1 := by decide +kernel
theorem tyX0_ok : ∀ k, k < 11 → parseFieldDescriptor (TX0 k).2.2.1 = some (tyX0 k) := by decide +kernel
abbrev cX0_init : ByteArray := prog_1_method_1_code
def yX0_init : MethodName := ⟨RX0, "<init>", "()V"⟩
abbrev cX0_type : ByteArray := prog_1_method_21_code
def yX0_type : MethodName := ⟨RX0, "type", "(II)I"⟩
abbrev cX0_badLetter : ByteArray := prog_1_method_19_code
def yX0_badLetter : MethodName := ⟨RX0, "badLetter", "(I)Z"⟩
abbrev cX0_styleHere : ByteArray := prog_1_method_20_code
def yX0_styleHere : MethodName := ⟨RX0, "styleHere", "(I)I"⟩
abbrev cX0_runAt : ByteArray := prog_1_method_6_code
def yX0_runAt : MethodName := ⟨RX0, "runAt", "(I)I"⟩
abbrev cX0_insert : ByteArray := prog_1_method_14_code
def yX0_insert : MethodName := ⟨RX0, "insert", "(IIII)V"⟩
abbrev cX0_putLetter : ByteArray := prog_1_method_4_code
def yX0_putLetter : MethodName := ⟨RX0, "putLetter", "(II)V"⟩
abbrev cX0_moveGap : ByteArray := prog_1_method_2_code
def yX0_moveGap : MethodName := ⟨RX0, "moveGap", "(I)V"⟩
abbrev cX0_putStyles : ByteArray := prog_1_method_11_code
def yX0_putStyles : MethodName := ⟨RX0, "putStyles", "(III)V"⟩
abbrev cX0_cutAt : ByteArray := prog_1_method_9_code
def yX0_cutAt : MethodName := ⟨RX0, "cutAt", "(I)I"⟩
abbrev cX0_openRun : ByteArray := prog_1_method_7_code
def yX0_openRun : MethodName := ⟨RX0, "openRun", "(I)V"⟩
abbrev cX0_joinRuns : ByteArray := prog_1_method_10_code
def yX0_joinRuns : MethodName := ⟨RX0, "joinRuns", "()V"⟩
abbrev cX0_closeRun : ByteArray := prog_1_method_8_code
def yX0_closeRun : MethodName := ⟨RX0, "closeRun", "(I)V"⟩
abbrev cX0_moveFlag : ByteArray := prog_1_method_13_code
def yX0_moveFlag : MethodName := ⟨RX0, "moveFlag", "(II)V"⟩
abbrev cX0_put : ByteArray := prog_1_method_22_code
def yX0_put : MethodName := ⟨RX0, "put", "(IIII)I"⟩
abbrev cX0_remove : ByteArray := prog_1_method_23_code
def yX0_remove : MethodName := ⟨RX0, "remove", "(II)I"⟩
abbrev cX0_bad : ByteArray := prog_1_method_18_code
def yX0_bad : MethodName := ⟨RX0, "bad", "(II)Z"⟩
abbrev cX0_delete : ByteArray := prog_1_method_15_code
def yX0_delete : MethodName := ⟨RX0, "delete", "(II)V"⟩
abbrev cX0_dropLetters : ByteArray := prog_1_method_5_code
def yX0_dropLetters : MethodName := ⟨RX0, "dropLetters", "(II)V"⟩
abbrev cX0_dropStyles : ByteArray := prog_1_method_12_code
def yX0_dropStyles : MethodName := ⟨RX0, "dropStyles", "(II)V"⟩
abbrev cX0_move : ByteArray := prog_1_method_24_code
def yX0_move : MethodName := ⟨RX0, "move", "(III)I"⟩
abbrev cX0_hold : ByteArray := prog_1_method_16_code
def yX0_hold : MethodName := ⟨RX0, "hold", "(II)V"⟩
abbrev cX0_cellOf : ByteArray := prog_1_method_3_code
def yX0_cellOf : MethodName := ⟨RX0, "cellOf", "(I)I"⟩
abbrev cX0_giveBack : ByteArray := prog_1_method_17_code
def yX0_giveBack : MethodName := ⟨RX0, "giveBack", "(I)V"⟩
abbrev cX0_copy : ByteArray := prog_1_method_25_code
def yX0_copy : MethodName := ⟨RX0, "copy", "(III)I"⟩
abbrev cX0_style : ByteArray := prog_1_method_27_code
def yX0_style : MethodName := ⟨RX0, "style", "(IIII)I"⟩
abbrev cX0_mixed : ByteArray := prog_1_method_26_code
def yX0_mixed : MethodName := ⟨RX0, "mixed", "(III)I"⟩
abbrev cX0_toggle : ByteArray := prog_1_method_28_code
def yX0_toggle : MethodName := ⟨RX0, "toggle", "(III)I"⟩
abbrev cX0_replace : ByteArray := prog_1_method_29_code
def yX0_replace : MethodName := ⟨RX0, "replace", "(II)I"⟩
abbrev cX0_length : ByteArray := prog_1_method_30_code
def yX0_length : MethodName := ⟨RX0, "length", "()I"⟩
abbrev cX0_letter : ByteArray := prog_1_method_32_code
def yX0_letter : MethodName := ⟨RX0, "letter", "(I)I"⟩
abbrev cX0_off : ByteArray := prog_1_method_31_code
def yX0_off : MethodName := ⟨RX0, "off", "(I)Z"⟩
abbrev cX0_styleAt : ByteArray := prog_1_method_33_code
def yX0_styleAt : MethodName := ⟨RX0, "styleAt", "(I)I"⟩
abbrev cX0_runs : ByteArray := prog_1_method_34_code
def yX0_runs : MethodName := ⟨RX0, "runs", "()I"⟩
abbrev cX0_runBegin : ByteArray := prog_1_method_35_code
def yX0_runBegin : MethodName := ⟨RX0, "runBegin", "(I)I"⟩
abbrev cX0_runStyle : ByteArray := prog_1_method_36_code
def yX0_runStyle : MethodName := ⟨RX0, "runStyle", "(I)I"⟩
abbrev cX0_runOf : ByteArray := prog_1_method_37_code
def yX0_runOf : MethodName := ⟨RX0, "runOf", "(I)I"⟩
abbrev cX0_having : ByteArray := prog_1_method_38_code
def yX0_having : MethodName := ⟨RX0, "having", "(I)I"⟩
abbrev cX0_setFlag : ByteArray := prog_1_method_39_code
def yX0_setFlag : MethodName := ⟨RX0, "setFlag", "(I)I"⟩
abbrev cX0_flag : ByteArray := prog_1_method_40_code
def yX0_flag : MethodName := ⟨RX0, "flag", "()I"⟩
abbrev cX0_digest : ByteArray := prog_1_method_41_code
def yX0_digest : MethodName := ⟨RX0, "digest", "()I"⟩
theorem q29 : (Jvm.Cond.initialized "StyledText") ∈ lw_all := lw_g (lw_at lw_m1 1 rfl) rfl
theorem q32 : (Jvm.Cond.instantiable "StyledText" (11 : Nat)) ∈ lw_all := lw_g (lw_at lw_m1 4 rfl) rfl
theorem q34 : (Jvm.Cond.instanceMethod ({ cls := "StyledText", name := "<init>", desc := "()V" } : Jvm.MethodName)) ∈ lw_all := lw_g (lw_at lw_m1 6 rfl) rfl
theorem q35 : (Jvm.Cond.code ({ cls := "StyledText", name := "<init>", desc := "()V" } : Jvm.MethodName) prog_1_method_1_code (1 : Nat) (Option.none : Option Jvm.ClassFile.FieldType)) ∈ lw_all := lw_g (lw_at lw_m1 7 rfl) rfl
theorem q36 : (Jvm.Cond.methodLink "StyledText" (1 : Nat) ({ cls := "java/lang/Object", name := "<init>", desc := "()V" } : Jvm.MethodName)) ∈ lw_all := lw_g (lw_at lw_m1 8 rfl) rfl
theorem q39 : (Jvm.Cond.fieldLink "StyledText" (25 : Nat) "StyledText" "n" "I") ∈ lw_all := lw_g (lw_at lw_m1 11 rfl) rfl
theorem q40 : (Jvm.Cond.fieldLink "StyledText" (29 : Nat) "StyledText" "gap" "I") ∈ lw_all := lw_g (lw_at lw_m1 12 rfl) rfl
theorem q41 : (Jvm.Cond.fieldLink "StyledText" (7 : Nat) "StyledText" "cell" "[I") ∈ lw_all := lw_g (lw_at lw_m1 13 rfl) rfl
theorem q42 : (Jvm.Cond.fieldLink "StyledText" (39 : Nat) "StyledText" "count" "I") ∈ lw_all := lw_g (lw_at lw_m1 14 rfl) rfl
theorem q43 : (Jvm.Cond.fieldLink "StyledText" (13 : Nat) "StyledText" "size" "[I") ∈ lw_all := lw_g (lw_at lw_m1 15 rfl) rfl
theorem q44 : (Jvm.Cond.fieldLink "StyledText" (16 : Nat) "StyledText" "look" "[I") ∈ lw_all := lw_g (lw_at lw_m1 16 rfl) rfl
theorem q45 : (Jvm.Cond.fieldLink "StyledText" (58 : Nat) "StyledText" "flagAt" "I") ∈ lw_all := lw_g (lw_at lw_m1 17 rfl) rfl
theorem q46 : (Jvm.Cond.fieldLink "StyledText" (78 : Nat) "StyledText" "held" "I") ∈ lw_all := lw_g (lw_at lw_m1 18 rfl) rfl
theorem q47 : (Jvm.Cond.fieldLink "StyledText" (19 : Nat) "StyledText" "heldLetter" "[I") ∈ lw_all := lw_g (lw_at lw_m1 19 rfl) rfl
theorem q48 : (Jvm.Cond.fieldLink "StyledText" (22 : Nat) "StyledText" "heldStyle" "[I") ∈ lw_all := lw_g (lw_at lw_m1 20 rfl) rfl
theorem q49 : (Jvm.Cond.fieldLink "StyledText" (36 : Nat) "StyledText" "begun" "I") ∈ lw_all := lw_g (lw_at lw_m1 21 rfl) rfl
theorem q50 : (Jvm.Cond.lays "StyledText" "StyledText" "n" "I") ∈ lw_all := lw_g (lw_at lw_m1 22 rfl) rfl
theorem q51 : (Jvm.Cond.soleField "StyledText" "n") ∈ lw_all := lw_g (lw_at lw_m1 23 rfl) rfl
theorem q52 : (Jvm.Cond.lays "StyledText" "StyledText" "gap" "I") ∈ lw_all := lw_g (lw_at lw_m1 24 rfl) rfl
theorem q53 : (Jvm.Cond.soleField "StyledText" "gap") ∈ lw_all := lw_g (lw_at lw_m1 25 rfl) rfl
theorem q54 : (Jvm.Cond.laysFinal "StyledText" "StyledText" "cell" "[I") ∈ lw_all := lw_g (lw_at lw_m1 26 rfl) rfl
theorem q55 : (Jvm.Cond.soleField "StyledText" "cell") ∈ lw_all := lw_g (lw_at lw_m1 27 rfl) rfl
theorem q56 : (Jvm.Cond.lays "StyledText" "StyledText" "count" "I") ∈ lw_all := lw_g (lw_at lw_m1 28 rfl) rfl
theorem q57 : (Jvm.Cond.soleField "StyledText" "count") ∈ lw_all := lw_g (lw_at lw_m1 29 rfl) rfl
theorem q58 : (Jvm.Cond.laysFinal "StyledText" "StyledText" "size" "[I") ∈ lw_all := lw_g (lw_at lw_m1 30 rfl) rfl
theorem q59 : (Jvm.Cond.soleField "StyledText" "size") ∈ lw_all := lw_g (lw_at lw_m1 31 rfl) rfl
theorem q60 : (Jvm.Cond.laysFinal "StyledText" "StyledText" "look" "[I") ∈ lw_all := lw_g (lw_at lw_m1 32 rfl) rfl
theorem q61 : (Jvm.Cond.soleField "StyledText" "look") ∈ lw_all := lw_g (lw_at lw_m1 33 rfl) rfl
theorem q62 : (Jvm.Cond.lays "StyledText" "StyledText" "flagAt" "I") ∈ lw_all := lw_g (lw_at lw_m1 34 rfl) rfl
theorem q63 : (Jvm.Cond.soleField "StyledText" "flagAt") ∈ lw_all := lw_g (lw_at lw_m1 35 rfl) rfl
theorem q64 : (Jvm.Cond.lays "StyledText" "StyledText" "held" "I") ∈ lw_all := lw_g (lw_at lw_m1 36 rfl) rfl
theorem q65 : (Jvm.Cond.soleField "StyledText" "held") ∈ lw_all := lw_g (lw_at lw_m1 37 rfl) rfl
theorem q66 : (Jvm.Cond.laysFinal "StyledText" "StyledText" "heldLetter" "[I") ∈ lw_all := lw_g (lw_at lw_m1 38 rfl) rfl
theorem q67 : (Jvm.Cond.soleField "StyledText" "heldLetter") ∈ lw_all := lw_g (lw_at lw_m1 39 rfl) rfl
theorem q68 : (Jvm.Cond.laysFinal "StyledText" "StyledText" "heldStyle" "[I") ∈ lw_all := lw_g (lw_at lw_m1 40 rfl) rfl
theorem q69 : (Jvm.Cond.soleField "StyledText" "heldStyle") ∈ lw_all := lw_g (lw_at lw_m1 41 rfl) rfl
theorem q70 : (Jvm.Cond.lays "StyledText" "StyledText" "begun" "I") ∈ lw_all := lw_g (lw_at lw_m1 42 rfl) rfl
theorem q71 : (Jvm.Cond.soleField "StyledText" "begun") ∈ lw_all := lw_g (lw_at lw_m1 43 rfl) rfl
theorem q72 : (Jvm.Cond.superclass "StyledText" "java/lang/Object") ∈ lw_all := lw_g (lw_at lw_m1 44 rfl) rfl
theorem q75 : (Jvm.Cond.instanceMethod ({ cls := "StyledText", name := "type", desc := "(II)I" } : Jvm.MethodName)) ∈ lw_all := lw_g (lw_at lw_m1 47 rfl) rfl
theorem q76 : (Jvm.Cond.selects "StyledText" ({ cls := "StyledText", name := "type", desc := "(II)I" } : Jvm.MethodName) ({ cls := "StyledText", name := "type", desc := "(II)I" } : Jvm.MethodName)) ∈ lw_all := lw_g (lw_at lw_m1 48 rfl) rfl
theorem q77 : (Jvm.Cond.code ({ cls := "StyledText", name := "type", desc := "(II)I" } : Jvm.MethodName) prog_1_method_21_code (4 : Nat) (Option.some Jvm.ClassFile.FieldType.int)) ∈ lw_all := lw_g (lw_at lw_m1 49 rfl) rfl
theorem q78 : (Jvm.Cond.methodLink "StyledText" (84 : Nat) ({ cls := "StyledText", name := "badLetter", desc := "(I)Z" } : Jvm.MethodName)) ∈ lw_all := lw_g (lw_at lw_m1 50 rfl) rfl
theorem q79 : (Jvm.Cond.privateMethod ({ cls := "StyledText", name := "badLetter", desc := "(I)Z" } : Jvm.MethodName)) ∈ lw_tbl := lw_at lw_m1 51 rfl
theorem q80 : (Jvm.Cond.instanceMethod ({ cls := "StyledText", name := "badLetter", desc := "(I)Z" } : Jvm.MethodName)) ∈ lw_all := lw_g (lw_at lw_m1 52 rfl) rfl
theorem q81 : (Jvm.Cond.code ({ cls := "StyledText", name := "badLetter", desc := "(I)Z" } : Jvm.MethodName) prog_1_method_19_code (2 : Nat) (Option.some Jvm.ClassFile.FieldType.boolean)) ∈ lw_all := lw_g (lw_at lw_m1 53 rfl) rfl
theorem q82 : (Jvm.Cond.methodLink "StyledText" (88 : Nat) ({ cls := "StyledText", name := "styleHere", desc := "(I)I" } : Jvm.MethodName)) ∈ lw_all := lw_g (lw_at lw_m1 54 rfl) rfl
theorem q83 : (Jvm.Cond.privateMethod ({ cls := "StyledText", name := "styleHere", desc := "(I)I" } : Jvm.MethodName)) ∈ lw_tbl := lw_at lw_m1 55 rfl
theorem q84 : (Jvm.Cond.instanceMethod ({ cls := "StyledText", name := "styleHere", desc := "(I)I" } : Jvm.MethodName)) ∈ lw_all := lw_g (lw_at lw_m1 56 rfl) rfl
theorem q85 : (Jvm.Cond.code ({ cls := "StyledText", name := "styleHere", desc := "(I)I" } : Jvm.MethodName) prog_1_method_20_code (3 : Nat) (Option.some Jvm.ClassFile.FieldType.int)) ∈ lw_all := lw_g (lw_at lw_m1 57 rfl) rfl
theorem q86 : (Jvm.Cond.methodLink "StyledText" (42 : Nat) ({ cls := "StyledText", name := "runAt", desc := "(I)I" } : Jvm.MethodName)) ∈ lw_all := lw_g (lw_at lw_m1 58 rfl) rfl
theorem q87 : (Jvm.Cond.privateMethod ({ cls := "StyledText", name := "runAt", desc := "(I)I" } : Jvm.MethodName)) ∈ lw_tbl := lw_at lw_m1 59 rfl
theorem q88 : (Jvm.Cond.instanceMethod ({ cls := "StyledText", name := "runAt", desc := "(I)I" } : Jvm.MethodName)) ∈ lw_all := lw_g (lw_at lw_m1 60 rfl) rfl
theorem q89 : (Jvm.Cond.code ({ cls := "StyledText", name := "runAt", desc := "(I)I" } : Jvm.MethodName) prog_1_method_6_code (4 : Nat) (Option.some Jvm.ClassFile.FieldType.int)) ∈ lw_all := lw_g (lw_at lw_m1 61 rfl) rfl
theorem q90 : (Jvm.Cond.methodLink "StyledText" (91 : Nat) ({ cls := "StyledText", name := "insert", desc := "(IIII)V" } : Jvm.MethodName)) ∈ lw_all := lw_g (lw_at lw_m1 62 rfl) rfl
theorem q91 : (Jvm.Cond.privateMethod ({ cls := "StyledText", name := "insert", desc := "(IIII)V" } : Jvm.MethodName)) ∈ lw_tbl := lw_at lw_m1 63 rfl
theorem q92 : (Jvm.Cond.instanceMethod ({ cls := "StyledText", name := "insert", desc := "(IIII)V" } : Jvm.MethodName)) ∈ lw_all := lw_g (lw_at lw_m1 64 rfl) rfl
theorem q93 : (Jvm.Cond.code ({ cls := "StyledText", name := "insert", desc := "(IIII)V" } : Jvm.MethodName) prog_1_method_14_code (6 : Nat) (Option.none : Option Jvm.ClassFile.FieldType)) ∈ lw_all := lw_g (lw_at lw_m1 65 rfl) rfl
theorem q94 : (Jvm.Cond.methodLink "StyledText" (61 : Nat) ({ cls := "StyledText", name := "putLetter", desc := "(II)V" } : Jvm.MethodName)) ∈ lw_all := lw_g (lw_at lw_m1 66 rfl) rfl
theorem q95 : (Jvm.Cond.privateMethod ({ cls := "StyledText", name := "putLetter", desc := "(II)V" } : Jvm.MethodName)) ∈ lw_tbl := lw_at lw_m1 67 rfl
theorem q96 : (Jvm.Cond.instanceMethod ({ cls := "StyledText", name := "putLetter", desc := "(II)V" } : Jvm.MethodName)) ∈ lw_all := lw_g (lw_at lw_m1 68 rfl) rfl
theorem q97 : (Jvm.Cond.code ({ cls := "StyledText", name := "putLetter", desc := "(II)V" } : Jvm.MethodName) prog_1_method_4_code (3 : Nat) (Option.none : Option Jvm.ClassFile.FieldType)) ∈ lw_all := lw_g (lw_at lw_m1 69 rfl) rfl
theorem q98 : (Jvm.Cond.methodLink "StyledText" (32 : Nat) ({ cls := "StyledText", name := "moveGap", desc := "(I)V" } : Jvm.MethodName)) ∈ lw_all := lw_g (lw_at lw_m1 70 rfl) rfl
theorem q99 : (Jvm.Cond.privateMethod ({ cls := "StyledText", name := "moveGap", desc := "(I)V" } : Jvm.MethodName)) ∈ lw_tbl := lw_at lw_m1 71 rfl
theorem q100 : (Jvm.Cond.instanceMethod ({ cls := "StyledText", name := "moveGap", desc := "(I)V" } : Jvm.MethodName)) ∈ lw_all := lw_g (lw_at lw_m1 72 rfl) rfl
theorem q101 : (Jvm.Cond.code ({ cls := "StyledText", name := "moveGap", desc := "(I)V" } : Jvm.MethodName) prog_1_method_2_code (4 : Nat) (Option.none : Option Jvm.ClassFile.FieldType)) ∈ lw_all := lw_g (lw_at lw_m1 73 rfl) rfl
theorem q102 : (Jvm.Cond.methodLink "StyledText" (65 : Nat) ({ cls := "StyledText", name := "putStyles", desc := "(III)V" } : Jvm.MethodName)) ∈ lw_all := lw_g (lw_at lw_m1 74 rfl) rfl
theorem q103 : (Jvm.Cond.privateMethod ({ cls := "StyledText", name := "putStyles", desc := "(III)V" } : Jvm.MethodName)) ∈ lw_tbl := lw_at lw_m1 75 rfl
theorem q104 : (Jvm.Cond.instanceMethod ({ cls := "StyledText", name := "putStyles", desc := "(III)V" } : Jvm.MethodName)) ∈ lw_all := lw_g (lw_at lw_m1 76 rfl) rfl
theorem q105 : (Jvm.Cond.code ({ cls := "StyledText", name := "putStyles", desc := "(III)V" } : Jvm.MethodName) prog_1_method_11_code (5 : Nat) (Option.none : Option Jvm.ClassFile.FieldType)) ∈ lw_all := lw_g (lw_at lw_m1 77 rfl) rfl
theorem q106 : (Jvm.Cond.methodLink "StyledText" (52 : Nat) ({ cls := "StyledText", name := "cutAt", desc := "(I)I" } : Jvm.MethodName)) ∈ lw_all := lw_g (lw_at lw_m1 78 rfl) rfl
theorem q107 : (Jvm.Cond.privateMethod ({ cls := "StyledText", name := "cutAt", desc := "(I)I" } : Jvm.MethodName)) ∈ lw_tbl := lw_at lw_m1 79 rfl
theorem q108 : (Jvm.Cond.instanceMethod ({ cls := "StyledText", name := "cutAt", desc := "(I)I" } : Jvm.MethodName)) ∈ lw_all := lw_g (lw_at lw_m1 80 rfl) rfl
theorem q109 : (Jvm.Cond.code ({ cls := "StyledText", name := "cutAt", desc := "(I)I" } : Jvm.MethodName) prog_1_method_9_code (3 : Nat) (Option.some Jvm.ClassFile.FieldType.int)) ∈ lw_all := lw_g (lw_at lw_m1 81 rfl) rfl
theorem q110 : (Jvm.Cond.methodLink "StyledText" (46 : Nat) ({ cls := "StyledText", name := "openRun", desc := "(I)V" } : Jvm.MethodName)) ∈ lw_all := lw_g (lw_at lw_m1 82 rfl) rfl
theorem q111 : (Jvm.Cond.privateMethod ({ cls := "StyledText", name := "openRun", desc := "(I)V" } : Jvm.MethodName)) ∈ lw_tbl := lw_at lw_m1 83 rfl
theorem q112 : (Jvm.Cond.instanceMethod ({ cls := "StyledText", name := "openRun", desc := "(I)V" } : Jvm.MethodName)) ∈ lw_all := lw_g (lw_at lw_m1 84 rfl) rfl
theorem q113 : (Jvm.Cond.code ({ cls := "StyledText", name := "openRun", desc := "(I)V" } : Jvm.MethodName) prog_1_method_7_code (3 : Nat) (Option.none : Option Jvm.ClassFile.FieldType)) ∈ lw_all := lw_g (lw_at lw_m1 85 rfl) rfl
theorem q114 : (Jvm.Cond.methodLink "StyledText" (55 : Nat) ({ cls := "StyledText", name := "joinRuns", desc := "()V" } : Jvm.MethodName)) ∈ lw_all := lw_g (lw_at lw_m1 86 rfl) rfl
theorem q115 : (Jvm.Cond.privateMethod ({ cls := "StyledText", name := "joinRuns", desc := "()V" } : Jvm.MethodName)) ∈ lw_tbl := lw_at lw_m1 87 rfl
theorem q116 : (Jvm.Cond.instanceMethod ({ cls := "StyledText", name := "joinRuns", desc := "()V" } : Jvm.MethodName)) ∈ lw_all := lw_g (lw_at lw_m1 88 rfl) rfl
theorem q117 : (Jvm.Cond.code ({ cls := "StyledText", name := "joinRuns", desc := "()V" } : Jvm.MethodName) prog_1_method_10_code (2 : Nat) (Option.none : Option Jvm.ClassFile.FieldType)) ∈ lw_all := lw_g (lw_at lw_m1 89 rfl) rfl
theorem q118 : (Jvm.Cond.methodLink "StyledText" (49 : Nat) ({ cls := "StyledText", name := "closeRun", desc := "(I)V" } : Jvm.MethodName)) ∈ lw_all := lw_g (lw_at lw_m1 90 rfl) rfl
theorem q119 : (Jvm.Cond.privateMethod ({ cls := "StyledText", name := "closeRun", desc := "(I)V" } : Jvm.MethodName)) ∈ lw_tbl := lw_at lw_m1 91 rfl
theorem q120 : (Jvm.Cond.instanceMethod ({ cls := "StyledText", name := "closeRun", desc := "(I)V" } : Jvm.MethodName)) ∈ lw_all := lw_g (lw_at lw_m1 92 rfl) rfl
theorem q121 : (Jvm.Cond.code ({ cls := "StyledText", name := "closeRun", desc := "(I)V" } : Jvm.MethodName) prog_1_method_8_code (3 : Nat) (Option.none : Option Jvm.ClassFile.FieldType)) ∈ lw_all := lw_g (lw_at lw_m1 93 rfl) rfl
theorem q122 : (Jvm.Cond.methodLink "StyledText" (69 : Nat) ({ cls := "StyledText", name := "moveFlag", desc := "(II)V" } : Jvm.MethodName)) ∈ lw_all := lw_g (lw_at lw_m1 94 rfl) rfl
theorem q123 : (Jvm.Cond.privateMethod ({ cls := "StyledText", name := "moveFlag", desc := "(II)V" } : Jvm.MethodName)) ∈ lw_tbl := lw_at lw_m1 95 rfl
theorem q124 : (Jvm.Cond.instanceMethod ({ cls := "StyledText", name := "moveFlag", desc := "(II)V" } : Jvm.MethodName)) ∈ lw_all := lw_g (lw_at lw_m1 96 rfl) rfl
theorem q125 : (Jvm.Cond.code ({ cls := "StyledText", name := "moveFlag", desc := "(II)V" } : Jvm.MethodName) prog_1_method_13_code (3 : Nat) (Option.none : Option Jvm.ClassFile.FieldType)) ∈ lw_all := lw_g (lw_at lw_m1 97 rfl) rfl
theorem q127 : (Jvm.Cond.instanceMethod ({ cls := "StyledText", name := "put", desc := "(IIII)I" } : Jvm.MethodName)) ∈ lw_all := lw_g (lw_at lw_m1 99 rfl) rfl
theorem q128 : (Jvm.Cond.selects "StyledText" ({ cls := "StyledText", name := "put", desc := "(IIII)I" } : Jvm.MethodName) ({ cls := "StyledText", name := "put", desc := "(IIII)I" } : Jvm.MethodName)) ∈ lw_all := lw_g (lw_at lw_m1 100 rfl) rfl
theorem q129 : (Jvm.Cond.code ({ cls := "StyledText", name := "put", desc := "(IIII)I" } : Jvm.MethodName) prog_1_method_22_code (5 : Nat) (Option.some Jvm.ClassFile.FieldType.int)) ∈ lw_all := lw_g (lw_at lw_m1 101 rfl) rfl
theorem q131 : (Jvm.Cond.instanceMethod ({ cls := "StyledText", name := "remove", desc := "(II)I" } : Jvm.MethodName)) ∈ lw_all := lw_g (lw_at lw_m1 103 rfl) rfl
theorem q132 : (Jvm.Cond.selects "StyledText" ({ cls := "StyledText", name := "remove", desc := "(II)I" } : Jvm.MethodName) ({ cls := "StyledText", name := "remove", desc := "(II)I" } : Jvm.MethodName)) ∈ lw_all := lw_g (lw_at lw_m1 104 rfl) rfl
theorem q133 : (Jvm.Cond.code ({ cls := "StyledText", name := "remove", desc := "(II)I" } : Jvm.MethodName) prog_1_method_23_code (3 : Nat) (Option.some Jvm.ClassFile.FieldType.int)) ∈ lw_all := lw_g (lw_at lw_m1 105 rfl) rfl
theorem q134 : (Jvm.Cond.methodLink "StyledText" (95 : Nat) ({ cls := "StyledText", name := "bad", desc := "(II)Z" } : Jvm.MethodName)) ∈ lw_all := lw_g (lw_at lw_m1 106 rfl) rfl
theorem q135 : (Jvm.Cond.privateMethod ({ cls := "StyledText", name := "bad", desc := "(II)Z" } : Jvm.MethodName)) ∈ lw_tbl := lw_at lw_m1 107 rfl
theorem q136 : (Jvm.Cond.instanceMethod ({ cls := "StyledText", name := "bad", desc := "(II)Z" } : Jvm.MethodName)) ∈ lw_all := lw_g (lw_at lw_m1 108 rfl) rfl
theorem q137 : (Jvm.Cond.code ({ cls := "StyledText", name := "bad", desc := "(II)Z" } : Jvm.MethodName) prog_1_method_18_code (3 : Nat) (Option.some Jvm.ClassFile.FieldType.boolean)) ∈ lw_all := lw_g (lw_at lw_m1 109 rfl) rfl
theorem q138 : (Jvm.Cond.methodLink "StyledText" (99 : Nat) ({ cls := "StyledText", name := "delete", desc := "(II)V" } : Jvm.MethodName)) ∈ lw_all := lw_g (lw_at lw_m1 110 rfl) rfl
theorem q139 : (Jvm.Cond.privateMethod ({ cls := "StyledText", name := "delete", desc := "(II)V" } : Jvm.MethodName)) ∈ lw_tbl := lw_at lw_m1 111 rfl
theorem q140 : (Jvm.Cond.instanceMethod ({ cls := "StyledText", name := "delete", desc := "(II)V" } : Jvm.MethodName)) ∈ lw_all := lw_g (lw_at lw_m1 112 rfl) rfl
theorem q141 : (Jvm.Cond.code ({ cls := "StyledText", name := "delete", desc := "(II)V" } : Jvm.MethodName) prog_1_method_15_code (3 : Nat) (Option.none : Option Jvm.ClassFile.FieldType)) ∈ lw_all := lw_g (lw_at lw_m1 113 rfl) rfl
theorem q142 : (Jvm.Cond.methodLink "StyledText" (72 : Nat) ({ cls := "StyledText", name := "dropLetters", desc := "(II)V" } : Jvm.MethodName)) ∈ lw_all := lw_g (lw_at lw_m1 114 rfl) rfl
theorem q143 : (Jvm.Cond.privateMethod ({ cls := "StyledText", name := "dropLetters", desc := "(II)V" } : Jvm.MethodName)) ∈ lw_tbl := lw_at lw_m1 115 rfl
theorem q144 : (Jvm.Cond.instanceMethod ({ cls := "StyledText", name := "dropLetters", desc := "(II)V" } : Jvm.MethodName)) ∈ lw_all := lw_g (lw_at lw_m1 116 rfl) rfl
theorem q145 : (Jvm.Cond.code ({ cls := "StyledText", name := "dropLetters", desc := "(II)V" } : Jvm.MethodName) prog_1_method_5_code (3 : Nat) (Option.none : Option Jvm.ClassFile.FieldType)) ∈ lw_all := lw_g (lw_at lw_m1 117 rfl) rfl
theorem q146 : (Jvm.Cond.methodLink "StyledText" (75 : Nat) ({ cls := "StyledText", name := "dropStyles", desc := "(II)V" } : Jvm.MethodName)) ∈ lw_all := lw_g (lw_at lw_m1 118 rfl) rfl
theorem q147 : (Jvm.Cond.privateMethod ({ cls := "StyledText", name := "dropStyles", desc := "(II)V" } : Jvm.MethodName)) ∈ lw_tbl := lw_at lw_m1 119 rfl
theorem q148 : (Jvm.Cond.instanceMethod ({ cls := "StyledText", name := "dropStyles", desc := "(II)V" } : Jvm.MethodName)) ∈ lw_all := lw_g (lw_at lw_m1 120 rfl) rfl
theorem q149 : (Jvm.Cond.code ({ cls := "StyledText", name := "dropStyles", desc := "(II)V" } : Jvm.MethodName) prog_1_method_12_code (6 : Nat) (Option.none : Option Jvm.ClassFile.FieldType)) ∈ lw_all := lw_g (lw_at lw_m1 121 rfl) rfl
theorem q151 : (Jvm.Cond.instanceMethod ({ cls := "StyledText", name := "move", desc := "(III)I" } : Jvm.MethodName)) ∈ lw_all := lw_g (lw_at lw_m1 123 rfl) rfl
theorem q152 : (Jvm.Cond.selects "StyledText" ({ cls := "StyledText", name := "move", desc := "(III)I" } : Jvm.MethodName) ({ cls := "StyledText", name := "move", desc := "(III)I" } : Jvm.MethodName)) ∈ lw_all := lw_g (lw_at lw_m1 124 rfl) rfl
theorem q153 : (Jvm.Cond.code ({ cls := "StyledText", name := "move", desc := "(III)I" } : Jvm.MethodName) prog_1_method_24_code (4 : Nat) (Option.some Jvm.ClassFile.FieldType.int)) ∈ lw_all := lw_g (lw_at lw_m1 125 rfl) rfl
theorem q154 : (Jvm.Cond.methodLink "StyledText" (102 : Nat) ({ cls := "StyledText", name := "hold", desc := "(II)V" } : Jvm.MethodName)) ∈ lw_all := lw_g (lw_at lw_m1 126 rfl) rfl
theorem q155 : (Jvm.Cond.privateMethod ({ cls := "StyledText", name := "hold", desc := "(II)V" } : Jvm.MethodName)) ∈ lw_tbl := lw_at lw_m1 127 rfl
theorem q156 : (Jvm.Cond.instanceMethod ({ cls := "StyledText", name := "hold", desc := "(II)V" } : Jvm.MethodName)) ∈ lw_all := lw_g (lw_at lw_m1 128 rfl) rfl
theorem q157 : (Jvm.Cond.code ({ cls := "StyledText", name := "hold", desc := "(II)V" } : Jvm.MethodName) prog_1_method_16_code (6 : Nat) (Option.none : Option Jvm.ClassFile.FieldType)) ∈ lw_all := lw_g (lw_at lw_m1 129 rfl) rfl
theorem q158 : (Jvm.Cond.methodLink "StyledText" (81 : Nat) ({ cls := "StyledText", name := "cellOf", desc := "(I)I" } : Jvm.MethodName)) ∈ lw_all := lw_g (lw_at lw_m1 130 rfl) rfl
theorem q159 : (Jvm.Cond.privateMethod ({ cls := "StyledText", name := "cellOf", desc := "(I)I" } : Jvm.MethodName)) ∈ lw_tbl := lw_at lw_m1 131 rfl
theorem q160 : (Jvm.Cond.instanceMethod ({ cls := "StyledText", name := "cellOf", desc := "(I)I" } : Jvm.MethodName)) ∈ lw_all := lw_g (lw_at lw_m1 132 rfl) rfl
theorem q161 : (Jvm.Cond.code ({ cls := "StyledText", name := "cellOf", desc := "(I)I" } : Jvm.MethodName) prog_1_method_3_code (2 : Nat) (Option.some Jvm.ClassFile.FieldType.int)) ∈ lw_all := lw_g (lw_at lw_m1 133 rfl) rfl
theorem q162 : (Jvm.Cond.methodLink "StyledText" (105 : Nat) ({ cls := "StyledText", name := "giveBack", desc := "(I)V" } : Jvm.MethodName)) ∈ lw_all := lw_g (lw_at lw_m1 134 rfl) rfl
theorem q163 : (Jvm.Cond.privateMethod ({ cls := "StyledText", name := "giveBack", desc := "(I)V" } : Jvm.MethodName)) ∈ lw_tbl := lw_at lw_m1 135 rfl
theorem q164 : (Jvm.Cond.instanceMethod ({ cls := "StyledText", name := "giveBack", desc := "(I)V" } : Jvm.MethodName)) ∈ lw_all := lw_g (lw_at lw_m1 136 rfl) rfl
theorem q165 : (Jvm.Cond.code ({ cls := "StyledText", name := "giveBack", desc := "(I)V" } : Jvm.MethodName) prog_1_method_17_code (4 : Nat) (Option.none : Option Jvm.ClassFile.FieldType)) ∈ lw_all := lw_g (lw_at lw_m1 137 rfl) rfl
theorem q167 : (Jvm.Cond.instanceMethod ({ cls := "StyledText", name := "copy", desc := "(III)I" } : Jvm.MethodName)) ∈ lw_all := lw_g (lw_at lw_m1 139 rfl) rfl
theorem q168 : (Jvm.Cond.selects "StyledText" ({ cls := "StyledText", name := "copy", desc := "(III)I" } : Jvm.MethodName) ({ cls := "StyledText", name := "copy", desc := "(III)I" } : Jvm.MethodName)) ∈ lw_all := lw_g (lw_at lw_m1 140 rfl) rfl
theorem q169 : (Jvm.Cond.code ({ cls := "StyledText", name := "copy", desc := "(III)I" } : Jvm.MethodName) prog_1_method_25_code (4 : Nat) (Option.some Jvm.ClassFile.FieldType.int)) ∈ lw_all := lw_g (lw_at lw_m1 141 rfl) rfl
theorem q171 : (Jvm.Cond.instanceMethod ({ cls := "StyledText", name := "style", desc := "(IIII)I" } : Jvm.MethodName)) ∈ lw_all := lw_g (lw_at lw_m1 143 rfl) rfl
theorem q172 : (Jvm.Cond.selects "StyledText" ({ cls := "StyledText", name := "style", desc := "(IIII)I" } : Jvm.MethodName) ({ cls := "StyledText", name := "style", desc := "(IIII)I" } : Jvm.MethodName)) ∈ lw_all := lw_g (lw_at lw_m1 144 rfl) rfl
theorem q173 : (Jvm.Cond.code ({ cls := "StyledText", name := "style", desc := "(IIII)I" } : Jvm.MethodName) prog_1_method_27_code (10 : Nat) (Option.some Jvm.ClassFile.FieldType.int)) ∈ lw_all := lw_g (lw_at lw_m1 145 rfl) rfl
theorem q174 : (Jvm.Cond.methodLink "StyledText" (108 : Nat) ({ cls := "StyledText", name := "mixed", desc := "(III)I" } : Jvm.MethodName)) ∈ lw_all := lw_g (lw_at lw_m1 146 rfl) rfl
theorem q175 : (Jvm.Cond.privateMethod ({ cls := "StyledText", name := "mixed", desc := "(III)I" } : Jvm.MethodName)) ∈ lw_tbl := lw_at lw_m1 147 rfl
theorem q176 : (Jvm.Cond.instanceMethod ({ cls := "StyledText", name := "mixed", desc := "(III)I" } : Jvm.MethodName)) ∈ lw_all := lw_g (lw_at lw_m1 148 rfl) rfl
theorem q177 : (Jvm.Cond.code ({ cls := "StyledText", name := "mixed", desc := "(III)I" } : Jvm.MethodName) prog_1_method_26_code (5 : Nat) (Option.some Jvm.ClassFile.FieldType.int)) ∈ lw_all := lw_g (lw_at lw_m1 149 rfl) rfl
theorem q179 : (Jvm.Cond.instanceMethod ({ cls := "StyledText", name := "toggle", desc := "(III)I" } : Jvm.MethodName)) ∈ lw_all := lw_g (lw_at lw_m1 151 rfl) rfl
theorem q180 : (Jvm.Cond.selects "StyledText" ({ cls := "StyledText", name := "toggle", desc := "(III)I" } : Jvm.MethodName) ({ cls := "StyledText", name := "toggle", desc := "(III)I" } : Jvm.MethodName)) ∈ lw_all := lw_g (lw_at lw_m1 152 rfl) rfl
theorem q181 : (Jvm.Cond.code ({ cls := "StyledText", name := "toggle", desc := "(III)I" } : Jvm.MethodName) prog_1_method_28_code (8 : Nat) (Option.some Jvm.ClassFile.FieldType.int)) ∈ lw_all := lw_g (lw_at lw_m1 153 rfl) rfl
theorem q182 : (Jvm.Cond.methodLink "StyledText" (112 : Nat) ({ cls := "StyledText", name := "style", desc := "(IIII)I" } : Jvm.MethodName)) ∈ lw_all := lw_g (lw_at lw_m1 154 rfl) rfl
theorem q184 : (Jvm.Cond.instanceMethod ({ cls := "StyledText", name := "replace", desc := "(II)I" } : Jvm.MethodName)) ∈ lw_all := lw_g (lw_at lw_m1 156 rfl) rfl
theorem q185 : (Jvm.Cond.selects "StyledText" ({ cls := "StyledText", name := "replace", desc := "(II)I" } : Jvm.MethodName) ({ cls := "StyledText", name := "replace", desc := "(II)I" } : Jvm.MethodName)) ∈ lw_all := lw_g (lw_at lw_m1 157 rfl) rfl
theorem q186 : (Jvm.Cond.code ({ cls := "StyledText", name := "replace", desc := "(II)I" } : Jvm.MethodName) prog_1_method_29_code (6 : Nat) (Option.some Jvm.ClassFile.FieldType.int)) ∈ lw_all := lw_g (lw_at lw_m1 158 rfl) rfl
theorem q188 : (Jvm.Cond.instanceMethod ({ cls := "StyledText", name := "length", desc := "()I" } : Jvm.MethodName)) ∈ lw_all := lw_g (lw_at lw_m1 160 rfl) rfl
theorem q189 : (Jvm.Cond.selects "StyledText" ({ cls := "StyledText", name := "length", desc := "()I" } : Jvm.MethodName) ({ cls := "StyledText", name := "length", desc := "()I" } : Jvm.MethodName)) ∈ lw_all := lw_g (lw_at lw_m1 161 rfl) rfl
theorem q190 : (Jvm.Cond.code ({ cls := "StyledText", name := "length", desc := "()I" } : Jvm.MethodName) prog_1_method_30_code (1 : Nat) (Option.some Jvm.ClassFile.FieldType.int)) ∈ lw_all := lw_g (lw_at lw_m1 162 rfl) rfl
theorem q192 : (Jvm.Cond.instanceMethod ({ cls := "StyledText", name := "letter", desc := "(I)I" } : Jvm.MethodName)) ∈ lw_all := lw_g (lw_at lw_m1 164 rfl) rfl
theorem q193 : (Jvm.Cond.selects "StyledText" ({ cls := "StyledText", name := "letter", desc := "(I)I" } : Jvm.MethodName) ({ cls := "StyledText", name := "letter", desc := "(I)I" } : Jvm.MethodName)) ∈ lw_all := lw_g (lw_at lw_m1 165 rfl) rfl
theorem q194 : (Jvm.Cond.code ({ cls := "StyledText", name := "letter", desc := "(I)I" } : Jvm.MethodName) prog_1_method_32_code (2 : Nat) (Option.some Jvm.ClassFile.FieldType.int)) ∈ lw_all := lw_g (lw_at lw_m1 166 rfl) rfl
theorem q195 : (Jvm.Cond.methodLink "StyledText" (116 : Nat) ({ cls := "StyledText", name := "off", desc := "(I)Z" } : Jvm.MethodName)) ∈ lw_all := lw_g (lw_at lw_m1 167 rfl) rfl
theorem q196 : (Jvm.Cond.privateMethod ({ cls := "StyledText", name := "off", desc := "(I)Z" } : Jvm.MethodName)) ∈ lw_tbl := lw_at lw_m1 168 rfl
theorem q197 : (Jvm.Cond.instanceMethod ({ cls := "StyledText", name := "off", desc := "(I)Z" } : Jvm.MethodName)) ∈ lw_all := lw_g (lw_at lw_m1 169 rfl) rfl
theorem q198 : (Jvm.Cond.code ({ cls := "StyledText", name := "off", desc := "(I)Z" } : Jvm.MethodName) prog_1_method_31_code (2 : Nat) (Option.some Jvm.ClassFile.FieldType.boolean)) ∈ lw_all := lw_g (lw_at lw_m1 170 rfl) rfl
theorem q200 : (Jvm.Cond.instanceMethod ({ cls := "StyledText", name := "styleAt", desc := "(I)I" } : Jvm.MethodName)) ∈ lw_all := lw_g (lw_at lw_m1 172 rfl) rfl
theorem q201 : (Jvm.Cond.selects "StyledText" ({ cls := "StyledText", name := "styleAt", desc := "(I)I" } : Jvm.MethodName) ({ cls := "StyledText", name := "styleAt", desc := "(I)I" } : Jvm.MethodName)) ∈ lw_all := lw_g (lw_at lw_m1 173 rfl) rfl
theorem q202 : (Jvm.Cond.code ({ cls := "StyledText", name := "styleAt", desc := "(I)I" } : Jvm.MethodName) prog_1_method_33_code (2 : Nat) (Option.some Jvm.ClassFile.FieldType.int)) ∈ lw_all := lw_g (lw_at lw_m1 174 rfl) rfl
theorem q204 : (Jvm.Cond.instanceMethod ({ cls := "StyledText", name := "runs", desc := "()I" } : Jvm.MethodName)) ∈ lw_all := lw_g (lw_at lw_m1 176 rfl) rfl
theorem q205 : (Jvm.Cond.selects "StyledText" ({ cls := "StyledText", name := "runs", desc := "()I" } : Jvm.MethodName) ({ cls := "StyledText", name := "runs", desc := "()I" } : Jvm.MethodName)) ∈ lw_all := lw_g (lw_at lw_m1 177 rfl) rfl
theorem q206 : (Jvm.Cond.code ({ cls := "StyledText", name := "runs", desc := "()I" } : Jvm.MethodName) prog_1_method_34_code (1 : Nat) (Option.some Jvm.ClassFile.FieldType.int)) ∈ lw_all := lw_g (lw_at lw_m1 178 rfl) rfl
theorem q208 : (Jvm.Cond.instanceMethod ({ cls := "StyledText", name := "runBegin", desc := "(I)I" } : Jvm.MethodName)) ∈ lw_all := lw_g (lw_at lw_m1 180 rfl) rfl
theorem q209 : (Jvm.Cond.selects "StyledText" ({ cls := "StyledText", name := "runBegin", desc := "(I)I" } : Jvm.MethodName) ({ cls := "StyledText", name := "runBegin", desc := "(I)I" } : Jvm.MethodName)) ∈ lw_all := lw_g (lw_at lw_m1 181 rfl) rfl
theorem q210 : (Jvm.Cond.code ({ cls := "StyledText", name := "runBegin", desc := "(I)I" } : Jvm.MethodName) prog_1_method_35_code (4 : Nat) (Option.some Jvm.ClassFile.FieldType.int)) ∈ lw_all := lw_g (lw_at lw_m1 182 rfl) rfl
theorem q212 : (Jvm.Cond.instanceMethod ({ cls := "StyledText", name := "runStyle", desc := "(I)I" } : Jvm.MethodName)) ∈ lw_all := lw_g (lw_at lw_m1 184 rfl) rfl
theorem q213 : (Jvm.Cond.selects "StyledText" ({ cls := "StyledText", name := "runStyle", desc := "(I)I" } : Jvm.MethodName) ({ cls := "StyledText", name := "runStyle", desc := "(I)I" } : Jvm.MethodName)) ∈ lw_all := lw_g (lw_at lw_m1 185 rfl) rfl
theorem q214 : (Jvm.Cond.code ({ cls := "StyledText", name := "runStyle", desc := "(I)I" } : Jvm.MethodName) prog_1_method_36_code (2 : Nat) (Option.some Jvm.ClassFile.FieldType.int)) ∈ lw_all := lw_g (lw_at lw_m1 186 rfl) rfl
theorem q216 : (Jvm.Cond.instanceMethod ({ cls := "StyledText", name := "runOf", desc := "(I)I" } : Jvm.MethodName)) ∈ lw_all := lw_g (lw_at lw_m1 188 rfl) rfl
theorem q217 : (Jvm.Cond.selects "StyledText" ({ cls := "StyledText", name := "runOf", desc := "(I)I" } : Jvm.MethodName) ({ cls := "StyledText", name := "runOf", desc := "(I)I" } : Jvm.MethodName)) ∈ lw_all := lw_g (lw_at lw_m1 189 rfl) rfl
theorem q218 : (Jvm.Cond.code ({ cls := "StyledText", name := "runOf", desc := "(I)I" } : Jvm.MethodName) prog_1_method_37_code (2 : Nat) (Option.some Jvm.ClassFile.FieldType.int)) ∈ lw_all := lw_g (lw_at lw_m1 190 rfl) rfl
theorem q220 : (Jvm.Cond.instanceMethod ({ cls := "StyledText", name := "having", desc := "(I)I" } : Jvm.MethodName)) ∈ lw_all := lw_g (lw_at lw_m1 192 rfl) rfl
theorem q221 : (Jvm.Cond.selects "StyledText" ({ cls := "StyledText", name := "having", desc := "(I)I" } : Jvm.MethodName) ({ cls := "StyledText", name := "having", desc := "(I)I" } : Jvm.MethodName)) ∈ lw_all := lw_g (lw_at lw_m1 193 rfl) rfl
theorem q222 : (Jvm.Cond.code ({ cls := "StyledText", name := "having", desc := "(I)I" } : Jvm.MethodName) prog_1_method_38_code (4 : Nat) (Option.some Jvm.ClassFile.FieldType.int)) ∈ lw_all := lw_g (lw_at lw_m1 194 rfl) rfl
theorem q224 : (Jvm.Cond.instanceMethod ({ cls := "StyledText", name := "setFlag", desc := "(I)I" } : Jvm.MethodName)) ∈ lw_all := lw_g (lw_at lw_m1 196 rfl) rfl
theorem q225 : (Jvm.Cond.selects "StyledText" ({ cls := "StyledText", name := "setFlag", desc := "(I)I" } : Jvm.MethodName) ({ cls := "StyledText", name := "setFlag", desc := "(I)I" } : Jvm.MethodName)) ∈ lw_all := lw_g (lw_at lw_m1 197 rfl) rfl
theorem q226 : (Jvm.Cond.code ({ cls := "StyledText", name := "setFlag", desc := "(I)I" } : Jvm.MethodName) prog_1_method_39_code (3 : Nat) (Option.some Jvm.ClassFile.FieldType.int)) ∈ lw_all := lw_g (lw_at lw_m1 198 rfl) rfl
theorem q228 : (Jvm.Cond.instanceMethod ({ cls := "StyledText", name := "flag", desc := "()I" } : Jvm.MethodName)) ∈ lw_all := lw_g (lw_at lw_m1 200 rfl) rfl
theorem q229 : (Jvm.Cond.selects "StyledText" ({ cls := "StyledText", name := "flag", desc := "()I" } : Jvm.MethodName) ({ cls := "StyledText", name := "flag", desc := "()I" } : Jvm.MethodName)) ∈ lw_all := lw_g (lw_at lw_m1 201 rfl) rfl
theorem q230 : (Jvm.Cond.code ({ cls := "StyledText", name := "flag", desc := "()I" } : Jvm.MethodName) prog_1_method_40_code (1 : Nat) (Option.some Jvm.ClassFile.FieldType.int)) ∈ lw_all := lw_g (lw_at lw_m1 202 rfl) rfl
theorem q232 : (Jvm.Cond.instanceMethod ({ cls := "StyledText", name := "digest", desc := "()I" } : Jvm.MethodName)) ∈ lw_all := lw_g (lw_at lw_m1 204 rfl) rfl
theorem q233 : (Jvm.Cond.selects "StyledText" ({ cls := "StyledText", name := "digest", desc := "()I" } : Jvm.MethodName) ({ cls := "StyledText", name := "digest", desc := "()I" } : Jvm.MethodName)) ∈ lw_all := lw_g (lw_at lw_m1 205 rfl) rfl
theorem q234 : (Jvm.Cond.code ({ cls := "StyledText", name := "digest", desc := "()I" } : Jvm.MethodName) prog_1_method_41_code (6 : Nat) (Option.some Jvm.ClassFile.FieldType.int)) ∈ lw_all := lw_g (lw_at lw_m1 206 rfl) rfl
theorem in_X0 : ∀ w ∈ wsX00, w ∈ lw_all := lw_in wsX00 [50, 52, 54, 56, 58, 60, 62, 64, 66, 68, 70] (by decide +kernel) (by decide +kernel)
def RX1 : String := "StyledTextModel"
def TX1 : u_T := fun k => match k with
  | 0 => ("StyledTextModel", "letters", "[I", true)
  | 1 => ("StyledTextModel", "styles", "[I", true)
  | 2 => ("StyledTextModel", "n", "I", false)
  | 3 => ("StyledTextModel", "flag", "I", false)
  | 4 => ("StyledTextModel", "keptLetters", "[I", true)
  | _ => ("StyledTextModel", "keptStyles", "[I", true)
def tyX1 : Nat → FieldType := fun k => match k with
  | 0 => .array .int
  | 1 => .array .int
  | 2 => .int
  | 3 => .int
  | 4 => .array .int
  | _ => .array .int
abbrev wsX10 : List Cond := u_ws RX1 TX1 6
theorem nmX1 : ∀ a, a < 6 → ∀ b, b < 6 → a ≠ b → (TX1 a).2.1 ≠ (TX1 b).2.1 := by decide +kernel
theorem tyX1_ok : ∀ k, k < 6 → parseFieldDescriptor (TX1 k).2.2.1 = some (tyX1 k) := by decide +kernel
abbrev cX1_init : ByteArray := prog_3_method_1_code
def yX1_init : MethodName := ⟨RX1, "<init>", "()V"⟩
abbrev cX1_type : ByteArray := prog_3_method_7_code
def yX1_type : MethodName := ⟨RX1, "type", "(II)I"⟩
abbrev cX1_isLetter : ByteArray := prog_3_method_2_code
def yX1_isLetter : MethodName := ⟨RX1, "isLetter", "(I)Z"⟩
abbrev cX1_open : ByteArray := prog_3_method_4_code
def yX1_open : MethodName := ⟨RX1, "open", "(II)V"⟩
abbrev cX1_put : ByteArray := prog_3_method_8_code
def yX1_put : MethodName := ⟨RX1, "put", "(IIII)I"⟩
abbrev cX1_remove : ByteArray := prog_3_method_9_code
def yX1_remove : MethodName := ⟨RX1, "remove", "(II)I"⟩
abbrev cX1_isStretch : ByteArray := prog_3_method_3_code
def yX1_isStretch : MethodName := ⟨RX1, "isStretch", "(II)Z"⟩
abbrev cX1_move : ByteArray := prog_3_method_10_code
def yX1_move : MethodName := ⟨RX1, "move", "(III)I"⟩
abbrev cX1_keep : ByteArray := prog_3_method_5_code
def yX1_keep : MethodName := ⟨RX1, "keep", "(II)V"⟩
abbrev cX1_putKept : ByteArray := prog_3_method_6_code
def yX1_putKept : MethodName := ⟨RX1, "putKept", "(II)V"⟩
abbrev cX1_copy : ByteArray := prog_3_method_11_code
def yX1_copy : MethodName := ⟨RX1, "copy", "(III)I"⟩
abbrev cX1_style : ByteArray := prog_3_method_13_code
def yX1_style : MethodName := ⟨RX1, "style", "(IIII)I"⟩
abbrev cX1_setParts : ByteArray := prog_3_method_12_code
def yX1_setParts : MethodName := ⟨RX1, "setParts", "(IIII)I"⟩
abbrev cX1_toggle : ByteArray := prog_3_method_14_code
def yX1_toggle : MethodName := ⟨RX1, "toggle", "(III)I"⟩
abbrev cX1_replace : ByteArray := prog_3_method_15_code
def yX1_replace : MethodName := ⟨RX1, "replace", "(II)I"⟩
abbrev cX1_length : ByteArray := prog_3_method_16_code
def yX1_length : MethodName := ⟨RX1, "length", "()I"⟩
abbrev cX1_letter : ByteArray := prog_3_method_17_code
def yX1_letter : MethodName := ⟨RX1, "letter", "(I)I"⟩
abbrev cX1_styleAt : ByteArray := prog_3_method_18_code
def yX1_styleAt : MethodName := ⟨RX1, "styleAt", "(I)I"⟩
abbrev cX1_runs : ByteArray := prog_3_method_20_code
def yX1_runs : MethodName := ⟨RX1, "runs", "()I"⟩
abbrev cX1_isBegin : ByteArray := prog_3_method_19_code
def yX1_isBegin : MethodName := ⟨RX1, "isBegin", "(I)Z"⟩
abbrev cX1_runBegin : ByteArray := prog_3_method_21_code
def yX1_runBegin : MethodName := ⟨RX1, "runBegin", "(I)I"⟩
abbrev cX1_runStyle : ByteArray := prog_3_method_22_code
def yX1_runStyle : MethodName := ⟨RX1, "runStyle", "(I)I"⟩
abbrev cX1_runOf : ByteArray := prog_3_method_23_code
def yX1_runOf : MethodName := ⟨RX1, "runOf", "(I)I"⟩
abbrev cX1_having : ByteArray := prog_3_method_24_code
def yX1_having : MethodName := ⟨RX1, "having", "(I)I"⟩
abbrev cX1_setFlag : ByteArray := prog_3_method_25_code
def yX1_setFlag : MethodName := ⟨RX1, "setFlag", "(I)I"⟩
abbrev cX1_flag : ByteArray := prog_3_method_26_code
def yX1_flag : MethodName := ⟨RX1, "flag", "()I"⟩
abbrev cX1_digest : ByteArray := prog_3_method_27_code
def yX1_digest : MethodName := ⟨RX1, "digest", "()I"⟩
theorem q30 : (Jvm.Cond.initialized "StyledTextModel") ∈ lw_all := lw_g (lw_at lw_m1 2 rfl) rfl
theorem q236 : (Jvm.Cond.instantiable "StyledTextModel" (6 : Nat)) ∈ lw_all := lw_g (lw_at lw_m1 208 rfl) rfl
theorem q238 : (Jvm.Cond.instanceMethod ({ cls := "StyledTextModel", name := "<init>", desc := "()V" } : Jvm.MethodName)) ∈ lw_all := lw_g (lw_at lw_m1 210 rfl) rfl
theorem q239 : (Jvm.Cond.code ({ cls := "StyledTextModel", name := "<init>", desc := "()V" } : Jvm.MethodName) prog_3_method_1_code (1 : Nat) (Option.none : Option Jvm.ClassFile.FieldType)) ∈ lw_all := lw_g (lw_at lw_m1 211 rfl) rfl
theorem q240 : (Jvm.Cond.methodLink "StyledTextModel" (1 : Nat) ({ cls := "java/lang/Object", name := "<init>", desc := "()V" } : Jvm.MethodName)) ∈ lw_all := lw_g (lw_at lw_m1 212 rfl) rfl
theorem q241 : (Jvm.Cond.fieldLink "StyledTextModel" (7 : Nat) "StyledTextModel" "letters" "[I") ∈ lw_all := lw_g (lw_at lw_m1 213 rfl) rfl
theorem q242 : (Jvm.Cond.fieldLink "StyledTextModel" (13 : Nat) "StyledTextModel" "styles" "[I") ∈ lw_all := lw_g (lw_at lw_m1 214 rfl) rfl
theorem q243 : (Jvm.Cond.fieldLink "StyledTextModel" (22 : Nat) "StyledTextModel" "n" "I") ∈ lw_all := lw_g (lw_at lw_m1 215 rfl) rfl
theorem q244 : (Jvm.Cond.fieldLink "StyledTextModel" (26 : Nat) "StyledTextModel" "flag" "I") ∈ lw_all := lw_g (lw_at lw_m1 216 rfl) rfl
theorem q245 : (Jvm.Cond.fieldLink "StyledTextModel" (16 : Nat) "StyledTextModel" "keptLetters" "[I") ∈ lw_all := lw_g (lw_at lw_m1 217 rfl) rfl
theorem q246 : (Jvm.Cond.fieldLink "StyledTextModel" (19 : Nat) "StyledTextModel" "keptStyles" "[I") ∈ lw_all := lw_g (lw_at lw_m1 218 rfl) rfl
theorem q247 : (Jvm.Cond.laysFinal "StyledTextModel" "StyledTextModel" "letters" "[I") ∈ lw_all := lw_g (lw_at lw_m1 219 rfl) rfl
theorem q248 : (Jvm.Cond.soleField "StyledTextModel" "letters") ∈ lw_all := lw_g (lw_at lw_m1 220 rfl) rfl
theorem q249 : (Jvm.Cond.laysFinal "StyledTextModel" "StyledTextModel" "styles" "[I") ∈ lw_all := lw_g (lw_at lw_m1 221 rfl) rfl
theorem q250 : (Jvm.Cond.soleField "StyledTextModel" "styles") ∈ lw_all := lw_g (lw_at lw_m1 222 rfl) rfl
theorem q251 : (Jvm.Cond.lays "StyledTextModel" "StyledTextModel" "n" "I") ∈ lw_all := lw_g (lw_at lw_m1 223 rfl) rfl
theorem q252 : (Jvm.Cond.soleField "StyledTextModel" "n") ∈ lw_all := lw_g (lw_at lw_m1 224 rfl) rfl
theorem q253 : (Jvm.Cond.lays "StyledTextModel" "StyledTextModel" "flag" "I") ∈ lw_all := lw_g (lw_at lw_m1 225 rfl) rfl
theorem q254 : (Jvm.Cond.soleField "StyledTextModel" "flag") ∈ lw_all := lw_g (lw_at lw_m1 226 rfl) rfl
theorem q255 : (Jvm.Cond.laysFinal "StyledTextModel" "StyledTextModel" "keptLetters" "[I") ∈ lw_all := lw_g (lw_at lw_m1 227 rfl) rfl
theorem q256 : (Jvm.Cond.soleField "StyledTextModel" "keptLetters") ∈ lw_all := lw_g (lw_at lw_m1 228 rfl) rfl
theorem q257 : (Jvm.Cond.laysFinal "StyledTextModel" "StyledTextModel" "keptStyles" "[I") ∈ lw_all := lw_g (lw_at lw_m1 229 rfl) rfl
theorem q258 : (Jvm.Cond.soleField "StyledTextModel" "keptStyles") ∈ lw_all := lw_g (lw_at lw_m1 230 rfl) rfl
theorem q259 : (Jvm.Cond.superclass "StyledTextModel" "java/lang/Object") ∈ lw_all := lw_g (lw_at lw_m1 231 rfl) rfl
theorem q261 : (Jvm.Cond.instanceMethod ({ cls := "StyledTextModel", name := "type", desc := "(II)I" } : Jvm.MethodName)) ∈ lw_all := lw_g (lw_at lw_m1 233 rfl) rfl
theorem q262 : (Jvm.Cond.selects "StyledTextModel" ({ cls := "StyledTextModel", name := "type", desc := "(II)I" } : Jvm.MethodName) ({ cls := "StyledTextModel", name := "type", desc := "(II)I" } : Jvm.MethodName)) ∈ lw_all := lw_g (lw_at lw_m1 234 rfl) rfl
theorem q263 : (Jvm.Cond.code ({ cls := "StyledTextModel", name := "type", desc := "(II)I" } : Jvm.MethodName) prog_3_method_7_code (4 : Nat) (Option.some Jvm.ClassFile.FieldType.int)) ∈ lw_all := lw_g (lw_at lw_m1 235 rfl) rfl
theorem q264 : (Jvm.Cond.methodLink "StyledTextModel" (33 : Nat) ({ cls := "StyledTextModel", name := "isLetter", desc := "(I)Z" } : Jvm.MethodName)) ∈ lw_all := lw_g (lw_at lw_m1 236 rfl) rfl
theorem q265 : (Jvm.Cond.privateMethod ({ cls := "StyledTextModel", name := "isLetter", desc := "(I)Z" } : Jvm.MethodName)) ∈ lw_tbl := lw_at lw_m1 237 rfl
theorem q266 : (Jvm.Cond.instanceMethod ({ cls := "StyledTextModel", name := "isLetter", desc := "(I)Z" } : Jvm.MethodName)) ∈ lw_all := lw_g (lw_at lw_m1 238 rfl) rfl
theorem q267 : (Jvm.Cond.code ({ cls := "StyledTextModel", name := "isLetter", desc := "(I)Z" } : Jvm.MethodName) prog_3_method_2_code (2 : Nat) (Option.some Jvm.ClassFile.FieldType.boolean)) ∈ lw_all := lw_g (lw_at lw_m1 239 rfl) rfl
theorem q268 : (Jvm.Cond.methodLink "StyledTextModel" (29 : Nat) ({ cls := "StyledTextModel", name := "open", desc := "(II)V" } : Jvm.MethodName)) ∈ lw_all := lw_g (lw_at lw_m2 0 rfl) rfl
theorem q269 : (Jvm.Cond.privateMethod ({ cls := "StyledTextModel", name := "open", desc := "(II)V" } : Jvm.MethodName)) ∈ lw_tbl := lw_at lw_m2 1 rfl
theorem q270 : (Jvm.Cond.instanceMethod ({ cls := "StyledTextModel", name := "open", desc := "(II)V" } : Jvm.MethodName)) ∈ lw_all := lw_g (lw_at lw_m2 2 rfl) rfl
theorem q271 : (Jvm.Cond.code ({ cls := "StyledTextModel", name := "open", desc := "(II)V" } : Jvm.MethodName) prog_3_method_4_code (4 : Nat) (Option.none : Option Jvm.ClassFile.FieldType)) ∈ lw_all := lw_g (lw_at lw_m2 3 rfl) rfl
theorem q273 : (Jvm.Cond.instanceMethod ({ cls := "StyledTextModel", name := "put", desc := "(IIII)I" } : Jvm.MethodName)) ∈ lw_all := lw_g (lw_at lw_m2 5 rfl) rfl
theorem q274 : (Jvm.Cond.selects "StyledTextModel" ({ cls := "StyledTextModel", name := "put", desc := "(IIII)I" } : Jvm.MethodName) ({ cls := "StyledTextModel", name := "put", desc := "(IIII)I" } : Jvm.MethodName)) ∈ lw_all := lw_g (lw_at lw_m2 6 rfl) rfl
theorem q275 : (Jvm.Cond.code ({ cls := "StyledTextModel", name := "put", desc := "(IIII)I" } : Jvm.MethodName) prog_3_method_8_code (6 : Nat) (Option.some Jvm.ClassFile.FieldType.int)) ∈ lw_all := lw_g (lw_at lw_m2 7 rfl) rfl
theorem q277 : (Jvm.Cond.instanceMethod ({ cls := "StyledTextModel", name := "remove", desc := "(II)I" } : Jvm.MethodName)) ∈ lw_all := lw_g (lw_at lw_m2 9 rfl) rfl
theorem q278 : (Jvm.Cond.selects "StyledTextModel" ({ cls := "StyledTextModel", name := "remove", desc := "(II)I" } : Jvm.MethodName) ({ cls := "StyledTextModel", name := "remove", desc := "(II)I" } : Jvm.MethodName)) ∈ lw_all := lw_g (lw_at lw_m2 10 rfl) rfl
theorem q279 : (Jvm.Cond.code ({ cls := "StyledTextModel", name := "remove", desc := "(II)I" } : Jvm.MethodName) prog_3_method_9_code (4 : Nat) (Option.some Jvm.ClassFile.FieldType.int)) ∈ lw_all := lw_g (lw_at lw_m2 11 rfl) rfl
theorem q280 : (Jvm.Cond.methodLink "StyledTextModel" (37 : Nat) ({ cls := "StyledTextModel", name := "isStretch", desc := "(II)Z" } : Jvm.MethodName)) ∈ lw_all := lw_g (lw_at lw_m2 12 rfl) rfl
theorem q281 : (Jvm.Cond.privateMethod ({ cls := "StyledTextModel", name := "isStretch", desc := "(II)Z" } : Jvm.MethodName)) ∈ lw_tbl := lw_at lw_m2 13 rfl
theorem q282 : (Jvm.Cond.instanceMethod ({ cls := "StyledTextModel", name := "isStretch", desc := "(II)Z" } : Jvm.MethodName)) ∈ lw_all := lw_g (lw_at lw_m2 14 rfl) rfl
theorem q283 : (Jvm.Cond.code ({ cls := "StyledTextModel", name := "isStretch", desc := "(II)Z" } : Jvm.MethodName) prog_3_method_3_code (3 : Nat) (Option.some Jvm.ClassFile.FieldType.boolean)) ∈ lw_all := lw_g (lw_at lw_m2 15 rfl) rfl
theorem q285 : (Jvm.Cond.instanceMethod ({ cls := "StyledTextModel", name := "move", desc := "(III)I" } : Jvm.MethodName)) ∈ lw_all := lw_g (lw_at lw_m2 17 rfl) rfl
theorem q286 : (Jvm.Cond.selects "StyledTextModel" ({ cls := "StyledTextModel", name := "move", desc := "(III)I" } : Jvm.MethodName) ({ cls := "StyledTextModel", name := "move", desc := "(III)I" } : Jvm.MethodName)) ∈ lw_all := lw_g (lw_at lw_m2 18 rfl) rfl
theorem q287 : (Jvm.Cond.code ({ cls := "StyledTextModel", name := "move", desc := "(III)I" } : Jvm.MethodName) prog_3_method_10_code (4 : Nat) (Option.some Jvm.ClassFile.FieldType.int)) ∈ lw_all := lw_g (lw_at lw_m2 19 rfl) rfl
theorem q288 : (Jvm.Cond.methodLink "StyledTextModel" (41 : Nat) ({ cls := "StyledTextModel", name := "keep", desc := "(II)V" } : Jvm.MethodName)) ∈ lw_all := lw_g (lw_at lw_m2 20 rfl) rfl
theorem q289 : (Jvm.Cond.privateMethod ({ cls := "StyledTextModel", name := "keep", desc := "(II)V" } : Jvm.MethodName)) ∈ lw_tbl := lw_at lw_m2 21 rfl
theorem q290 : (Jvm.Cond.instanceMethod ({ cls := "StyledTextModel", name := "keep", desc := "(II)V" } : Jvm.MethodName)) ∈ lw_all := lw_g (lw_at lw_m2 22 rfl) rfl
theorem q291 : (Jvm.Cond.code ({ cls := "StyledTextModel", name := "keep", desc := "(II)V" } : Jvm.MethodName) prog_3_method_5_code (4 : Nat) (Option.none : Option Jvm.ClassFile.FieldType)) ∈ lw_all := lw_g (lw_at lw_m2 23 rfl) rfl
theorem q292 : (Jvm.Cond.methodLink "StyledTextModel" (44 : Nat) ({ cls := "StyledTextModel", name := "remove", desc := "(II)I" } : Jvm.MethodName)) ∈ lw_all := lw_g (lw_at lw_m2 24 rfl) rfl
theorem q293 : (Jvm.Cond.methodLink "StyledTextModel" (48 : Nat) ({ cls := "StyledTextModel", name := "putKept", desc := "(II)V" } : Jvm.MethodName)) ∈ lw_all := lw_g (lw_at lw_m2 25 rfl) rfl
theorem q294 : (Jvm.Cond.privateMethod ({ cls := "StyledTextModel", name := "putKept", desc := "(II)V" } : Jvm.MethodName)) ∈ lw_tbl := lw_at lw_m2 26 rfl
theorem q295 : (Jvm.Cond.instanceMethod ({ cls := "StyledTextModel", name := "putKept", desc := "(II)V" } : Jvm.MethodName)) ∈ lw_all := lw_g (lw_at lw_m2 27 rfl) rfl
theorem q296 : (Jvm.Cond.code ({ cls := "StyledTextModel", name := "putKept", desc := "(II)V" } : Jvm.MethodName) prog_3_method_6_code (4 : Nat) (Option.none : Option Jvm.ClassFile.FieldType)) ∈ lw_all := lw_g (lw_at lw_m2 28 rfl) rfl
theorem q298 : (Jvm.Cond.instanceMethod ({ cls := "StyledTextModel", name := "copy", desc := "(III)I" } : Jvm.MethodName)) ∈ lw_all := lw_g (lw_at lw_m2 30 rfl) rfl
theorem q299 : (Jvm.Cond.selects "StyledTextModel" ({ cls := "StyledTextModel", name := "copy", desc := "(III)I" } : Jvm.MethodName) ({ cls := "StyledTextModel", name := "copy", desc := "(III)I" } : Jvm.MethodName)) ∈ lw_all := lw_g (lw_at lw_m2 31 rfl) rfl
theorem q300 : (Jvm.Cond.code ({ cls := "StyledTextModel", name := "copy", desc := "(III)I" } : Jvm.MethodName) prog_3_method_11_code (4 : Nat) (Option.some Jvm.ClassFile.FieldType.int)) ∈ lw_all := lw_g (lw_at lw_m2 32 rfl) rfl
theorem q302 : (Jvm.Cond.instanceMethod ({ cls := "StyledTextModel", name := "style", desc := "(IIII)I" } : Jvm.MethodName)) ∈ lw_all := lw_g (lw_at lw_m2 34 rfl) rfl
theorem q303 : (Jvm.Cond.selects "StyledTextModel" ({ cls := "StyledTextModel", name := "style", desc := "(IIII)I" } : Jvm.MethodName) ({ cls := "StyledTextModel", name := "style", desc := "(IIII)I" } : Jvm.MethodName)) ∈ lw_all := lw_g (lw_at lw_m2 35 rfl) rfl
theorem q304 : (Jvm.Cond.code ({ cls := "StyledTextModel", name := "style", desc := "(IIII)I" } : Jvm.MethodName) prog_3_method_13_code (6 : Nat) (Option.some Jvm.ClassFile.FieldType.int)) ∈ lw_all := lw_g (lw_at lw_m2 36 rfl) rfl
theorem q305 : (Jvm.Cond.methodLink "StyledTextModel" (51 : Nat) ({ cls := "StyledTextModel", name := "setParts", desc := "(IIII)I" } : Jvm.MethodName)) ∈ lw_all := lw_g (lw_at lw_m2 37 rfl) rfl
theorem q306 : (Jvm.Cond.privateMethod ({ cls := "StyledTextModel", name := "setParts", desc := "(IIII)I" } : Jvm.MethodName)) ∈ lw_tbl := lw_at lw_m2 38 rfl
theorem q307 : (Jvm.Cond.instanceMethod ({ cls := "StyledTextModel", name := "setParts", desc := "(IIII)I" } : Jvm.MethodName)) ∈ lw_all := lw_g (lw_at lw_m2 39 rfl) rfl
theorem q308 : (Jvm.Cond.code ({ cls := "StyledTextModel", name := "setParts", desc := "(IIII)I" } : Jvm.MethodName) prog_3_method_12_code (8 : Nat) (Option.some Jvm.ClassFile.FieldType.int)) ∈ lw_all := lw_g (lw_at lw_m2 40 rfl) rfl
theorem q310 : (Jvm.Cond.instanceMethod ({ cls := "StyledTextModel", name := "toggle", desc := "(III)I" } : Jvm.MethodName)) ∈ lw_all := lw_g (lw_at lw_m2 42 rfl) rfl
theorem q311 : (Jvm.Cond.selects "StyledTextModel" ({ cls := "StyledTextModel", name := "toggle", desc := "(III)I" } : Jvm.MethodName) ({ cls := "StyledTextModel", name := "toggle", desc := "(III)I" } : Jvm.MethodName)) ∈ lw_all := lw_g (lw_at lw_m2 43 rfl) rfl
theorem q312 : (Jvm.Cond.code ({ cls := "StyledTextModel", name := "toggle", desc := "(III)I" } : Jvm.MethodName) prog_3_method_14_code (6 : Nat) (Option.some Jvm.ClassFile.FieldType.int)) ∈ lw_all := lw_g (lw_at lw_m2 44 rfl) rfl
theorem q314 : (Jvm.Cond.instanceMethod ({ cls := "StyledTextModel", name := "replace", desc := "(II)I" } : Jvm.MethodName)) ∈ lw_all := lw_g (lw_at lw_m2 46 rfl) rfl
theorem q315 : (Jvm.Cond.selects "StyledTextModel" ({ cls := "StyledTextModel", name := "replace", desc := "(II)I" } : Jvm.MethodName) ({ cls := "StyledTextModel", name := "replace", desc := "(II)I" } : Jvm.MethodName)) ∈ lw_all := lw_g (lw_at lw_m2 47 rfl) rfl
theorem q316 : (Jvm.Cond.code ({ cls := "StyledTextModel", name := "replace", desc := "(II)I" } : Jvm.MethodName) prog_3_method_15_code (5 : Nat) (Option.some Jvm.ClassFile.FieldType.int)) ∈ lw_all := lw_g (lw_at lw_m2 48 rfl) rfl
theorem q318 : (Jvm.Cond.instanceMethod ({ cls := "StyledTextModel", name := "length", desc := "()I" } : Jvm.MethodName)) ∈ lw_all := lw_g (lw_at lw_m2 50 rfl) rfl
theorem q319 : (Jvm.Cond.selects "StyledTextModel" ({ cls := "StyledTextModel", name := "length", desc := "()I" } : Jvm.MethodName) ({ cls := "StyledTextModel", name := "length", desc := "()I" } : Jvm.MethodName)) ∈ lw_all := lw_g (lw_at lw_m2 51 rfl) rfl
theorem q320 : (Jvm.Cond.code ({ cls := "StyledTextModel", name := "length", desc := "()I" } : Jvm.MethodName) prog_3_method_16_code (1 : Nat) (Option.some Jvm.ClassFile.FieldType.int)) ∈ lw_all := lw_g (lw_at lw_m2 52 rfl) rfl
theorem q322 : (Jvm.Cond.instanceMethod ({ cls := "StyledTextModel", name := "letter", desc := "(I)I" } : Jvm.MethodName)) ∈ lw_all := lw_g (lw_at lw_m2 54 rfl) rfl
theorem q323 : (Jvm.Cond.selects "StyledTextModel" ({ cls := "StyledTextModel", name := "letter", desc := "(I)I" } : Jvm.MethodName) ({ cls := "StyledTextModel", name := "letter", desc := "(I)I" } : Jvm.MethodName)) ∈ lw_all := lw_g (lw_at lw_m2 55 rfl) rfl
theorem q324 : (Jvm.Cond.code ({ cls := "StyledTextModel", name := "letter", desc := "(I)I" } : Jvm.MethodName) prog_3_method_17_code (2 : Nat) (Option.some Jvm.ClassFile.FieldType.int)) ∈ lw_all := lw_g (lw_at lw_m2 56 rfl) rfl
theorem q326 : (Jvm.Cond.instanceMethod ({ cls := "StyledTextModel", name := "styleAt", desc := "(I)I" } : Jvm.MethodName)) ∈ lw_all := lw_g (lw_at lw_m2 58 rfl) rfl
theorem q327 : (Jvm.Cond.selects "StyledTextModel" ({ cls := "StyledTextModel", name := "styleAt", desc := "(I)I" } : Jvm.MethodName) ({ cls := "StyledTextModel", name := "styleAt", desc := "(I)I" } : Jvm.MethodName)) ∈ lw_all := lw_g (lw_at lw_m2 59 rfl) rfl
theorem q328 : (Jvm.Cond.code ({ cls := "StyledTextModel", name := "styleAt", desc := "(I)I" } : Jvm.MethodName) prog_3_method_18_code (2 : Nat) (Option.some Jvm.ClassFile.FieldType.int)) ∈ lw_all := lw_g (lw_at lw_m2 60 rfl) rfl
theorem q330 : (Jvm.Cond.instanceMethod ({ cls := "StyledTextModel", name := "runs", desc := "()I" } : Jvm.MethodName)) ∈ lw_all := lw_g (lw_at lw_m2 62 rfl) rfl
theorem q331 : (Jvm.Cond.selects "StyledTextModel" ({ cls := "StyledTextModel", name := "runs", desc := "()I" } : Jvm.MethodName) ({ cls := "StyledTextModel", name := "runs", desc := "()I" } : Jvm.MethodName)) ∈ lw_all := lw_g (lw_at lw_m2 63 rfl) rfl
theorem q332 : (Jvm.Cond.code ({ cls := "StyledTextModel", name := "runs", desc := "()I" } : Jvm.MethodName) prog_3_method_20_code (3 : Nat) (Option.some Jvm.ClassFile.FieldType.int)) ∈ lw_all := lw_g (lw_at lw_m2 64 rfl) rfl
theorem q333 : (Jvm.Cond.methodLink "StyledTextModel" (55 : Nat) ({ cls := "StyledTextModel", name := "isBegin", desc := "(I)Z" } : Jvm.MethodName)) ∈ lw_all := lw_g (lw_at lw_m2 65 rfl) rfl
theorem q334 : (Jvm.Cond.privateMethod ({ cls := "StyledTextModel", name := "isBegin", desc := "(I)Z" } : Jvm.MethodName)) ∈ lw_tbl := lw_at lw_m2 66 rfl
theorem q335 : (Jvm.Cond.instanceMethod ({ cls := "StyledTextModel", name := "isBegin", desc := "(I)Z" } : Jvm.MethodName)) ∈ lw_all := lw_g (lw_at lw_m2 67 rfl) rfl
theorem q336 : (Jvm.Cond.code ({ cls := "StyledTextModel", name := "isBegin", desc := "(I)Z" } : Jvm.MethodName) prog_3_method_19_code (2 : Nat) (Option.some Jvm.ClassFile.FieldType.boolean)) ∈ lw_all := lw_g (lw_at lw_m2 68 rfl) rfl
theorem q338 : (Jvm.Cond.instanceMethod ({ cls := "StyledTextModel", name := "runBegin", desc := "(I)I" } : Jvm.MethodName)) ∈ lw_all := lw_g (lw_at lw_m2 70 rfl) rfl
theorem q339 : (Jvm.Cond.selects "StyledTextModel" ({ cls := "StyledTextModel", name := "runBegin", desc := "(I)I" } : Jvm.MethodName) ({ cls := "StyledTextModel", name := "runBegin", desc := "(I)I" } : Jvm.MethodName)) ∈ lw_all := lw_g (lw_at lw_m2 71 rfl) rfl
theorem q340 : (Jvm.Cond.code ({ cls := "StyledTextModel", name := "runBegin", desc := "(I)I" } : Jvm.MethodName) prog_3_method_21_code (4 : Nat) (Option.some Jvm.ClassFile.FieldType.int)) ∈ lw_all := lw_g (lw_at lw_m2 72 rfl) rfl
theorem q342 : (Jvm.Cond.instanceMethod ({ cls := "StyledTextModel", name := "runStyle", desc := "(I)I" } : Jvm.MethodName)) ∈ lw_all := lw_g (lw_at lw_m2 74 rfl) rfl
theorem q343 : (Jvm.Cond.selects "StyledTextModel" ({ cls := "StyledTextModel", name := "runStyle", desc := "(I)I" } : Jvm.MethodName) ({ cls := "StyledTextModel", name := "runStyle", desc := "(I)I" } : Jvm.MethodName)) ∈ lw_all := lw_g (lw_at lw_m2 75 rfl) rfl
theorem q344 : (Jvm.Cond.code ({ cls := "StyledTextModel", name := "runStyle", desc := "(I)I" } : Jvm.MethodName) prog_3_method_22_code (3 : Nat) (Option.some Jvm.ClassFile.FieldType.int)) ∈ lw_all := lw_g (lw_at lw_m2 76 rfl) rfl
theorem q345 : (Jvm.Cond.methodLink "StyledTextModel" (58 : Nat) ({ cls := "StyledTextModel", name := "runBegin", desc := "(I)I" } : Jvm.MethodName)) ∈ lw_all := lw_g (lw_at lw_m2 77 rfl) rfl
theorem q347 : (Jvm.Cond.instanceMethod ({ cls := "StyledTextModel", name := "runOf", desc := "(I)I" } : Jvm.MethodName)) ∈ lw_all := lw_g (lw_at lw_m2 79 rfl) rfl
theorem q348 : (Jvm.Cond.selects "StyledTextModel" ({ cls := "StyledTextModel", name := "runOf", desc := "(I)I" } : Jvm.MethodName) ({ cls := "StyledTextModel", name := "runOf", desc := "(I)I" } : Jvm.MethodName)) ∈ lw_all := lw_g (lw_at lw_m2 80 rfl) rfl
theorem q349 : (Jvm.Cond.code ({ cls := "StyledTextModel", name := "runOf", desc := "(I)I" } : Jvm.MethodName) prog_3_method_23_code (4 : Nat) (Option.some Jvm.ClassFile.FieldType.int)) ∈ lw_all := lw_g (lw_at lw_m2 81 rfl) rfl
theorem q351 : (Jvm.Cond.instanceMethod ({ cls := "StyledTextModel", name := "having", desc := "(I)I" } : Jvm.MethodName)) ∈ lw_all := lw_g (lw_at lw_m2 83 rfl) rfl
theorem q352 : (Jvm.Cond.selects "StyledTextModel" ({ cls := "StyledTextModel", name := "having", desc := "(I)I" } : Jvm.MethodName) ({ cls := "StyledTextModel", name := "having", desc := "(I)I" } : Jvm.MethodName)) ∈ lw_all := lw_g (lw_at lw_m2 84 rfl) rfl
theorem q353 : (Jvm.Cond.code ({ cls := "StyledTextModel", name := "having", desc := "(I)I" } : Jvm.MethodName) prog_3_method_24_code (4 : Nat) (Option.some Jvm.ClassFile.FieldType.int)) ∈ lw_all := lw_g (lw_at lw_m2 85 rfl) rfl
theorem q355 : (Jvm.Cond.instanceMethod ({ cls := "StyledTextModel", name := "setFlag", desc := "(I)I" } : Jvm.MethodName)) ∈ lw_all := lw_g (lw_at lw_m2 87 rfl) rfl
theorem q356 : (Jvm.Cond.selects "StyledTextModel" ({ cls := "StyledTextModel", name := "setFlag", desc := "(I)I" } : Jvm.MethodName) ({ cls := "StyledTextModel", name := "setFlag", desc := "(I)I" } : Jvm.MethodName)) ∈ lw_all := lw_g (lw_at lw_m2 88 rfl) rfl
theorem q357 : (Jvm.Cond.code ({ cls := "StyledTextModel", name := "setFlag", desc := "(I)I" } : Jvm.MethodName) prog_3_method_25_code (3 : Nat) (Option.some Jvm.ClassFile.FieldType.int)) ∈ lw_all := lw_g (lw_at lw_m2 89 rfl) rfl
theorem q359 : (Jvm.Cond.instanceMethod ({ cls := "StyledTextModel", name := "flag", desc := "()I" } : Jvm.MethodName)) ∈ lw_all := lw_g (lw_at lw_m2 91 rfl) rfl
theorem q360 : (Jvm.Cond.selects "StyledTextModel" ({ cls := "StyledTextModel", name := "flag", desc := "()I" } : Jvm.MethodName) ({ cls := "StyledTextModel", name := "flag", desc := "()I" } : Jvm.MethodName)) ∈ lw_all := lw_g (lw_at lw_m2 92 rfl) rfl
theorem q361 : (Jvm.Cond.code ({ cls := "StyledTextModel", name := "flag", desc := "()I" } : Jvm.MethodName) prog_3_method_26_code (1 : Nat) (Option.some Jvm.ClassFile.FieldType.int)) ∈ lw_all := lw_g (lw_at lw_m2 93 rfl) rfl
theorem q363 : (Jvm.Cond.instanceMethod ({ cls := "StyledTextModel", name := "digest", desc := "()I" } : Jvm.MethodName)) ∈ lw_all := lw_g (lw_at lw_m2 95 rfl) rfl
theorem q364 : (Jvm.Cond.selects "StyledTextModel" ({ cls := "StyledTextModel", name := "digest", desc := "()I" } : Jvm.MethodName) ({ cls := "StyledTextModel", name := "digest", desc := "()I" } : Jvm.MethodName)) ∈ lw_all := lw_g (lw_at lw_m2 96 rfl) rfl
theorem q365 : (Jvm.Cond.code ({ cls := "StyledTextModel", name := "digest", desc := "()I" } : Jvm.MethodName) prog_3_method_27_code (3 : Nat) (Option.some Jvm.ClassFile.FieldType.int)) ∈ lw_all := lw_g (lw_at lw_m2 97 rfl) rfl
theorem in_X1 : ∀ w ∈ wsX10, w ∈ lw_all := lw_in wsX10 [247, 249, 251, 253, 255, 257] (by decide +kernel) (by decide +kernel)
abbrev cL_law : ByteArray := code
theorem q28 : (Jvm.Cond.initialized "StyledTextLaw") ∈ lw_all := lw_g (lw_at lw_m1 0 rfl) rfl
theorem q31 : (Jvm.Cond.classLink "StyledTextLaw" (7 : Nat) "StyledText") ∈ lw_all := lw_g (lw_at lw_m1 3 rfl) rfl
theorem q33 : (Jvm.Cond.methodLink "StyledTextLaw" (9 : Nat) ({ cls := "StyledText", name := "<init>", desc := "()V" } : Jvm.MethodName)) ∈ lw_all := lw_g (lw_at lw_m1 5 rfl) rfl
theorem q74 : (Jvm.Cond.methodLink "StyledTextLaw" (13 : Nat) ({ cls := "StyledText", name := "type", desc := "(II)I" } : Jvm.MethodName)) ∈ lw_all := lw_g (lw_at lw_m1 46 rfl) rfl
theorem q126 : (Jvm.Cond.methodLink "StyledTextLaw" (18 : Nat) ({ cls := "StyledText", name := "put", desc := "(IIII)I" } : Jvm.MethodName)) ∈ lw_all := lw_g (lw_at lw_m1 98 rfl) rfl
theorem q130 : (Jvm.Cond.methodLink "StyledTextLaw" (23 : Nat) ({ cls := "StyledText", name := "remove", desc := "(II)I" } : Jvm.MethodName)) ∈ lw_all := lw_g (lw_at lw_m1 102 rfl) rfl
theorem q150 : (Jvm.Cond.methodLink "StyledTextLaw" (27 : Nat) ({ cls := "StyledText", name := "move", desc := "(III)I" } : Jvm.MethodName)) ∈ lw_all := lw_g (lw_at lw_m1 122 rfl) rfl
theorem q166 : (Jvm.Cond.methodLink "StyledTextLaw" (32 : Nat) ({ cls := "StyledText", name := "copy", desc := "(III)I" } : Jvm.MethodName)) ∈ lw_all := lw_g (lw_at lw_m1 138 rfl) rfl
theorem q170 : (Jvm.Cond.methodLink "StyledTextLaw" (36 : Nat) ({ cls := "StyledText", name := "style", desc := "(IIII)I" } : Jvm.MethodName)) ∈ lw_all := lw_g (lw_at lw_m1 142 rfl) rfl
theorem q178 : (Jvm.Cond.methodLink "StyledTextLaw" (40 : Nat) ({ cls := "StyledText", name := "toggle", desc := "(III)I" } : Jvm.MethodName)) ∈ lw_all := lw_g (lw_at lw_m1 150 rfl) rfl
theorem q183 : (Jvm.Cond.methodLink "StyledTextLaw" (44 : Nat) ({ cls := "StyledText", name := "replace", desc := "(II)I" } : Jvm.MethodName)) ∈ lw_all := lw_g (lw_at lw_m1 155 rfl) rfl
theorem q187 : (Jvm.Cond.methodLink "StyledTextLaw" (48 : Nat) ({ cls := "StyledText", name := "length", desc := "()I" } : Jvm.MethodName)) ∈ lw_all := lw_g (lw_at lw_m1 159 rfl) rfl
theorem q191 : (Jvm.Cond.methodLink "StyledTextLaw" (53 : Nat) ({ cls := "StyledText", name := "letter", desc := "(I)I" } : Jvm.MethodName)) ∈ lw_all := lw_g (lw_at lw_m1 163 rfl) rfl
theorem q199 : (Jvm.Cond.methodLink "StyledTextLaw" (58 : Nat) ({ cls := "StyledText", name := "styleAt", desc := "(I)I" } : Jvm.MethodName)) ∈ lw_all := lw_g (lw_at lw_m1 171 rfl) rfl
theorem q203 : (Jvm.Cond.methodLink "StyledTextLaw" (62 : Nat) ({ cls := "StyledText", name := "runs", desc := "()I" } : Jvm.MethodName)) ∈ lw_all := lw_g (lw_at lw_m1 175 rfl) rfl
theorem q207 : (Jvm.Cond.methodLink "StyledTextLaw" (66 : Nat) ({ cls := "StyledText", name := "runBegin", desc := "(I)I" } : Jvm.MethodName)) ∈ lw_all := lw_g (lw_at lw_m1 179 rfl) rfl
theorem q211 : (Jvm.Cond.methodLink "StyledTextLaw" (70 : Nat) ({ cls := "StyledText", name := "runStyle", desc := "(I)I" } : Jvm.MethodName)) ∈ lw_all := lw_g (lw_at lw_m1 183 rfl) rfl
theorem q215 : (Jvm.Cond.methodLink "StyledTextLaw" (74 : Nat) ({ cls := "StyledText", name := "runOf", desc := "(I)I" } : Jvm.MethodName)) ∈ lw_all := lw_g (lw_at lw_m1 187 rfl) rfl
theorem q219 : (Jvm.Cond.methodLink "StyledTextLaw" (78 : Nat) ({ cls := "StyledText", name := "having", desc := "(I)I" } : Jvm.MethodName)) ∈ lw_all := lw_g (lw_at lw_m1 191 rfl) rfl
theorem q223 : (Jvm.Cond.methodLink "StyledTextLaw" (82 : Nat) ({ cls := "StyledText", name := "setFlag", desc := "(I)I" } : Jvm.MethodName)) ∈ lw_all := lw_g (lw_at lw_m1 195 rfl) rfl
theorem q227 : (Jvm.Cond.methodLink "StyledTextLaw" (86 : Nat) ({ cls := "StyledText", name := "flag", desc := "()I" } : Jvm.MethodName)) ∈ lw_all := lw_g (lw_at lw_m1 199 rfl) rfl
theorem q231 : (Jvm.Cond.methodLink "StyledTextLaw" (90 : Nat) ({ cls := "StyledText", name := "digest", desc := "()I" } : Jvm.MethodName)) ∈ lw_all := lw_g (lw_at lw_m1 203 rfl) rfl
theorem q235 : (Jvm.Cond.classLink "StyledTextLaw" (10 : Nat) "StyledTextModel") ∈ lw_all := lw_g (lw_at lw_m1 207 rfl) rfl
theorem q237 : (Jvm.Cond.methodLink "StyledTextLaw" (12 : Nat) ({ cls := "StyledTextModel", name := "<init>", desc := "()V" } : Jvm.MethodName)) ∈ lw_all := lw_g (lw_at lw_m1 209 rfl) rfl
theorem q260 : (Jvm.Cond.methodLink "StyledTextLaw" (17 : Nat) ({ cls := "StyledTextModel", name := "type", desc := "(II)I" } : Jvm.MethodName)) ∈ lw_all := lw_g (lw_at lw_m1 232 rfl) rfl
theorem q272 : (Jvm.Cond.methodLink "StyledTextLaw" (22 : Nat) ({ cls := "StyledTextModel", name := "put", desc := "(IIII)I" } : Jvm.MethodName)) ∈ lw_all := lw_g (lw_at lw_m2 4 rfl) rfl
theorem q276 : (Jvm.Cond.methodLink "StyledTextLaw" (26 : Nat) ({ cls := "StyledTextModel", name := "remove", desc := "(II)I" } : Jvm.MethodName)) ∈ lw_all := lw_g (lw_at lw_m2 8 rfl) rfl
theorem q284 : (Jvm.Cond.methodLink "StyledTextLaw" (31 : Nat) ({ cls := "StyledTextModel", name := "move", desc := "(III)I" } : Jvm.MethodName)) ∈ lw_all := lw_g (lw_at lw_m2 16 rfl) rfl
theorem q297 : (Jvm.Cond.methodLink "StyledTextLaw" (35 : Nat) ({ cls := "StyledTextModel", name := "copy", desc := "(III)I" } : Jvm.MethodName)) ∈ lw_all := lw_g (lw_at lw_m2 29 rfl) rfl
theorem q301 : (Jvm.Cond.methodLink "StyledTextLaw" (39 : Nat) ({ cls := "StyledTextModel", name := "style", desc := "(IIII)I" } : Jvm.MethodName)) ∈ lw_all := lw_g (lw_at lw_m2 33 rfl) rfl
theorem q309 : (Jvm.Cond.methodLink "StyledTextLaw" (43 : Nat) ({ cls := "StyledTextModel", name := "toggle", desc := "(III)I" } : Jvm.MethodName)) ∈ lw_all := lw_g (lw_at lw_m2 41 rfl) rfl
theorem q313 : (Jvm.Cond.methodLink "StyledTextLaw" (47 : Nat) ({ cls := "StyledTextModel", name := "replace", desc := "(II)I" } : Jvm.MethodName)) ∈ lw_all := lw_g (lw_at lw_m2 45 rfl) rfl
theorem q317 : (Jvm.Cond.methodLink "StyledTextLaw" (52 : Nat) ({ cls := "StyledTextModel", name := "length", desc := "()I" } : Jvm.MethodName)) ∈ lw_all := lw_g (lw_at lw_m2 49 rfl) rfl
theorem q321 : (Jvm.Cond.methodLink "StyledTextLaw" (57 : Nat) ({ cls := "StyledTextModel", name := "letter", desc := "(I)I" } : Jvm.MethodName)) ∈ lw_all := lw_g (lw_at lw_m2 53 rfl) rfl
theorem q325 : (Jvm.Cond.methodLink "StyledTextLaw" (61 : Nat) ({ cls := "StyledTextModel", name := "styleAt", desc := "(I)I" } : Jvm.MethodName)) ∈ lw_all := lw_g (lw_at lw_m2 57 rfl) rfl
theorem q329 : (Jvm.Cond.methodLink "StyledTextLaw" (65 : Nat) ({ cls := "StyledTextModel", name := "runs", desc := "()I" } : Jvm.MethodName)) ∈ lw_all := lw_g (lw_at lw_m2 61 rfl) rfl
theorem q337 : (Jvm.Cond.methodLink "StyledTextLaw" (69 : Nat) ({ cls := "StyledTextModel", name := "runBegin", desc := "(I)I" } : Jvm.MethodName)) ∈ lw_all := lw_g (lw_at lw_m2 69 rfl) rfl
theorem q341 : (Jvm.Cond.methodLink "StyledTextLaw" (73 : Nat) ({ cls := "StyledTextModel", name := "runStyle", desc := "(I)I" } : Jvm.MethodName)) ∈ lw_all := lw_g (lw_at lw_m2 73 rfl) rfl
theorem q346 : (Jvm.Cond.methodLink "StyledTextLaw" (77 : Nat) ({ cls := "StyledTextModel", name := "runOf", desc := "(I)I" } : Jvm.MethodName)) ∈ lw_all := lw_g (lw_at lw_m2 78 rfl) rfl
theorem q350 : (Jvm.Cond.methodLink "StyledTextLaw" (81 : Nat) ({ cls := "StyledTextModel", name := "having", desc := "(I)I" } : Jvm.MethodName)) ∈ lw_all := lw_g (lw_at lw_m2 82 rfl) rfl
theorem q354 : (Jvm.Cond.methodLink "StyledTextLaw" (85 : Nat) ({ cls := "StyledTextModel", name := "setFlag", desc := "(I)I" } : Jvm.MethodName)) ∈ lw_all := lw_g (lw_at lw_m2 86 rfl) rfl
theorem q358 : (Jvm.Cond.methodLink "StyledTextLaw" (89 : Nat) ({ cls := "StyledTextModel", name := "flag", desc := "()I" } : Jvm.MethodName)) ∈ lw_all := lw_g (lw_at lw_m2 90 rfl) rfl
theorem q362 : (Jvm.Cond.methodLink "StyledTextLaw" (93 : Nat) ({ cls := "StyledTextModel", name := "digest", desc := "()I" } : Jvm.MethodName)) ∈ lw_all := lw_g (lw_at lw_m2 94 rfl) rfl
theorem q73 : (Jvm.Cond.arrayClass Jvm.ClassFile.FieldType.int) ∈ lw_all := lw_g (lw_at lw_m1 45 rfl) rfl
end
section
set_option maxRecDepth 100000
theorem dX0_init_0 : decode cX0_init 0 = .ok (.aload_n 0, 1) := by decide +kernel
theorem dX0_init_1 : decode cX0_init 1 = .ok (.invokespecial 1, 3) := by decide +kernel
theorem dX0_init_4 : decode cX0_init 4 = .ok (.aload_n 0, 1) := by decide +kernel
theorem dX0_init_5 : decode cX0_init 5 = .ok (.bipush 64, 2) := by decide +kernel
theorem dX0_init_7 : decode cX0_init 7 = .ok (.newarray .int, 2) := by decide +kernel
theorem dX0_init_9 : decode cX0_init 9 = .ok (.putfield 7, 3) := by decide +kernel
theorem dX0_init_12 : decode cX0_init 12 = .ok (.aload_n 0, 1) := by decide +kernel
theorem dX0_init_13 : decode cX0_init 13 = .ok (.bipush 68, 2) := by decide +kernel
theorem dX0_init_15 : decode cX0_init 15 = .ok (.newarray .int, 2) := by decide +kernel
theorem dX0_init_17 : decode cX0_init 17 = .ok (.putfield 13, 3) := by decide +kernel
theorem dX0_init_20 : decode cX0_init 20 = .ok (.aload_n 0, 1) := by decide +kernel
theorem dX0_init_21 : decode cX0_init 21 = .ok (.bipush 68, 2) := by decide +kernel
theorem dX0_init_23 : decode cX0_init 23 = .ok (.newarray .int, 2) := by decide +kernel
theorem dX0_init_25 : decode cX0_init 25 = .ok (.putfield 16, 3) := by decide +kernel
theorem dX0_init_28 : decode cX0_init 28 = .ok (.aload_n 0, 1) := by decide +kernel
theorem dX0_init_29 : decode cX0_init 29 = .ok (.bipush 64, 2) := by decide +kernel
theorem dX0_init_31 : decode cX0_init 31 = .ok (.newarray .int, 2) := by decide +kernel
theorem dX0_init_33 : decode cX0_init 33 = .ok (.putfield 19, 3) := by decide +kernel
theorem dX0_init_36 : decode cX0_init 36 = .ok (.aload_n 0, 1) := by decide +kernel
theorem dX0_init_37 : decode cX0_init 37 = .ok (.bipush 64, 2) := by decide +kernel
theorem dX0_init_39 : decode cX0_init 39 = .ok (.newarray .int, 2) := by decide +kernel
theorem dX0_init_41 : decode cX0_init 41 = .ok (.putfield 22, 3) := by decide +kernel
theorem dX0_init_44 : decode cX0_init 44 = .ok (.return_, 1) := by decide +kernel
theorem dX0_type_0 : decode cX0_type 0 = .ok (.aload_n 0, 1) := by decide +kernel
theorem dX0_type_1 : decode cX0_type 1 = .ok (.iload_n 2, 1) := by decide +kernel
theorem dX0_type_2 : decode cX0_type 2 = .ok (.invokevirtual 84, 3) := by decide +kernel
theorem dX0_type_5 : decode cX0_type 5 = .ok (.ifCond .ne 15, 3) := by decide +kernel
theorem dX0_type_8 : decode cX0_type 8 = .ok (.iload_n 1, 1) := by decide +kernel
theorem dX0_type_9 : decode cX0_type 9 = .ok (.ifCond .lt 11, 3) := by decide +kernel
theorem dX0_type_12 : decode cX0_type 12 = .ok (.iload_n 1, 1) := by decide +kernel
theorem dX0_type_13 : decode cX0_type 13 = .ok (.aload_n 0, 1) := by decide +kernel
theorem dX0_type_14 : decode cX0_type 14 = .ok (.getfield 25, 3) := by decide +kernel
theorem dX0_type_17 : decode cX0_type 17 = .ok (.if_icmp .le 5, 3) := by decide +kernel
theorem dX0_type_20 : decode cX0_type 20 = .ok (.iconst (-1), 1) := by decide +kernel
theorem dX0_type_21 : decode cX0_type 21 = .ok (.ireturn, 1) := by decide +kernel
theorem dX0_type_22 : decode cX0_type 22 = .ok (.aload_n 0, 1) := by decide +kernel
theorem dX0_type_23 : decode cX0_type 23 = .ok (.getfield 25, 3) := by decide +kernel
theorem dX0_type_26 : decode cX0_type 26 = .ok (.bipush 64, 2) := by decide +kernel
theorem dX0_type_28 : decode cX0_type 28 = .ok (.if_icmp .ne 6, 3) := by decide +kernel
theorem dX0_type_31 : decode cX0_type 31 = .ok (.bipush (-2), 2) := by decide +kernel
theorem dX0_type_33 : decode cX0_type 33 = .ok (.ireturn, 1) := by decide +kernel
theorem dX0_type_34 : decode cX0_type 34 = .ok (.iconst 0, 1) := by decide +kernel
theorem dX0_type_35 : decode cX0_type 35 = .ok (.istore_n 3, 1) := by decide +kernel
theorem dX0_type_36 : decode cX0_type 36 = .ok (.aload_n 0, 1) := by decide +kernel
theorem dX0_type_37 : decode cX0_type 37 = .ok (.getfield 25, 3) := by decide +kernel
theorem dX0_type_40 : decode cX0_type 40 = .ok (.ifCond .le 19, 3) := by decide +kernel
theorem dX0_type_43 : decode cX0_type 43 = .ok (.aload_n 0, 1) := by decide +kernel
theorem dX0_type_44 : decode cX0_type 44 = .ok (.iload_n 1, 1) := by decide +kernel
theorem dX0_type_45 : decode cX0_type 45 = .ok (.ifCond .ne 7, 3) := by decide +kernel
theorem dX0_type_48 : decode cX0_type 48 = .ok (.iconst 0, 1) := by decide +kernel
theorem dX0_type_49 : decode cX0_type 49 = .ok (.goto 6, 3) := by decide +kernel
theorem dX0_type_52 : decode cX0_type 52 = .ok (.iload_n 1, 1) := by decide +kernel
theorem dX0_type_53 : decode cX0_type 53 = .ok (.iconst 1, 1) := by decide +kernel
theorem dX0_type_54 : decode cX0_type 54 = .ok (.isub, 1) := by decide +kernel
theorem dX0_type_55 : decode cX0_type 55 = .ok (.invokevirtual 88, 3) := by decide +kernel
theorem dX0_type_58 : decode cX0_type 58 = .ok (.istore_n 3, 1) := by decide +kernel
theorem dX0_type_59 : decode cX0_type 59 = .ok (.aload_n 0, 1) := by decide +kernel
theorem dX0_type_60 : decode cX0_type 60 = .ok (.iload_n 1, 1) := by decide +kernel
theorem dX0_type_61 : decode cX0_type 61 = .ok (.iload_n 2, 1) := by decide +kernel
theorem dX0_type_62 : decode cX0_type 62 = .ok (.iconst 1, 1) := by decide +kernel
theorem dX0_type_63 : decode cX0_type 63 = .ok (.iload_n 3, 1) := by decide +kernel
theorem dX0_type_64 : decode cX0_type 64 = .ok (.invokevirtual 91, 3) := by decide +kernel
theorem dX0_type_67 : decode cX0_type 67 = .ok (.aload_n 0, 1) := by decide +kernel
theorem dX0_type_68 : decode cX0_type 68 = .ok (.getfield 25, 3) := by decide +kernel
theorem dX0_type_71 : decode cX0_type 71 = .ok (.ireturn, 1) := by decide +kernel
theorem dX0_badLetter_0 : decode cX0_badLetter 0 = .ok (.iload_n 1, 1) := by decide +kernel
theorem dX0_badLetter_1 : decode cX0_badLetter 1 = .ok (.ifCond .lt 9, 3) := by decide +kernel
theorem dX0_badLetter_4 : decode cX0_badLetter 4 = .ok (.iload_n 1, 1) := by decide +kernel
theorem dX0_badLetter_5 : decode cX0_badLetter 5 = .ok (.bipush 25, 2) := by decide +kernel
theorem dX0_badLetter_7 : decode cX0_badLetter 7 = .ok (.if_icmp .le 7, 3) := by decide +kernel
theorem dX0_badLetter_10 : decode cX0_badLetter 10 = .ok (.iconst 1, 1) := by decide +kernel
theorem dX0_badLetter_11 : decode cX0_badLetter 11 = .ok (.goto 4, 3) := by decide +kernel
theorem dX0_badLetter_14 : decode cX0_badLetter 14 = .ok (.iconst 0, 1) := by decide +kernel
theorem dX0_badLetter_15 : decode cX0_badLetter 15 = .ok (.ireturn, 1) := by decide +kernel
theorem dX0_styleHere_0 : decode cX0_styleHere 0 = .ok (.aload_n 0, 1) := by decide +kernel
theorem dX0_styleHere_1 : decode cX0_styleHere 1 = .ok (.iload_n 1, 1) := by decide +kernel
theorem dX0_styleHere_2 : decode cX0_styleHere 2 = .ok (.invokevirtual 42, 3) := by decide +kernel
theorem dX0_styleHere_5 : decode cX0_styleHere 5 = .ok (.istore_n 2, 1) := by decide +kernel
theorem dX0_styleHere_6 : decode cX0_styleHere 6 = .ok (.aload_n 0, 1) := by decide +kernel
theorem dX0_styleHere_7 : decode cX0_styleHere 7 = .ok (.getfield 16, 3) := by decide +kernel
theorem dX0_styleHere_10 : decode cX0_styleHere 10 = .ok (.iload_n 2, 1) := by decide +kernel
theorem dX0_styleHere_11 : decode cX0_styleHere 11 = .ok (.iaload, 1) := by decide +kernel
theorem dX0_styleHere_12 : decode cX0_styleHere 12 = .ok (.ireturn, 1) := by decide +kernel
theorem dX0_runAt_0 : decode cX0_runAt 0 = .ok (.iconst 0, 1) := by decide +kernel
theorem dX0_runAt_1 : decode cX0_runAt 1 = .ok (.istore_n 2, 1) := by decide +kernel
theorem dX0_runAt_2 : decode cX0_runAt 2 = .ok (.aload_n 0, 1) := by decide +kernel
theorem dX0_runAt_3 : decode cX0_runAt 3 = .ok (.iconst 0, 1) := by decide +kernel
theorem dX0_runAt_4 : decode cX0_runAt 4 = .ok (.putfield 36, 3) := by decide +kernel
theorem dX0_runAt_7 : decode cX0_runAt 7 = .ok (.iconst 0, 1) := by decide +kernel
theorem dX0_runAt_8 : decode cX0_runAt 8 = .ok (.istore_n 3, 1) := by decide +kernel
theorem dX0_runAt_9 : decode cX0_runAt 9 = .ok (.iload_n 3, 1) := by decide +kernel
theorem dX0_runAt_10 : decode cX0_runAt 10 = .ok (.aload_n 0, 1) := by decide +kernel
theorem dX0_runAt_11 : decode cX0_runAt 11 = .ok (.getfield 39, 3) := by decide +kernel
theorem dX0_runAt_14 : decode cX0_runAt 14 = .ok (.if_icmp .ge 42, 3) := by decide +kernel
theorem dX0_runAt_17 : decode cX0_runAt 17 = .ok (.aload_n 0, 1) := by decide +kernel
theorem dX0_runAt_18 : decode cX0_runAt 18 = .ok (.getfield 36, 3) := by decide +kernel
theorem dX0_runAt_21 : decode cX0_runAt 21 = .ok (.aload_n 0, 1) := by decide +kernel
theorem dX0_runAt_22 : decode cX0_runAt 22 = .ok (.getfield 13, 3) := by decide +kernel
theorem dX0_runAt_25 : decode cX0_runAt 25 = .ok (.iload_n 2, 1) := by decide +kernel
theorem dX0_runAt_26 : decode cX0_runAt 26 = .ok (.iaload, 1) := by decide +kernel
theorem dX0_runAt_27 : decode cX0_runAt 27 = .ok (.iadd, 1) := by decide +kernel
theorem dX0_runAt_28 : decode cX0_runAt 28 = .ok (.iload_n 1, 1) := by decide +kernel
theorem dX0_runAt_29 : decode cX0_runAt 29 = .ok (.if_icmp .gt 27, 3) := by decide +kernel
theorem dX0_runAt_32 : decode cX0_runAt 32 = .ok (.aload_n 0, 1) := by decide +kernel
theorem dX0_runAt_33 : decode cX0_runAt 33 = .ok (.aload_n 0, 1) := by decide +kernel
theorem dX0_runAt_34 : decode cX0_runAt 34 = .ok (.getfield 36, 3) := by decide +kernel
theorem dX0_runAt_37 : decode cX0_runAt 37 = .ok (.aload_n 0, 1) := by decide +kernel
theorem dX0_runAt_38 : decode cX0_runAt 38 = .ok (.getfield 13, 3) := by decide +kernel
theorem dX0_runAt_41 : decode cX0_runAt 41 = .ok (.iload_n 2, 1) := by decide +kernel
theorem dX0_runAt_42 : decode cX0_runAt 42 = .ok (.iaload, 1) := by decide +kernel
theorem dX0_runAt_43 : decode cX0_runAt 43 = .ok (.iadd, 1) := by decide +kernel
theorem dX0_runAt_44 : decode cX0_runAt 44 = .ok (.putfield 36, 3) := by decide +kernel
theorem dX0_runAt_47 : decode cX0_runAt 47 = .ok (.iinc 2 1, 3) := by decide +kernel
theorem dX0_runAt_50 : decode cX0_runAt 50 = .ok (.iinc 3 1, 3) := by decide +kernel
theorem dX0_runAt_53 : decode cX0_runAt 53 = .ok (.goto (-44), 3) := by decide +kernel
theorem dX0_runAt_56 : decode cX0_runAt 56 = .ok (.iload_n 2, 1) := by decide +kernel
theorem dX0_runAt_57 : decode cX0_runAt 57 = .ok (.ireturn, 1) := by decide +kernel
theorem dX0_insert_0 : decode cX0_insert 0 = .ok (.iconst 0, 1) := by decide +kernel
theorem dX0_insert_1 : decode cX0_insert 1 = .ok (.istore 5, 2) := by decide +kernel
theorem dX0_insert_3 : decode cX0_insert 3 = .ok (.iload 5, 2) := by decide +kernel
theorem dX0_insert_5 : decode cX0_insert 5 = .ok (.iload_n 3, 1) := by decide +kernel
theorem dX0_insert_6 : decode cX0_insert 6 = .ok (.if_icmp .ge 15, 3) := by decide +kernel
theorem dX0_insert_9 : decode cX0_insert 9 = .ok (.aload_n 0, 1) := by decide +kernel
theorem dX0_insert_10 : decode cX0_insert 10 = .ok (.iload_n 1, 1) := by decide +kernel
theorem dX0_insert_11 : decode cX0_insert 11 = .ok (.iload_n 2, 1) := by decide +kernel
theorem dX0_insert_12 : decode cX0_insert 12 = .ok (.invokevirtual 61, 3) := by decide +kernel
theorem dX0_insert_15 : decode cX0_insert 15 = .ok (.iinc 5 1, 3) := by decide +kernel
theorem dX0_insert_18 : decode cX0_insert 18 = .ok (.goto (-15), 3) := by decide +kernel
theorem dX0_insert_21 : decode cX0_insert 21 = .ok (.aload_n 0, 1) := by decide +kernel
theorem dX0_insert_22 : decode cX0_insert 22 = .ok (.iload_n 1, 1) := by decide +kernel
theorem dX0_insert_23 : decode cX0_insert 23 = .ok (.iload_n 3, 1) := by decide +kernel
theorem dX0_insert_24 : decode cX0_insert 24 = .ok (.iload 4, 2) := by decide +kernel
theorem dX0_insert_26 : decode cX0_insert 26 = .ok (.invokevirtual 65, 3) := by decide +kernel
theorem dX0_insert_29 : decode cX0_insert 29 = .ok (.aload_n 0, 1) := by decide +kernel
theorem dX0_insert_30 : decode cX0_insert 30 = .ok (.iload_n 1, 1) := by decide +kernel
theorem dX0_insert_31 : decode cX0_insert 31 = .ok (.iload_n 3, 1) := by decide +kernel
theorem dX0_insert_32 : decode cX0_insert 32 = .ok (.invokevirtual 69, 3) := by decide +kernel
theorem dX0_insert_35 : decode cX0_insert 35 = .ok (.return_, 1) := by decide +kernel
theorem dX0_putLetter_0 : decode cX0_putLetter 0 = .ok (.aload_n 0, 1) := by decide +kernel
theorem dX0_putLetter_1 : decode cX0_putLetter 1 = .ok (.iload_n 1, 1) := by decide +kernel
theorem dX0_putLetter_2 : decode cX0_putLetter 2 = .ok (.invokevirtual 32, 3) := by decide +kernel
theorem dX0_putLetter_5 : decode cX0_putLetter 5 = .ok (.aload_n 0, 1) := by decide +kernel
theorem dX0_putLetter_6 : decode cX0_putLetter 6 = .ok (.getfield 7, 3) := by decide +kernel
theorem dX0_putLetter_9 : decode cX0_putLetter 9 = .ok (.aload_n 0, 1) := by decide +kernel
theorem dX0_putLetter_10 : decode cX0_putLetter 10 = .ok (.getfield 29, 3) := by decide +kernel
theorem dX0_putLetter_13 : decode cX0_putLetter 13 = .ok (.iload_n 2, 1) := by decide +kernel
theorem dX0_putLetter_14 : decode cX0_putLetter 14 = .ok (.iastore, 1) := by decide +kernel
theorem dX0_putLetter_15 : decode cX0_putLetter 15 = .ok (.aload_n 0, 1) := by decide +kernel
theorem dX0_putLetter_16 : decode cX0_putLetter 16 = .ok (.dup, 1) := by decide +kernel
theorem dX0_putLetter_17 : decode cX0_putLetter 17 = .ok (.getfield 29, 3) := by decide +kernel
theorem dX0_putLetter_20 : decode cX0_putLetter 20 = .ok (.iconst 1, 1) := by decide +kernel
theorem dX0_putLetter_21 : decode cX0_putLetter 21 = .ok (.iadd, 1) := by decide +kernel
theorem dX0_putLetter_22 : decode cX0_putLetter 22 = .ok (.putfield 29, 3) := by decide +kernel
theorem dX0_putLetter_25 : decode cX0_putLetter 25 = .ok (.aload_n 0, 1) := by decide +kernel
theorem dX0_putLetter_26 : decode cX0_putLetter 26 = .ok (.dup, 1) := by decide +kernel
theorem dX0_putLetter_27 : decode cX0_putLetter 27 = .ok (.getfield 25, 3) := by decide +kernel
theorem dX0_putLetter_30 : decode cX0_putLetter 30 = .ok (.iconst 1, 1) := by decide +kernel
theorem dX0_putLetter_31 : decode cX0_putLetter 31 = .ok (.iadd, 1) := by decide +kernel
theorem dX0_putLetter_32 : decode cX0_putLetter 32 = .ok (.putfield 25, 3) := by decide +kernel
theorem dX0_putLetter_35 : decode cX0_putLetter 35 = .ok (.return_, 1) := by decide +kernel
theorem dX0_moveGap_0 : decode cX0_moveGap 0 = .ok (.bipush 64, 2) := by decide +kernel
theorem dX0_moveGap_2 : decode cX0_moveGap 2 = .ok (.aload_n 0, 1) := by decide +kernel
theorem dX0_moveGap_3 : decode cX0_moveGap 3 = .ok (.getfield 25, 3) := by decide +kernel
theorem dX0_moveGap_6 : decode cX0_moveGap 6 = .ok (.isub, 1) := by decide +kernel
theorem dX0_moveGap_7 : decode cX0_moveGap 7 = .ok (.istore_n 2, 1) := by decide +kernel
theorem dX0_moveGap_8 : decode cX0_moveGap 8 = .ok (.aload_n 0, 1) := by decide +kernel
theorem dX0_moveGap_9 : decode cX0_moveGap 9 = .ok (.getfield 29, 3) := by decide +kernel
theorem dX0_moveGap_12 : decode cX0_moveGap 12 = .ok (.iconst 1, 1) := by decide +kernel
theorem dX0_moveGap_13 : decode cX0_moveGap 13 = .ok (.isub, 1) := by decide +kernel
theorem dX0_moveGap_14 : decode cX0_moveGap 14 = .ok (.istore_n 3, 1) := by decide +kernel
theorem dX0_moveGap_15 : decode cX0_moveGap 15 = .ok (.iload_n 3, 1) := by decide +kernel
theorem dX0_moveGap_16 : decode cX0_moveGap 16 = .ok (.iload_n 1, 1) := by decide +kernel
theorem dX0_moveGap_17 : decode cX0_moveGap 17 = .ok (.if_icmp .lt 23, 3) := by decide +kernel
theorem dX0_moveGap_20 : decode cX0_moveGap 20 = .ok (.aload_n 0, 1) := by decide +kernel
theorem dX0_moveGap_21 : decode cX0_moveGap 21 = .ok (.getfield 7, 3) := by decide +kernel
theorem dX0_moveGap_24 : decode cX0_moveGap 24 = .ok (.iload_n 3, 1) := by decide +kernel
theorem dX0_moveGap_25 : decode cX0_moveGap 25 = .ok (.iload_n 2, 1) := by decide +kernel
theorem dX0_moveGap_26 : decode cX0_moveGap 26 = .ok (.iadd, 1) := by decide +kernel
theorem dX0_moveGap_27 : decode cX0_moveGap 27 = .ok (.aload_n 0, 1) := by decide +kernel
theorem dX0_moveGap_28 : decode cX0_moveGap 28 = .ok (.getfield 7, 3) := by decide +kernel
theorem dX0_moveGap_31 : decode cX0_moveGap 31 = .ok (.iload_n 3, 1) := by decide +kernel
theorem dX0_moveGap_32 : decode cX0_moveGap 32 = .ok (.iaload, 1) := by decide +kernel
theorem dX0_moveGap_33 : decode cX0_moveGap 33 = .ok (.iastore, 1) := by decide +kernel
theorem dX0_moveGap_34 : decode cX0_moveGap 34 = .ok (.iinc 3 (-1), 3) := by decide +kernel
theorem dX0_moveGap_37 : decode cX0_moveGap 37 = .ok (.goto (-22), 3) := by decide +kernel
theorem dX0_moveGap_40 : decode cX0_moveGap 40 = .ok (.aload_n 0, 1) := by decide +kernel
theorem dX0_moveGap_41 : decode cX0_moveGap 41 = .ok (.getfield 29, 3) := by decide +kernel
theorem dX0_moveGap_44 : decode cX0_moveGap 44 = .ok (.istore_n 3, 1) := by decide +kernel
theorem dX0_moveGap_45 : decode cX0_moveGap 45 = .ok (.iload_n 3, 1) := by decide +kernel
theorem dX0_moveGap_46 : decode cX0_moveGap 46 = .ok (.iload_n 1, 1) := by decide +kernel
theorem dX0_moveGap_47 : decode cX0_moveGap 47 = .ok (.if_icmp .ge 23, 3) := by decide +kernel
theorem dX0_moveGap_50 : decode cX0_moveGap 50 = .ok (.aload_n 0, 1) := by decide +kernel
theorem dX0_moveGap_51 : decode cX0_moveGap 51 = .ok (.getfield 7, 3) := by decide +kernel
theorem dX0_moveGap_54 : decode cX0_moveGap 54 = .ok (.iload_n 3, 1) := by decide +kernel
theorem dX0_moveGap_55 : decode cX0_moveGap 55 = .ok (.aload_n 0, 1) := by decide +kernel
theorem dX0_moveGap_56 : decode cX0_moveGap 56 = .ok (.getfield 7, 3) := by decide +kernel
theorem dX0_moveGap_59 : decode cX0_moveGap 59 = .ok (.iload_n 3, 1) := by decide +kernel
theorem dX0_moveGap_60 : decode cX0_moveGap 60 = .ok (.iload_n 2, 1) := by decide +kernel
theorem dX0_moveGap_61 : decode cX0_moveGap 61 = .ok (.iadd, 1) := by decide +kernel
theorem dX0_moveGap_62 : decode cX0_moveGap 62 = .ok (.iaload, 1) := by decide +kernel
theorem dX0_moveGap_63 : decode cX0_moveGap 63 = .ok (.iastore, 1) := by decide +kernel
theorem dX0_moveGap_64 : decode cX0_moveGap 64 = .ok (.iinc 3 1, 3) := by decide +kernel
theorem dX0_moveGap_67 : decode cX0_moveGap 67 = .ok (.goto (-22), 3) := by decide +kernel
theorem dX0_moveGap_70 : decode cX0_moveGap 70 = .ok (.aload_n 0, 1) := by decide +kernel
theorem dX0_moveGap_71 : decode cX0_moveGap 71 = .ok (.iload_n 1, 1) := by decide +kernel
theorem dX0_moveGap_72 : decode cX0_moveGap 72 = .ok (.putfield 29, 3) := by decide +kernel
theorem dX0_moveGap_75 : decode cX0_moveGap 75 = .ok (.return_, 1) := by decide +kernel
theorem dX0_putStyles_0 : decode cX0_putStyles 0 = .ok (.iload_n 2, 1) := by decide +kernel
theorem dX0_putStyles_1 : decode cX0_putStyles 1 = .ok (.ifCond .ne 4, 3) := by decide +kernel
theorem dX0_putStyles_4 : decode cX0_putStyles 4 = .ok (.return_, 1) := by decide +kernel
theorem dX0_putStyles_5 : decode cX0_putStyles 5 = .ok (.aload_n 0, 1) := by decide +kernel
theorem dX0_putStyles_6 : decode cX0_putStyles 6 = .ok (.iload_n 1, 1) := by decide +kernel
theorem dX0_putStyles_7 : decode cX0_putStyles 7 = .ok (.invokevirtual 52, 3) := by decide +kernel
theorem dX0_putStyles_10 : decode cX0_putStyles 10 = .ok (.istore 4, 2) := by decide +kernel
theorem dX0_putStyles_12 : decode cX0_putStyles 12 = .ok (.aload_n 0, 1) := by decide +kernel
theorem dX0_putStyles_13 : decode cX0_putStyles 13 = .ok (.iload 4, 2) := by decide +kernel
theorem dX0_putStyles_15 : decode cX0_putStyles 15 = .ok (.invokevirtual 46, 3) := by decide +kernel
theorem dX0_putStyles_18 : decode cX0_putStyles 18 = .ok (.aload_n 0, 1) := by decide +kernel
theorem dX0_putStyles_19 : decode cX0_putStyles 19 = .ok (.getfield 13, 3) := by decide +kernel
theorem dX0_putStyles_22 : decode cX0_putStyles 22 = .ok (.iload 4, 2) := by decide +kernel
theorem dX0_putStyles_24 : decode cX0_putStyles 24 = .ok (.iload_n 2, 1) := by decide +kernel
theorem dX0_putStyles_25 : decode cX0_putStyles 25 = .ok (.iastore, 1) := by decide +kernel
theorem dX0_putStyles_26 : decode cX0_putStyles 26 = .ok (.aload_n 0, 1) := by decide +kernel
theorem dX0_putStyles_27 : decode cX0_putStyles 27 = .ok (.getfield 16, 3) := by decide +kernel
theorem dX0_putStyles_30 : decode cX0_putStyles 30 = .ok (.iload 4, 2) := by decide +kernel
theorem dX0_putStyles_32 : decode cX0_putStyles 32 = .ok (.iload_n 3, 1) := by decide +kernel
theorem dX0_putStyles_33 : decode cX0_putStyles 33 = .ok (.iastore, 1) := by decide +kernel
theorem dX0_putStyles_34 : decode cX0_putStyles 34 = .ok (.aload_n 0, 1) := by decide +kernel
theorem dX0_putStyles_35 : decode cX0_putStyles 35 = .ok (.invokevirtual 55, 3) := by decide +kernel
theorem dX0_putStyles_38 : decode cX0_putStyles 38 = .ok (.return_, 1) := by decide +kernel
theorem dX0_cutAt_0 : decode cX0_cutAt 0 = .ok (.aload_n 0, 1) := by decide +kernel
theorem dX0_cutAt_1 : decode cX0_cutAt 1 = .ok (.iload_n 1, 1) := by decide +kernel
theorem dX0_cutAt_2 : decode cX0_cutAt 2 = .ok (.invokevirtual 42, 3) := by decide +kernel
theorem dX0_cutAt_5 : decode cX0_cutAt 5 = .ok (.istore_n 2, 1) := by decide +kernel
theorem dX0_cutAt_6 : decode cX0_cutAt 6 = .ok (.iload_n 2, 1) := by decide +kernel
theorem dX0_cutAt_7 : decode cX0_cutAt 7 = .ok (.aload_n 0, 1) := by decide +kernel
theorem dX0_cutAt_8 : decode cX0_cutAt 8 = .ok (.getfield 39, 3) := by decide +kernel
theorem dX0_cutAt_11 : decode cX0_cutAt 11 = .ok (.if_icmp .ge 54, 3) := by decide +kernel
theorem dX0_cutAt_14 : decode cX0_cutAt 14 = .ok (.aload_n 0, 1) := by decide +kernel
theorem dX0_cutAt_15 : decode cX0_cutAt 15 = .ok (.getfield 36, 3) := by decide +kernel
theorem dX0_cutAt_18 : decode cX0_cutAt 18 = .ok (.iload_n 1, 1) := by decide +kernel
theorem dX0_cutAt_19 : decode cX0_cutAt 19 = .ok (.if_icmp .ge 46, 3) := by decide +kernel
theorem dX0_cutAt_22 : decode cX0_cutAt 22 = .ok (.aload_n 0, 1) := by decide +kernel
theorem dX0_cutAt_23 : decode cX0_cutAt 23 = .ok (.iload_n 2, 1) := by decide +kernel
theorem dX0_cutAt_24 : decode cX0_cutAt 24 = .ok (.invokevirtual 46, 3) := by decide +kernel
theorem dX0_cutAt_27 : decode cX0_cutAt 27 = .ok (.aload_n 0, 1) := by decide +kernel
theorem dX0_cutAt_28 : decode cX0_cutAt 28 = .ok (.getfield 13, 3) := by decide +kernel
theorem dX0_cutAt_31 : decode cX0_cutAt 31 = .ok (.iload_n 2, 1) := by decide +kernel
theorem dX0_cutAt_32 : decode cX0_cutAt 32 = .ok (.iload_n 1, 1) := by decide +kernel
theorem dX0_cutAt_33 : decode cX0_cutAt 33 = .ok (.aload_n 0, 1) := by decide +kernel
theorem dX0_cutAt_34 : decode cX0_cutAt 34 = .ok (.getfield 36, 3) := by decide +kernel
theorem dX0_cutAt_37 : decode cX0_cutAt 37 = .ok (.isub, 1) := by decide +kernel
theorem dX0_cutAt_38 : decode cX0_cutAt 38 = .ok (.iastore, 1) := by decide +kernel
theorem dX0_cutAt_39 : decode cX0_cutAt 39 = .ok (.aload_n 0, 1) := by decide +kernel
theorem dX0_cutAt_40 : decode cX0_cutAt 40 = .ok (.getfield 13, 3) := by decide +kernel
theorem dX0_cutAt_43 : decode cX0_cutAt 43 = .ok (.iload_n 2, 1) := by decide +kernel
theorem dX0_cutAt_44 : decode cX0_cutAt 44 = .ok (.iconst 1, 1) := by decide +kernel
theorem dX0_cutAt_45 : decode cX0_cutAt 45 = .ok (.iadd, 1) := by decide +kernel
theorem dX0_cutAt_46 : decode cX0_cutAt 46 = .ok (.aload_n 0, 1) := by decide +kernel
theorem dX0_cutAt_47 : decode cX0_cutAt 47 = .ok (.getfield 13, 3) := by decide +kernel
theorem dX0_cutAt_50 : decode cX0_cutAt 50 = .ok (.iload_n 2, 1) := by decide +kernel
theorem dX0_cutAt_51 : decode cX0_cutAt 51 = .ok (.iconst 1, 1) := by decide +kernel
theorem dX0_cutAt_52 : decode cX0_cutAt 52 = .ok (.iadd, 1) := by decide +kernel
theorem dX0_cutAt_53 : decode cX0_cutAt 53 = .ok (.iaload, 1) := by decide +kernel
theorem dX0_cutAt_54 : decode cX0_cutAt 54 = .ok (.aload_n 0, 1) := by decide +kernel
theorem dX0_cutAt_55 : decode cX0_cutAt 55 = .ok (.getfield 13, 3) := by decide +kernel
theorem dX0_cutAt_58 : decode cX0_cutAt 58 = .ok (.iload_n 2, 1) := by decide +kernel
theorem dX0_cutAt_59 : decode cX0_cutAt 59 = .ok (.iaload, 1) := by decide +kernel
theorem dX0_cutAt_60 : decode cX0_cutAt 60 = .ok (.isub, 1) := by decide +kernel
theorem dX0_cutAt_61 : decode cX0_cutAt 61 = .ok (.iastore, 1) := by decide +kernel
theorem dX0_cutAt_62 : decode cX0_cutAt 62 = .ok (.iinc 2 1, 3) := by decide +kernel
theorem dX0_cutAt_65 : decode cX0_cutAt 65 = .ok (.iload_n 2, 1) := by decide +kernel
theorem dX0_cutAt_66 : decode cX0_cutAt 66 = .ok (.ireturn, 1) := by decide +kernel
theorem dX0_openRun_0 : decode cX0_openRun 0 = .ok (.aload_n 0, 1) := by decide +kernel
theorem dX0_openRun_1 : decode cX0_openRun 1 = .ok (.getfield 39, 3) := by decide +kernel
theorem dX0_openRun_4 : decode cX0_openRun 4 = .ok (.istore_n 2, 1) := by decide +kernel
theorem dX0_openRun_5 : decode cX0_openRun 5 = .ok (.iload_n 2, 1) := by decide +kernel
theorem dX0_openRun_6 : decode cX0_openRun 6 = .ok (.iload_n 1, 1) := by decide +kernel
theorem dX0_openRun_7 : decode cX0_openRun 7 = .ok (.if_icmp .le 37, 3) := by decide +kernel
theorem dX0_openRun_10 : decode cX0_openRun 10 = .ok (.aload_n 0, 1) := by decide +kernel
theorem dX0_openRun_11 : decode cX0_openRun 11 = .ok (.getfield 13, 3) := by decide +kernel
theorem dX0_openRun_14 : decode cX0_openRun 14 = .ok (.iload_n 2, 1) := by decide +kernel
theorem dX0_openRun_15 : decode cX0_openRun 15 = .ok (.aload_n 0, 1) := by decide +kernel
theorem dX0_openRun_16 : decode cX0_openRun 16 = .ok (.getfield 13, 3) := by decide +kernel
theorem dX0_openRun_19 : decode cX0_openRun 19 = .ok (.iload_n 2, 1) := by decide +kernel
theorem dX0_openRun_20 : decode cX0_openRun 20 = .ok (.iconst 1, 1) := by decide +kernel
theorem dX0_openRun_21 : decode cX0_openRun 21 = .ok (.isub, 1) := by decide +kernel
theorem dX0_openRun_22 : decode cX0_openRun 22 = .ok (.iaload, 1) := by decide +kernel
theorem dX0_openRun_23 : decode cX0_openRun 23 = .ok (.iastore, 1) := by decide +kernel
theorem dX0_openRun_24 : decode cX0_openRun 24 = .ok (.aload_n 0, 1) := by decide +kernel
theorem dX0_openRun_25 : decode cX0_openRun 25 = .ok (.getfield 16, 3) := by decide +kernel
theorem dX0_openRun_28 : decode cX0_openRun 28 = .ok (.iload_n 2, 1) := by decide +kernel
theorem dX0_openRun_29 : decode cX0_openRun 29 = .ok (.aload_n 0, 1) := by decide +kernel
theorem dX0_openRun_30 : decode cX0_openRun 30 = .ok (.getfield 16, 3) := by decide +kernel
theorem dX0_openRun_33 : decode cX0_openRun 33 = .ok (.iload_n 2, 1) := by decide +kernel
theorem dX0_openRun_34 : decode cX0_openRun 34 = .ok (.iconst 1, 1) := by decide +kernel
theorem dX0_openRun_35 : decode cX0_openRun 35 = .ok (.isub, 1) := by decide +kernel
theorem dX0_openRun_36 : decode cX0_openRun 36 = .ok (.iaload, 1) := by decide +kernel
theorem dX0_openRun_37 : decode cX0_openRun 37 = .ok (.iastore, 1) := by decide +kernel
theorem dX0_openRun_38 : decode cX0_openRun 38 = .ok (.iinc 2 (-1), 3) := by decide +kernel
theorem dX0_openRun_41 : decode cX0_openRun 41 = .ok (.goto (-36), 3) := by decide +kernel
theorem dX0_openRun_44 : decode cX0_openRun 44 = .ok (.aload_n 0, 1) := by decide +kernel
theorem dX0_openRun_45 : decode cX0_openRun 45 = .ok (.dup, 1) := by decide +kernel
theorem dX0_openRun_46 : decode cX0_openRun 46 = .ok (.getfield 39, 3) := by decide +kernel
theorem dX0_openRun_49 : decode cX0_openRun 49 = .ok (.iconst 1, 1) := by decide +kernel
theorem dX0_openRun_50 : decode cX0_openRun 50 = .ok (.iadd, 1) := by decide +kernel
theorem dX0_openRun_51 : decode cX0_openRun 51 = .ok (.putfield 39, 3) := by decide +kernel
theorem dX0_openRun_54 : decode cX0_openRun 54 = .ok (.return_, 1) := by decide +kernel
theorem dX0_joinRuns_0 : decode cX0_joinRuns 0 = .ok (.aload_n 0, 1) := by decide +kernel
theorem dX0_joinRuns_1 : decode cX0_joinRuns 1 = .ok (.getfield 39, 3) := by decide +kernel
theorem dX0_joinRuns_4 : decode cX0_joinRuns 4 = .ok (.iconst 1, 1) := by decide +kernel
theorem dX0_joinRuns_5 : decode cX0_joinRuns 5 = .ok (.isub, 1) := by decide +kernel
theorem dX0_joinRuns_6 : decode cX0_joinRuns 6 = .ok (.istore_n 1, 1) := by decide +kernel
theorem dX0_joinRuns_7 : decode cX0_joinRuns 7 = .ok (.iload_n 1, 1) := by decide +kernel
theorem dX0_joinRuns_8 : decode cX0_joinRuns 8 = .ok (.ifCond .le 54, 3) := by decide +kernel
theorem dX0_joinRuns_11 : decode cX0_joinRuns 11 = .ok (.aload_n 0, 1) := by decide +kernel
theorem dX0_joinRuns_12 : decode cX0_joinRuns 12 = .ok (.getfield 16, 3) := by decide +kernel
theorem dX0_joinRuns_15 : decode cX0_joinRuns 15 = .ok (.iload_n 1, 1) := by decide +kernel
theorem dX0_joinRuns_16 : decode cX0_joinRuns 16 = .ok (.iaload, 1) := by decide +kernel
theorem dX0_joinRuns_17 : decode cX0_joinRuns 17 = .ok (.aload_n 0, 1) := by decide +kernel
theorem dX0_joinRuns_18 : decode cX0_joinRuns 18 = .ok (.getfield 16, 3) := by decide +kernel
theorem dX0_joinRuns_21 : decode cX0_joinRuns 21 = .ok (.iload_n 1, 1) := by decide +kernel
theorem dX0_joinRuns_22 : decode cX0_joinRuns 22 = .ok (.iconst 1, 1) := by decide +kernel
theorem dX0_joinRuns_23 : decode cX0_joinRuns 23 = .ok (.isub, 1) := by decide +kernel
theorem dX0_joinRuns_24 : decode cX0_joinRuns 24 = .ok (.iaload, 1) := by decide +kernel
theorem dX0_joinRuns_25 : decode cX0_joinRuns 25 = .ok (.if_icmp .ne 31, 3) := by decide +kernel
theorem dX0_joinRuns_28 : decode cX0_joinRuns 28 = .ok (.aload_n 0, 1) := by decide +kernel
theorem dX0_joinRuns_29 : decode cX0_joinRuns 29 = .ok (.getfield 13, 3) := by decide +kernel
theorem dX0_joinRuns_32 : decode cX0_joinRuns 32 = .ok (.iload_n 1, 1) := by decide +kernel
theorem dX0_joinRuns_33 : decode cX0_joinRuns 33 = .ok (.iconst 1, 1) := by decide +kernel
theorem dX0_joinRuns_34 : decode cX0_joinRuns 34 = .ok (.isub, 1) := by decide +kernel
theorem dX0_joinRuns_35 : decode cX0_joinRuns 35 = .ok (.aload_n 0, 1) := by decide +kernel
theorem dX0_joinRuns_36 : decode cX0_joinRuns 36 = .ok (.getfield 13, 3) := by decide +kernel
theorem dX0_joinRuns_39 : decode cX0_joinRuns 39 = .ok (.iload_n 1, 1) := by decide +kernel
theorem dX0_joinRuns_40 : decode cX0_joinRuns 40 = .ok (.iconst 1, 1) := by decide +kernel
theorem dX0_joinRuns_41 : decode cX0_joinRuns 41 = .ok (.isub, 1) := by decide +kernel
theorem dX0_joinRuns_42 : decode cX0_joinRuns 42 = .ok (.iaload, 1) := by decide +kernel
theorem dX0_joinRuns_43 : decode cX0_joinRuns 43 = .ok (.aload_n 0, 1) := by decide +kernel
theorem dX0_joinRuns_44 : decode cX0_joinRuns 44 = .ok (.getfield 13, 3) := by decide +kernel
theorem dX0_joinRuns_47 : decode cX0_joinRuns 47 = .ok (.iload_n 1, 1) := by decide +kernel
theorem dX0_joinRuns_48 : decode cX0_joinRuns 48 = .ok (.iaload, 1) := by decide +kernel
theorem dX0_joinRuns_49 : decode cX0_joinRuns 49 = .ok (.iadd, 1) := by decide +kernel
theorem dX0_joinRuns_50 : decode cX0_joinRuns 50 = .ok (.iastore, 1) := by decide +kernel
theorem dX0_joinRuns_51 : decode cX0_joinRuns 51 = .ok (.aload_n 0, 1) := by decide +kernel
theorem dX0_joinRuns_52 : decode cX0_joinRuns 52 = .ok (.iload_n 1, 1) := by decide +kernel
theorem dX0_joinRuns_53 : decode cX0_joinRuns 53 = .ok (.invokevirtual 49, 3) := by decide +kernel
theorem dX0_joinRuns_56 : decode cX0_joinRuns 56 = .ok (.iinc 1 (-1), 3) := by decide +kernel
theorem dX0_joinRuns_59 : decode cX0_joinRuns 59 = .ok (.goto (-52), 3) := by decide +kernel
theorem dX0_joinRuns_62 : decode cX0_joinRuns 62 = .ok (.return_, 1) := by decide +kernel
theorem dX0_closeRun_0 : decode cX0_closeRun 0 = .ok (.aload_n 0, 1) := by decide +kernel
theorem dX0_closeRun_1 : decode cX0_closeRun 1 = .ok (.dup, 1) := by decide +kernel
theorem dX0_closeRun_2 : decode cX0_closeRun 2 = .ok (.getfield 39, 3) := by decide +kernel
theorem dX0_closeRun_5 : decode cX0_closeRun 5 = .ok (.iconst 1, 1) := by decide +kernel
theorem dX0_closeRun_6 : decode cX0_closeRun 6 = .ok (.isub, 1) := by decide +kernel
theorem dX0_closeRun_7 : decode cX0_closeRun 7 = .ok (.putfield 39, 3) := by decide +kernel
theorem dX0_closeRun_10 : decode cX0_closeRun 10 = .ok (.iload_n 1, 1) := by decide +kernel
theorem dX0_closeRun_11 : decode cX0_closeRun 11 = .ok (.istore_n 2, 1) := by decide +kernel
theorem dX0_closeRun_12 : decode cX0_closeRun 12 = .ok (.iload_n 2, 1) := by decide +kernel
theorem dX0_closeRun_13 : decode cX0_closeRun 13 = .ok (.aload_n 0, 1) := by decide +kernel
theorem dX0_closeRun_14 : decode cX0_closeRun 14 = .ok (.getfield 39, 3) := by decide +kernel
theorem dX0_closeRun_17 : decode cX0_closeRun 17 = .ok (.if_icmp .ge 37, 3) := by decide +kernel
theorem dX0_closeRun_20 : decode cX0_closeRun 20 = .ok (.aload_n 0, 1) := by decide +kernel
theorem dX0_closeRun_21 : decode cX0_closeRun 21 = .ok (.getfield 13, 3) := by decide +kernel
theorem dX0_closeRun_24 : decode cX0_closeRun 24 = .ok (.iload_n 2, 1) := by decide +kernel
theorem dX0_closeRun_25 : decode cX0_closeRun 25 = .ok (.aload_n 0, 1) := by decide +kernel
theorem dX0_closeRun_26 : decode cX0_closeRun 26 = .ok (.getfield 13, 3) := by decide +kernel
theorem dX0_closeRun_29 : decode cX0_closeRun 29 = .ok (.iload_n 2, 1) := by decide +kernel
theorem dX0_closeRun_30 : decode cX0_closeRun 30 = .ok (.iconst 1, 1) := by decide +kernel
theorem dX0_closeRun_31 : decode cX0_closeRun 31 = .ok (.iadd, 1) := by decide +kernel
theorem dX0_closeRun_32 : decode cX0_closeRun 32 = .ok (.iaload, 1) := by decide +kernel
theorem dX0_closeRun_33 : decode cX0_closeRun 33 = .ok (.iastore, 1) := by decide +kernel
theorem dX0_closeRun_34 : decode cX0_closeRun 34 = .ok (.aload_n 0, 1) := by decide +kernel
theorem dX0_closeRun_35 : decode cX0_closeRun 35 = .ok (.getfield 16, 3) := by decide +kernel
theorem dX0_closeRun_38 : decode cX0_closeRun 38 = .ok (.iload_n 2, 1) := by decide +kernel
theorem dX0_closeRun_39 : decode cX0_closeRun 39 = .ok (.aload_n 0, 1) := by decide +kernel
theorem dX0_closeRun_40 : decode cX0_closeRun 40 = .ok (.getfield 16, 3) := by decide +kernel
theorem dX0_closeRun_43 : decode cX0_closeRun 43 = .ok (.iload_n 2, 1) := by decide +kernel
theorem dX0_closeRun_44 : decode cX0_closeRun 44 = .ok (.iconst 1, 1) := by decide +kernel
theorem dX0_closeRun_45 : decode cX0_closeRun 45 = .ok (.iadd, 1) := by decide +kernel
theorem dX0_closeRun_46 : decode cX0_closeRun 46 = .ok (.iaload, 1) := by decide +kernel
theorem dX0_closeRun_47 : decode cX0_closeRun 47 = .ok (.iastore, 1) := by decide +kernel
theorem dX0_closeRun_48 : decode cX0_closeRun 48 = .ok (.iinc 2 1, 3) := by decide +kernel
theorem dX0_closeRun_51 : decode cX0_closeRun 51 = .ok (.goto (-39), 3) := by decide +kernel
theorem dX0_closeRun_54 : decode cX0_closeRun 54 = .ok (.return_, 1) := by decide +kernel
theorem dX0_moveFlag_0 : decode cX0_moveFlag 0 = .ok (.iload_n 1, 1) := by decide +kernel
theorem dX0_moveFlag_1 : decode cX0_moveFlag 1 = .ok (.aload_n 0, 1) := by decide +kernel
theorem dX0_moveFlag_2 : decode cX0_moveFlag 2 = .ok (.getfield 58, 3) := by decide +kernel
theorem dX0_moveFlag_5 : decode cX0_moveFlag 5 = .ok (.if_icmp .ge 13, 3) := by decide +kernel
theorem dX0_moveFlag_8 : decode cX0_moveFlag 8 = .ok (.aload_n 0, 1) := by decide +kernel
theorem dX0_moveFlag_9 : decode cX0_moveFlag 9 = .ok (.aload_n 0, 1) := by decide +kernel
theorem dX0_moveFlag_10 : decode cX0_moveFlag 10 = .ok (.getfield 58, 3) := by decide +kernel
theorem dX0_moveFlag_13 : decode cX0_moveFlag 13 = .ok (.iload_n 2, 1) := by decide +kernel
theorem dX0_moveFlag_14 : decode cX0_moveFlag 14 = .ok (.iadd, 1) := by decide +kernel
theorem dX0_moveFlag_15 : decode cX0_moveFlag 15 = .ok (.putfield 58, 3) := by decide +kernel
theorem dX0_moveFlag_18 : decode cX0_moveFlag 18 = .ok (.return_, 1) := by decide +kernel
theorem dX0_put_0 : decode cX0_put 0 = .ok (.aload_n 0, 1) := by decide +kernel
theorem dX0_put_1 : decode cX0_put 1 = .ok (.iload_n 2, 1) := by decide +kernel
theorem dX0_put_2 : decode cX0_put 2 = .ok (.invokevirtual 84, 3) := by decide +kernel
theorem dX0_put_5 : decode cX0_put 5 = .ok (.ifCond .ne 37, 3) := by decide +kernel
theorem dX0_put_8 : decode cX0_put 8 = .ok (.iload_n 1, 1) := by decide +kernel
theorem dX0_put_9 : decode cX0_put 9 = .ok (.ifCond .lt 33, 3) := by decide +kernel
theorem dX0_put_12 : decode cX0_put 12 = .ok (.iload_n 1, 1) := by decide +kernel
theorem dX0_put_13 : decode cX0_put 13 = .ok (.aload_n 0, 1) := by decide +kernel
theorem dX0_put_14 : decode cX0_put 14 = .ok (.getfield 25, 3) := by decide +kernel
theorem dX0_put_17 : decode cX0_put 17 = .ok (.if_icmp .gt 25, 3) := by decide +kernel
theorem dX0_put_20 : decode cX0_put 20 = .ok (.iload_n 3, 1) := by decide +kernel
theorem dX0_put_21 : decode cX0_put 21 = .ok (.ifCond .lt 21, 3) := by decide +kernel
theorem dX0_put_24 : decode cX0_put 24 = .ok (.iload_n 3, 1) := by decide +kernel
theorem dX0_put_25 : decode cX0_put 25 = .ok (.bipush 64, 2) := by decide +kernel
theorem dX0_put_27 : decode cX0_put 27 = .ok (.if_icmp .gt 15, 3) := by decide +kernel
theorem dX0_put_30 : decode cX0_put 30 = .ok (.iload 4, 2) := by decide +kernel
theorem dX0_put_32 : decode cX0_put 32 = .ok (.ifCond .lt 10, 3) := by decide +kernel
theorem dX0_put_35 : decode cX0_put 35 = .ok (.iload 4, 2) := by decide +kernel
theorem dX0_put_37 : decode cX0_put 37 = .ok (.bipush 63, 2) := by decide +kernel
theorem dX0_put_39 : decode cX0_put 39 = .ok (.if_icmp .le 5, 3) := by decide +kernel
theorem dX0_put_42 : decode cX0_put 42 = .ok (.iconst (-1), 1) := by decide +kernel
theorem dX0_put_43 : decode cX0_put 43 = .ok (.ireturn, 1) := by decide +kernel
theorem dX0_put_44 : decode cX0_put 44 = .ok (.aload_n 0, 1) := by decide +kernel
theorem dX0_put_45 : decode cX0_put 45 = .ok (.getfield 25, 3) := by decide +kernel
theorem dX0_put_48 : decode cX0_put 48 = .ok (.iload_n 3, 1) := by decide +kernel
end
section
set_option maxRecDepth 100000
theorem dX0_put_49 : decode cX0_put 49 = .ok (.iadd, 1) := by decide +kernel
theorem dX0_put_50 : decode cX0_put 50 = .ok (.bipush 64, 2) := by decide +kernel
theorem dX0_put_52 : decode cX0_put 52 = .ok (.if_icmp .le 6, 3) := by decide +kernel
theorem dX0_put_55 : decode cX0_put 55 = .ok (.bipush (-2), 2) := by decide +kernel
theorem dX0_put_57 : decode cX0_put 57 = .ok (.ireturn, 1) := by decide +kernel
theorem dX0_put_58 : decode cX0_put 58 = .ok (.aload_n 0, 1) := by decide +kernel
theorem dX0_put_59 : decode cX0_put 59 = .ok (.iload_n 1, 1) := by decide +kernel
theorem dX0_put_60 : decode cX0_put 60 = .ok (.iload_n 2, 1) := by decide +kernel
theorem dX0_put_61 : decode cX0_put 61 = .ok (.iload_n 3, 1) := by decide +kernel
theorem dX0_put_62 : decode cX0_put 62 = .ok (.iload 4, 2) := by decide +kernel
theorem dX0_put_64 : decode cX0_put 64 = .ok (.invokevirtual 91, 3) := by decide +kernel
theorem dX0_put_67 : decode cX0_put 67 = .ok (.aload_n 0, 1) := by decide +kernel
theorem dX0_put_68 : decode cX0_put 68 = .ok (.getfield 25, 3) := by decide +kernel
theorem dX0_put_71 : decode cX0_put 71 = .ok (.ireturn, 1) := by decide +kernel
theorem dX0_remove_0 : decode cX0_remove 0 = .ok (.aload_n 0, 1) := by decide +kernel
theorem dX0_remove_1 : decode cX0_remove 1 = .ok (.iload_n 1, 1) := by decide +kernel
theorem dX0_remove_2 : decode cX0_remove 2 = .ok (.iload_n 2, 1) := by decide +kernel
theorem dX0_remove_3 : decode cX0_remove 3 = .ok (.invokevirtual 95, 3) := by decide +kernel
theorem dX0_remove_6 : decode cX0_remove 6 = .ok (.ifCond .eq 5, 3) := by decide +kernel
theorem dX0_remove_9 : decode cX0_remove 9 = .ok (.iconst (-1), 1) := by decide +kernel
theorem dX0_remove_10 : decode cX0_remove 10 = .ok (.ireturn, 1) := by decide +kernel
theorem dX0_remove_11 : decode cX0_remove 11 = .ok (.aload_n 0, 1) := by decide +kernel
theorem dX0_remove_12 : decode cX0_remove 12 = .ok (.iload_n 1, 1) := by decide +kernel
theorem dX0_remove_13 : decode cX0_remove 13 = .ok (.iload_n 2, 1) := by decide +kernel
theorem dX0_remove_14 : decode cX0_remove 14 = .ok (.invokevirtual 99, 3) := by decide +kernel
theorem dX0_remove_17 : decode cX0_remove 17 = .ok (.aload_n 0, 1) := by decide +kernel
theorem dX0_remove_18 : decode cX0_remove 18 = .ok (.getfield 25, 3) := by decide +kernel
theorem dX0_remove_21 : decode cX0_remove 21 = .ok (.ireturn, 1) := by decide +kernel
theorem dX0_bad_0 : decode cX0_bad 0 = .ok (.iload_n 1, 1) := by decide +kernel
theorem dX0_bad_1 : decode cX0_bad 1 = .ok (.ifCond .lt 16, 3) := by decide +kernel
theorem dX0_bad_4 : decode cX0_bad 4 = .ok (.iload_n 1, 1) := by decide +kernel
theorem dX0_bad_5 : decode cX0_bad 5 = .ok (.iload_n 2, 1) := by decide +kernel
theorem dX0_bad_6 : decode cX0_bad 6 = .ok (.if_icmp .gt 11, 3) := by decide +kernel
theorem dX0_bad_9 : decode cX0_bad 9 = .ok (.iload_n 2, 1) := by decide +kernel
theorem dX0_bad_10 : decode cX0_bad 10 = .ok (.aload_n 0, 1) := by decide +kernel
theorem dX0_bad_11 : decode cX0_bad 11 = .ok (.getfield 25, 3) := by decide +kernel
theorem dX0_bad_14 : decode cX0_bad 14 = .ok (.if_icmp .le 7, 3) := by decide +kernel
theorem dX0_bad_17 : decode cX0_bad 17 = .ok (.iconst 1, 1) := by decide +kernel
theorem dX0_bad_18 : decode cX0_bad 18 = .ok (.goto 4, 3) := by decide +kernel
theorem dX0_bad_21 : decode cX0_bad 21 = .ok (.iconst 0, 1) := by decide +kernel
theorem dX0_bad_22 : decode cX0_bad 22 = .ok (.ireturn, 1) := by decide +kernel
theorem dX0_delete_0 : decode cX0_delete 0 = .ok (.aload_n 0, 1) := by decide +kernel
theorem dX0_delete_1 : decode cX0_delete 1 = .ok (.iload_n 1, 1) := by decide +kernel
theorem dX0_delete_2 : decode cX0_delete 2 = .ok (.iload_n 2, 1) := by decide +kernel
theorem dX0_delete_3 : decode cX0_delete 3 = .ok (.invokevirtual 72, 3) := by decide +kernel
theorem dX0_delete_6 : decode cX0_delete 6 = .ok (.aload_n 0, 1) := by decide +kernel
theorem dX0_delete_7 : decode cX0_delete 7 = .ok (.iload_n 1, 1) := by decide +kernel
theorem dX0_delete_8 : decode cX0_delete 8 = .ok (.iload_n 2, 1) := by decide +kernel
theorem dX0_delete_9 : decode cX0_delete 9 = .ok (.invokevirtual 75, 3) := by decide +kernel
theorem dX0_delete_12 : decode cX0_delete 12 = .ok (.aload_n 0, 1) := by decide +kernel
theorem dX0_delete_13 : decode cX0_delete 13 = .ok (.getfield 58, 3) := by decide +kernel
theorem dX0_delete_16 : decode cX0_delete 16 = .ok (.iload_n 2, 1) := by decide +kernel
theorem dX0_delete_17 : decode cX0_delete 17 = .ok (.if_icmp .lt 18, 3) := by decide +kernel
theorem dX0_delete_20 : decode cX0_delete 20 = .ok (.aload_n 0, 1) := by decide +kernel
theorem dX0_delete_21 : decode cX0_delete 21 = .ok (.aload_n 0, 1) := by decide +kernel
theorem dX0_delete_22 : decode cX0_delete 22 = .ok (.getfield 58, 3) := by decide +kernel
theorem dX0_delete_25 : decode cX0_delete 25 = .ok (.iload_n 2, 1) := by decide +kernel
theorem dX0_delete_26 : decode cX0_delete 26 = .ok (.iload_n 1, 1) := by decide +kernel
theorem dX0_delete_27 : decode cX0_delete 27 = .ok (.isub, 1) := by decide +kernel
theorem dX0_delete_28 : decode cX0_delete 28 = .ok (.isub, 1) := by decide +kernel
theorem dX0_delete_29 : decode cX0_delete 29 = .ok (.putfield 58, 3) := by decide +kernel
theorem dX0_delete_32 : decode cX0_delete 32 = .ok (.goto 16, 3) := by decide +kernel
theorem dX0_delete_35 : decode cX0_delete 35 = .ok (.aload_n 0, 1) := by decide +kernel
theorem dX0_delete_36 : decode cX0_delete 36 = .ok (.getfield 58, 3) := by decide +kernel
theorem dX0_delete_39 : decode cX0_delete 39 = .ok (.iload_n 1, 1) := by decide +kernel
theorem dX0_delete_40 : decode cX0_delete 40 = .ok (.if_icmp .le 8, 3) := by decide +kernel
theorem dX0_delete_43 : decode cX0_delete 43 = .ok (.aload_n 0, 1) := by decide +kernel
theorem dX0_delete_44 : decode cX0_delete 44 = .ok (.iload_n 1, 1) := by decide +kernel
theorem dX0_delete_45 : decode cX0_delete 45 = .ok (.putfield 58, 3) := by decide +kernel
theorem dX0_delete_48 : decode cX0_delete 48 = .ok (.return_, 1) := by decide +kernel
theorem dX0_dropLetters_0 : decode cX0_dropLetters 0 = .ok (.aload_n 0, 1) := by decide +kernel
theorem dX0_dropLetters_1 : decode cX0_dropLetters 1 = .ok (.iload_n 2, 1) := by decide +kernel
theorem dX0_dropLetters_2 : decode cX0_dropLetters 2 = .ok (.invokevirtual 32, 3) := by decide +kernel
theorem dX0_dropLetters_5 : decode cX0_dropLetters 5 = .ok (.aload_n 0, 1) := by decide +kernel
theorem dX0_dropLetters_6 : decode cX0_dropLetters 6 = .ok (.iload_n 1, 1) := by decide +kernel
theorem dX0_dropLetters_7 : decode cX0_dropLetters 7 = .ok (.putfield 29, 3) := by decide +kernel
theorem dX0_dropLetters_10 : decode cX0_dropLetters 10 = .ok (.aload_n 0, 1) := by decide +kernel
theorem dX0_dropLetters_11 : decode cX0_dropLetters 11 = .ok (.aload_n 0, 1) := by decide +kernel
theorem dX0_dropLetters_12 : decode cX0_dropLetters 12 = .ok (.getfield 25, 3) := by decide +kernel
theorem dX0_dropLetters_15 : decode cX0_dropLetters 15 = .ok (.iload_n 2, 1) := by decide +kernel
theorem dX0_dropLetters_16 : decode cX0_dropLetters 16 = .ok (.iload_n 1, 1) := by decide +kernel
theorem dX0_dropLetters_17 : decode cX0_dropLetters 17 = .ok (.isub, 1) := by decide +kernel
theorem dX0_dropLetters_18 : decode cX0_dropLetters 18 = .ok (.isub, 1) := by decide +kernel
theorem dX0_dropLetters_19 : decode cX0_dropLetters 19 = .ok (.putfield 25, 3) := by decide +kernel
theorem dX0_dropLetters_22 : decode cX0_dropLetters 22 = .ok (.return_, 1) := by decide +kernel
theorem dX0_dropStyles_0 : decode cX0_dropStyles 0 = .ok (.iload_n 1, 1) := by decide +kernel
theorem dX0_dropStyles_1 : decode cX0_dropStyles 1 = .ok (.iload_n 2, 1) := by decide +kernel
theorem dX0_dropStyles_2 : decode cX0_dropStyles 2 = .ok (.if_icmp .ne 4, 3) := by decide +kernel
theorem dX0_dropStyles_5 : decode cX0_dropStyles 5 = .ok (.return_, 1) := by decide +kernel
theorem dX0_dropStyles_6 : decode cX0_dropStyles 6 = .ok (.aload_n 0, 1) := by decide +kernel
theorem dX0_dropStyles_7 : decode cX0_dropStyles 7 = .ok (.iload_n 2, 1) := by decide +kernel
theorem dX0_dropStyles_8 : decode cX0_dropStyles 8 = .ok (.invokevirtual 52, 3) := by decide +kernel
theorem dX0_dropStyles_11 : decode cX0_dropStyles 11 = .ok (.pop, 1) := by decide +kernel
theorem dX0_dropStyles_12 : decode cX0_dropStyles 12 = .ok (.aload_n 0, 1) := by decide +kernel
theorem dX0_dropStyles_13 : decode cX0_dropStyles 13 = .ok (.iload_n 1, 1) := by decide +kernel
theorem dX0_dropStyles_14 : decode cX0_dropStyles 14 = .ok (.invokevirtual 52, 3) := by decide +kernel
theorem dX0_dropStyles_17 : decode cX0_dropStyles 17 = .ok (.istore_n 3, 1) := by decide +kernel
theorem dX0_dropStyles_18 : decode cX0_dropStyles 18 = .ok (.iload_n 2, 1) := by decide +kernel
theorem dX0_dropStyles_19 : decode cX0_dropStyles 19 = .ok (.iload_n 1, 1) := by decide +kernel
theorem dX0_dropStyles_20 : decode cX0_dropStyles 20 = .ok (.isub, 1) := by decide +kernel
theorem dX0_dropStyles_21 : decode cX0_dropStyles 21 = .ok (.istore 4, 2) := by decide +kernel
theorem dX0_dropStyles_23 : decode cX0_dropStyles 23 = .ok (.iconst 0, 1) := by decide +kernel
theorem dX0_dropStyles_24 : decode cX0_dropStyles 24 = .ok (.istore 5, 2) := by decide +kernel
theorem dX0_dropStyles_26 : decode cX0_dropStyles 26 = .ok (.iload 5, 2) := by decide +kernel
theorem dX0_dropStyles_28 : decode cX0_dropStyles 28 = .ok (.bipush 64, 2) := by decide +kernel
theorem dX0_dropStyles_30 : decode cX0_dropStyles 30 = .ok (.if_icmp .ge 30, 3) := by decide +kernel
theorem dX0_dropStyles_33 : decode cX0_dropStyles 33 = .ok (.iload 4, 2) := by decide +kernel
theorem dX0_dropStyles_35 : decode cX0_dropStyles 35 = .ok (.ifCond .le 25, 3) := by decide +kernel
theorem dX0_dropStyles_38 : decode cX0_dropStyles 38 = .ok (.iload 4, 2) := by decide +kernel
theorem dX0_dropStyles_40 : decode cX0_dropStyles 40 = .ok (.aload_n 0, 1) := by decide +kernel
theorem dX0_dropStyles_41 : decode cX0_dropStyles 41 = .ok (.getfield 13, 3) := by decide +kernel
theorem dX0_dropStyles_44 : decode cX0_dropStyles 44 = .ok (.iload_n 3, 1) := by decide +kernel
theorem dX0_dropStyles_45 : decode cX0_dropStyles 45 = .ok (.iaload, 1) := by decide +kernel
theorem dX0_dropStyles_46 : decode cX0_dropStyles 46 = .ok (.isub, 1) := by decide +kernel
theorem dX0_dropStyles_47 : decode cX0_dropStyles 47 = .ok (.istore 4, 2) := by decide +kernel
theorem dX0_dropStyles_49 : decode cX0_dropStyles 49 = .ok (.aload_n 0, 1) := by decide +kernel
theorem dX0_dropStyles_50 : decode cX0_dropStyles 50 = .ok (.iload_n 3, 1) := by decide +kernel
theorem dX0_dropStyles_51 : decode cX0_dropStyles 51 = .ok (.invokevirtual 49, 3) := by decide +kernel
theorem dX0_dropStyles_54 : decode cX0_dropStyles 54 = .ok (.iinc 5 1, 3) := by decide +kernel
theorem dX0_dropStyles_57 : decode cX0_dropStyles 57 = .ok (.goto (-31), 3) := by decide +kernel
theorem dX0_dropStyles_60 : decode cX0_dropStyles 60 = .ok (.aload_n 0, 1) := by decide +kernel
theorem dX0_dropStyles_61 : decode cX0_dropStyles 61 = .ok (.invokevirtual 55, 3) := by decide +kernel
theorem dX0_dropStyles_64 : decode cX0_dropStyles 64 = .ok (.return_, 1) := by decide +kernel
theorem dX0_move_0 : decode cX0_move 0 = .ok (.aload_n 0, 1) := by decide +kernel
theorem dX0_move_1 : decode cX0_move 1 = .ok (.iload_n 1, 1) := by decide +kernel
theorem dX0_move_2 : decode cX0_move 2 = .ok (.iload_n 2, 1) := by decide +kernel
theorem dX0_move_3 : decode cX0_move 3 = .ok (.invokevirtual 95, 3) := by decide +kernel
theorem dX0_move_6 : decode cX0_move 6 = .ok (.ifCond .ne 19, 3) := by decide +kernel
theorem dX0_move_9 : decode cX0_move 9 = .ok (.iload_n 3, 1) := by decide +kernel
theorem dX0_move_10 : decode cX0_move 10 = .ok (.ifCond .lt 15, 3) := by decide +kernel
theorem dX0_move_13 : decode cX0_move 13 = .ok (.iload_n 3, 1) := by decide +kernel
theorem dX0_move_14 : decode cX0_move 14 = .ok (.aload_n 0, 1) := by decide +kernel
theorem dX0_move_15 : decode cX0_move 15 = .ok (.getfield 25, 3) := by decide +kernel
theorem dX0_move_18 : decode cX0_move 18 = .ok (.iload_n 2, 1) := by decide +kernel
theorem dX0_move_19 : decode cX0_move 19 = .ok (.iload_n 1, 1) := by decide +kernel
theorem dX0_move_20 : decode cX0_move 20 = .ok (.isub, 1) := by decide +kernel
theorem dX0_move_21 : decode cX0_move 21 = .ok (.isub, 1) := by decide +kernel
theorem dX0_move_22 : decode cX0_move 22 = .ok (.if_icmp .le 5, 3) := by decide +kernel
theorem dX0_move_25 : decode cX0_move 25 = .ok (.iconst (-1), 1) := by decide +kernel
theorem dX0_move_26 : decode cX0_move 26 = .ok (.ireturn, 1) := by decide +kernel
theorem dX0_move_27 : decode cX0_move 27 = .ok (.aload_n 0, 1) := by decide +kernel
theorem dX0_move_28 : decode cX0_move 28 = .ok (.iload_n 1, 1) := by decide +kernel
theorem dX0_move_29 : decode cX0_move 29 = .ok (.iload_n 2, 1) := by decide +kernel
theorem dX0_move_30 : decode cX0_move 30 = .ok (.invokevirtual 102, 3) := by decide +kernel
theorem dX0_move_33 : decode cX0_move 33 = .ok (.aload_n 0, 1) := by decide +kernel
theorem dX0_move_34 : decode cX0_move 34 = .ok (.iload_n 1, 1) := by decide +kernel
theorem dX0_move_35 : decode cX0_move 35 = .ok (.iload_n 2, 1) := by decide +kernel
theorem dX0_move_36 : decode cX0_move 36 = .ok (.invokevirtual 99, 3) := by decide +kernel
theorem dX0_move_39 : decode cX0_move 39 = .ok (.aload_n 0, 1) := by decide +kernel
theorem dX0_move_40 : decode cX0_move 40 = .ok (.iload_n 3, 1) := by decide +kernel
theorem dX0_move_41 : decode cX0_move 41 = .ok (.invokevirtual 105, 3) := by decide +kernel
theorem dX0_move_44 : decode cX0_move 44 = .ok (.iconst 0, 1) := by decide +kernel
theorem dX0_move_45 : decode cX0_move 45 = .ok (.ireturn, 1) := by decide +kernel
theorem dX0_hold_0 : decode cX0_hold 0 = .ok (.aload_n 0, 1) := by decide +kernel
theorem dX0_hold_1 : decode cX0_hold 1 = .ok (.iload_n 2, 1) := by decide +kernel
theorem dX0_hold_2 : decode cX0_hold 2 = .ok (.iload_n 1, 1) := by decide +kernel
theorem dX0_hold_3 : decode cX0_hold 3 = .ok (.isub, 1) := by decide +kernel
theorem dX0_hold_4 : decode cX0_hold 4 = .ok (.putfield 78, 3) := by decide +kernel
theorem dX0_hold_7 : decode cX0_hold 7 = .ok (.aload_n 0, 1) := by decide +kernel
theorem dX0_hold_8 : decode cX0_hold 8 = .ok (.iload_n 1, 1) := by decide +kernel
theorem dX0_hold_9 : decode cX0_hold 9 = .ok (.invokevirtual 42, 3) := by decide +kernel
theorem dX0_hold_12 : decode cX0_hold 12 = .ok (.istore_n 3, 1) := by decide +kernel
theorem dX0_hold_13 : decode cX0_hold 13 = .ok (.aload_n 0, 1) := by decide +kernel
theorem dX0_hold_14 : decode cX0_hold 14 = .ok (.getfield 36, 3) := by decide +kernel
theorem dX0_hold_17 : decode cX0_hold 17 = .ok (.iload_n 3, 1) := by decide +kernel
theorem dX0_hold_18 : decode cX0_hold 18 = .ok (.aload_n 0, 1) := by decide +kernel
theorem dX0_hold_19 : decode cX0_hold 19 = .ok (.getfield 39, 3) := by decide +kernel
theorem dX0_hold_22 : decode cX0_hold 22 = .ok (.if_icmp .ge 12, 3) := by decide +kernel
theorem dX0_hold_25 : decode cX0_hold 25 = .ok (.aload_n 0, 1) := by decide +kernel
theorem dX0_hold_26 : decode cX0_hold 26 = .ok (.getfield 13, 3) := by decide +kernel
theorem dX0_hold_29 : decode cX0_hold 29 = .ok (.iload_n 3, 1) := by decide +kernel
theorem dX0_hold_30 : decode cX0_hold 30 = .ok (.iaload, 1) := by decide +kernel
theorem dX0_hold_31 : decode cX0_hold 31 = .ok (.goto 4, 3) := by decide +kernel
theorem dX0_hold_34 : decode cX0_hold 34 = .ok (.iconst 0, 1) := by decide +kernel
theorem dX0_hold_35 : decode cX0_hold 35 = .ok (.iadd, 1) := by decide +kernel
theorem dX0_hold_36 : decode cX0_hold 36 = .ok (.istore 4, 2) := by decide +kernel
theorem dX0_hold_38 : decode cX0_hold 38 = .ok (.iconst 0, 1) := by decide +kernel
theorem dX0_hold_39 : decode cX0_hold 39 = .ok (.istore 5, 2) := by decide +kernel
theorem dX0_hold_41 : decode cX0_hold 41 = .ok (.iload 5, 2) := by decide +kernel
theorem dX0_hold_43 : decode cX0_hold 43 = .ok (.aload_n 0, 1) := by decide +kernel
theorem dX0_hold_44 : decode cX0_hold 44 = .ok (.getfield 78, 3) := by decide +kernel
theorem dX0_hold_47 : decode cX0_hold 47 = .ok (.if_icmp .ge 75, 3) := by decide +kernel
theorem dX0_hold_50 : decode cX0_hold 50 = .ok (.iload_n 1, 1) := by decide +kernel
theorem dX0_hold_51 : decode cX0_hold 51 = .ok (.iload 5, 2) := by decide +kernel
theorem dX0_hold_53 : decode cX0_hold 53 = .ok (.iadd, 1) := by decide +kernel
theorem dX0_hold_54 : decode cX0_hold 54 = .ok (.iload 4, 2) := by decide +kernel
theorem dX0_hold_56 : decode cX0_hold 56 = .ok (.if_icmp .lt 27, 3) := by decide +kernel
theorem dX0_hold_59 : decode cX0_hold 59 = .ok (.iload_n 3, 1) := by decide +kernel
theorem dX0_hold_60 : decode cX0_hold 60 = .ok (.iconst 1, 1) := by decide +kernel
theorem dX0_hold_61 : decode cX0_hold 61 = .ok (.iadd, 1) := by decide +kernel
theorem dX0_hold_62 : decode cX0_hold 62 = .ok (.aload_n 0, 1) := by decide +kernel
theorem dX0_hold_63 : decode cX0_hold 63 = .ok (.getfield 39, 3) := by decide +kernel
theorem dX0_hold_66 : decode cX0_hold 66 = .ok (.if_icmp .ge 17, 3) := by decide +kernel
theorem dX0_hold_69 : decode cX0_hold 69 = .ok (.iinc 3 1, 3) := by decide +kernel
theorem dX0_hold_72 : decode cX0_hold 72 = .ok (.iload 4, 2) := by decide +kernel
theorem dX0_hold_74 : decode cX0_hold 74 = .ok (.aload_n 0, 1) := by decide +kernel
theorem dX0_hold_75 : decode cX0_hold 75 = .ok (.getfield 13, 3) := by decide +kernel
theorem dX0_hold_78 : decode cX0_hold 78 = .ok (.iload_n 3, 1) := by decide +kernel
theorem dX0_hold_79 : decode cX0_hold 79 = .ok (.iaload, 1) := by decide +kernel
theorem dX0_hold_80 : decode cX0_hold 80 = .ok (.iadd, 1) := by decide +kernel
theorem dX0_hold_81 : decode cX0_hold 81 = .ok (.istore 4, 2) := by decide +kernel
theorem dX0_hold_83 : decode cX0_hold 83 = .ok (.aload_n 0, 1) := by decide +kernel
theorem dX0_hold_84 : decode cX0_hold 84 = .ok (.getfield 19, 3) := by decide +kernel
theorem dX0_hold_87 : decode cX0_hold 87 = .ok (.iload 5, 2) := by decide +kernel
theorem dX0_hold_89 : decode cX0_hold 89 = .ok (.aload_n 0, 1) := by decide +kernel
theorem dX0_hold_90 : decode cX0_hold 90 = .ok (.getfield 7, 3) := by decide +kernel
theorem dX0_hold_93 : decode cX0_hold 93 = .ok (.aload_n 0, 1) := by decide +kernel
theorem dX0_hold_94 : decode cX0_hold 94 = .ok (.iload_n 1, 1) := by decide +kernel
theorem dX0_hold_95 : decode cX0_hold 95 = .ok (.iload 5, 2) := by decide +kernel
theorem dX0_hold_97 : decode cX0_hold 97 = .ok (.iadd, 1) := by decide +kernel
theorem dX0_hold_98 : decode cX0_hold 98 = .ok (.invokevirtual 81, 3) := by decide +kernel
theorem dX0_hold_101 : decode cX0_hold 101 = .ok (.iaload, 1) := by decide +kernel
theorem dX0_hold_102 : decode cX0_hold 102 = .ok (.iastore, 1) := by decide +kernel
theorem dX0_hold_103 : decode cX0_hold 103 = .ok (.aload_n 0, 1) := by decide +kernel
theorem dX0_hold_104 : decode cX0_hold 104 = .ok (.getfield 22, 3) := by decide +kernel
theorem dX0_hold_107 : decode cX0_hold 107 = .ok (.iload 5, 2) := by decide +kernel
theorem dX0_hold_109 : decode cX0_hold 109 = .ok (.aload_n 0, 1) := by decide +kernel
theorem dX0_hold_110 : decode cX0_hold 110 = .ok (.getfield 16, 3) := by decide +kernel
theorem dX0_hold_113 : decode cX0_hold 113 = .ok (.iload_n 3, 1) := by decide +kernel
theorem dX0_hold_114 : decode cX0_hold 114 = .ok (.iaload, 1) := by decide +kernel
theorem dX0_hold_115 : decode cX0_hold 115 = .ok (.iastore, 1) := by decide +kernel
theorem dX0_hold_116 : decode cX0_hold 116 = .ok (.iinc 5 1, 3) := by decide +kernel
theorem dX0_hold_119 : decode cX0_hold 119 = .ok (.goto (-78), 3) := by decide +kernel
theorem dX0_hold_122 : decode cX0_hold 122 = .ok (.return_, 1) := by decide +kernel
theorem dX0_cellOf_0 : decode cX0_cellOf 0 = .ok (.iload_n 1, 1) := by decide +kernel
theorem dX0_cellOf_1 : decode cX0_cellOf 1 = .ok (.aload_n 0, 1) := by decide +kernel
theorem dX0_cellOf_2 : decode cX0_cellOf 2 = .ok (.getfield 29, 3) := by decide +kernel
theorem dX0_cellOf_5 : decode cX0_cellOf 5 = .ok (.if_icmp .ge 7, 3) := by decide +kernel
theorem dX0_cellOf_8 : decode cX0_cellOf 8 = .ok (.iload_n 1, 1) := by decide +kernel
theorem dX0_cellOf_9 : decode cX0_cellOf 9 = .ok (.goto 12, 3) := by decide +kernel
theorem dX0_cellOf_12 : decode cX0_cellOf 12 = .ok (.iload_n 1, 1) := by decide +kernel
theorem dX0_cellOf_13 : decode cX0_cellOf 13 = .ok (.bipush 64, 2) := by decide +kernel
theorem dX0_cellOf_15 : decode cX0_cellOf 15 = .ok (.iadd, 1) := by decide +kernel
theorem dX0_cellOf_16 : decode cX0_cellOf 16 = .ok (.aload_n 0, 1) := by decide +kernel
theorem dX0_cellOf_17 : decode cX0_cellOf 17 = .ok (.getfield 25, 3) := by decide +kernel
theorem dX0_cellOf_20 : decode cX0_cellOf 20 = .ok (.isub, 1) := by decide +kernel
theorem dX0_cellOf_21 : decode cX0_cellOf 21 = .ok (.ireturn, 1) := by decide +kernel
theorem dX0_giveBack_0 : decode cX0_giveBack 0 = .ok (.iconst 0, 1) := by decide +kernel
theorem dX0_giveBack_1 : decode cX0_giveBack 1 = .ok (.istore_n 2, 1) := by decide +kernel
theorem dX0_giveBack_2 : decode cX0_giveBack 2 = .ok (.iload_n 2, 1) := by decide +kernel
theorem dX0_giveBack_3 : decode cX0_giveBack 3 = .ok (.aload_n 0, 1) := by decide +kernel
theorem dX0_giveBack_4 : decode cX0_giveBack 4 = .ok (.getfield 78, 3) := by decide +kernel
theorem dX0_giveBack_7 : decode cX0_giveBack 7 = .ok (.if_icmp .ge 22, 3) := by decide +kernel
theorem dX0_giveBack_10 : decode cX0_giveBack 10 = .ok (.aload_n 0, 1) := by decide +kernel
theorem dX0_giveBack_11 : decode cX0_giveBack 11 = .ok (.iload_n 1, 1) := by decide +kernel
theorem dX0_giveBack_12 : decode cX0_giveBack 12 = .ok (.iload_n 2, 1) := by decide +kernel
theorem dX0_giveBack_13 : decode cX0_giveBack 13 = .ok (.iadd, 1) := by decide +kernel
theorem dX0_giveBack_14 : decode cX0_giveBack 14 = .ok (.aload_n 0, 1) := by decide +kernel
theorem dX0_giveBack_15 : decode cX0_giveBack 15 = .ok (.getfield 19, 3) := by decide +kernel
theorem dX0_giveBack_18 : decode cX0_giveBack 18 = .ok (.iload_n 2, 1) := by decide +kernel
theorem dX0_giveBack_19 : decode cX0_giveBack 19 = .ok (.iaload, 1) := by decide +kernel
theorem dX0_giveBack_20 : decode cX0_giveBack 20 = .ok (.invokevirtual 61, 3) := by decide +kernel
theorem dX0_giveBack_23 : decode cX0_giveBack 23 = .ok (.iinc 2 1, 3) := by decide +kernel
theorem dX0_giveBack_26 : decode cX0_giveBack 26 = .ok (.goto (-24), 3) := by decide +kernel
theorem dX0_giveBack_29 : decode cX0_giveBack 29 = .ok (.iconst 0, 1) := by decide +kernel
theorem dX0_giveBack_30 : decode cX0_giveBack 30 = .ok (.istore_n 2, 1) := by decide +kernel
theorem dX0_giveBack_31 : decode cX0_giveBack 31 = .ok (.iconst 1, 1) := by decide +kernel
theorem dX0_giveBack_32 : decode cX0_giveBack 32 = .ok (.istore_n 3, 1) := by decide +kernel
theorem dX0_giveBack_33 : decode cX0_giveBack 33 = .ok (.iload_n 3, 1) := by decide +kernel
theorem dX0_giveBack_34 : decode cX0_giveBack 34 = .ok (.aload_n 0, 1) := by decide +kernel
theorem dX0_giveBack_35 : decode cX0_giveBack 35 = .ok (.getfield 78, 3) := by decide +kernel
theorem dX0_giveBack_38 : decode cX0_giveBack 38 = .ok (.if_icmp .gt 50, 3) := by decide +kernel
theorem dX0_giveBack_41 : decode cX0_giveBack 41 = .ok (.iload_n 3, 1) := by decide +kernel
theorem dX0_giveBack_42 : decode cX0_giveBack 42 = .ok (.aload_n 0, 1) := by decide +kernel
theorem dX0_giveBack_43 : decode cX0_giveBack 43 = .ok (.getfield 78, 3) := by decide +kernel
theorem dX0_giveBack_46 : decode cX0_giveBack 46 = .ok (.if_icmp .eq 18, 3) := by decide +kernel
theorem dX0_giveBack_49 : decode cX0_giveBack 49 = .ok (.aload_n 0, 1) := by decide +kernel
theorem dX0_giveBack_50 : decode cX0_giveBack 50 = .ok (.getfield 22, 3) := by decide +kernel
theorem dX0_giveBack_53 : decode cX0_giveBack 53 = .ok (.iload_n 3, 1) := by decide +kernel
theorem dX0_giveBack_54 : decode cX0_giveBack 54 = .ok (.iaload, 1) := by decide +kernel
theorem dX0_giveBack_55 : decode cX0_giveBack 55 = .ok (.aload_n 0, 1) := by decide +kernel
theorem dX0_giveBack_56 : decode cX0_giveBack 56 = .ok (.getfield 22, 3) := by decide +kernel
theorem dX0_giveBack_59 : decode cX0_giveBack 59 = .ok (.iload_n 2, 1) := by decide +kernel
theorem dX0_giveBack_60 : decode cX0_giveBack 60 = .ok (.iaload, 1) := by decide +kernel
theorem dX0_giveBack_61 : decode cX0_giveBack 61 = .ok (.if_icmp .eq 21, 3) := by decide +kernel
theorem dX0_giveBack_64 : decode cX0_giveBack 64 = .ok (.aload_n 0, 1) := by decide +kernel
theorem dX0_giveBack_65 : decode cX0_giveBack 65 = .ok (.iload_n 1, 1) := by decide +kernel
theorem dX0_giveBack_66 : decode cX0_giveBack 66 = .ok (.iload_n 2, 1) := by decide +kernel
theorem dX0_giveBack_67 : decode cX0_giveBack 67 = .ok (.iadd, 1) := by decide +kernel
theorem dX0_giveBack_68 : decode cX0_giveBack 68 = .ok (.iload_n 3, 1) := by decide +kernel
theorem dX0_giveBack_69 : decode cX0_giveBack 69 = .ok (.iload_n 2, 1) := by decide +kernel
theorem dX0_giveBack_70 : decode cX0_giveBack 70 = .ok (.isub, 1) := by decide +kernel
theorem dX0_giveBack_71 : decode cX0_giveBack 71 = .ok (.aload_n 0, 1) := by decide +kernel
theorem dX0_giveBack_72 : decode cX0_giveBack 72 = .ok (.getfield 22, 3) := by decide +kernel
theorem dX0_giveBack_75 : decode cX0_giveBack 75 = .ok (.iload_n 2, 1) := by decide +kernel
theorem dX0_giveBack_76 : decode cX0_giveBack 76 = .ok (.iaload, 1) := by decide +kernel
theorem dX0_giveBack_77 : decode cX0_giveBack 77 = .ok (.invokevirtual 65, 3) := by decide +kernel
theorem dX0_giveBack_80 : decode cX0_giveBack 80 = .ok (.iload_n 3, 1) := by decide +kernel
theorem dX0_giveBack_81 : decode cX0_giveBack 81 = .ok (.istore_n 2, 1) := by decide +kernel
theorem dX0_giveBack_82 : decode cX0_giveBack 82 = .ok (.iinc 3 1, 3) := by decide +kernel
theorem dX0_giveBack_85 : decode cX0_giveBack 85 = .ok (.goto (-52), 3) := by decide +kernel
theorem dX0_giveBack_88 : decode cX0_giveBack 88 = .ok (.aload_n 0, 1) := by decide +kernel
theorem dX0_giveBack_89 : decode cX0_giveBack 89 = .ok (.iload_n 1, 1) := by decide +kernel
theorem dX0_giveBack_90 : decode cX0_giveBack 90 = .ok (.aload_n 0, 1) := by decide +kernel
theorem dX0_giveBack_91 : decode cX0_giveBack 91 = .ok (.getfield 78, 3) := by decide +kernel
theorem dX0_giveBack_94 : decode cX0_giveBack 94 = .ok (.invokevirtual 69, 3) := by decide +kernel
theorem dX0_giveBack_97 : decode cX0_giveBack 97 = .ok (.return_, 1) := by decide +kernel
theorem dX0_copy_0 : decode cX0_copy 0 = .ok (.aload_n 0, 1) := by decide +kernel
theorem dX0_copy_1 : decode cX0_copy 1 = .ok (.iload_n 1, 1) := by decide +kernel
theorem dX0_copy_2 : decode cX0_copy 2 = .ok (.iload_n 2, 1) := by decide +kernel
theorem dX0_copy_3 : decode cX0_copy 3 = .ok (.invokevirtual 95, 3) := by decide +kernel
theorem dX0_copy_6 : decode cX0_copy 6 = .ok (.ifCond .ne 15, 3) := by decide +kernel
theorem dX0_copy_9 : decode cX0_copy 9 = .ok (.iload_n 3, 1) := by decide +kernel
theorem dX0_copy_10 : decode cX0_copy 10 = .ok (.ifCond .lt 11, 3) := by decide +kernel
theorem dX0_copy_13 : decode cX0_copy 13 = .ok (.iload_n 3, 1) := by decide +kernel
theorem dX0_copy_14 : decode cX0_copy 14 = .ok (.aload_n 0, 1) := by decide +kernel
theorem dX0_copy_15 : decode cX0_copy 15 = .ok (.getfield 25, 3) := by decide +kernel
theorem dX0_copy_18 : decode cX0_copy 18 = .ok (.if_icmp .le 5, 3) := by decide +kernel
theorem dX0_copy_21 : decode cX0_copy 21 = .ok (.iconst (-1), 1) := by decide +kernel
theorem dX0_copy_22 : decode cX0_copy 22 = .ok (.ireturn, 1) := by decide +kernel
theorem dX0_copy_23 : decode cX0_copy 23 = .ok (.aload_n 0, 1) := by decide +kernel
theorem dX0_copy_24 : decode cX0_copy 24 = .ok (.getfield 25, 3) := by decide +kernel
theorem dX0_copy_27 : decode cX0_copy 27 = .ok (.iload_n 2, 1) := by decide +kernel
theorem dX0_copy_28 : decode cX0_copy 28 = .ok (.iadd, 1) := by decide +kernel
theorem dX0_copy_29 : decode cX0_copy 29 = .ok (.iload_n 1, 1) := by decide +kernel
theorem dX0_copy_30 : decode cX0_copy 30 = .ok (.isub, 1) := by decide +kernel
theorem dX0_copy_31 : decode cX0_copy 31 = .ok (.bipush 64, 2) := by decide +kernel
theorem dX0_copy_33 : decode cX0_copy 33 = .ok (.if_icmp .le 6, 3) := by decide +kernel
theorem dX0_copy_36 : decode cX0_copy 36 = .ok (.bipush (-2), 2) := by decide +kernel
theorem dX0_copy_38 : decode cX0_copy 38 = .ok (.ireturn, 1) := by decide +kernel
theorem dX0_copy_39 : decode cX0_copy 39 = .ok (.aload_n 0, 1) := by decide +kernel
theorem dX0_copy_40 : decode cX0_copy 40 = .ok (.iload_n 1, 1) := by decide +kernel
theorem dX0_copy_41 : decode cX0_copy 41 = .ok (.iload_n 2, 1) := by decide +kernel
theorem dX0_copy_42 : decode cX0_copy 42 = .ok (.invokevirtual 102, 3) := by decide +kernel
theorem dX0_copy_45 : decode cX0_copy 45 = .ok (.aload_n 0, 1) := by decide +kernel
theorem dX0_copy_46 : decode cX0_copy 46 = .ok (.iload_n 3, 1) := by decide +kernel
theorem dX0_copy_47 : decode cX0_copy 47 = .ok (.invokevirtual 105, 3) := by decide +kernel
theorem dX0_copy_50 : decode cX0_copy 50 = .ok (.aload_n 0, 1) := by decide +kernel
theorem dX0_copy_51 : decode cX0_copy 51 = .ok (.getfield 25, 3) := by decide +kernel
theorem dX0_copy_54 : decode cX0_copy 54 = .ok (.ireturn, 1) := by decide +kernel
theorem dX0_style_0 : decode cX0_style 0 = .ok (.aload_n 0, 1) := by decide +kernel
theorem dX0_style_1 : decode cX0_style 1 = .ok (.iload_n 1, 1) := by decide +kernel
theorem dX0_style_2 : decode cX0_style 2 = .ok (.iload_n 2, 1) := by decide +kernel
theorem dX0_style_3 : decode cX0_style 3 = .ok (.invokevirtual 95, 3) := by decide +kernel
theorem dX0_style_6 : decode cX0_style 6 = .ok (.ifCond .ne 25, 3) := by decide +kernel
theorem dX0_style_9 : decode cX0_style 9 = .ok (.iload_n 3, 1) := by decide +kernel
theorem dX0_style_10 : decode cX0_style 10 = .ok (.ifCond .lt 21, 3) := by decide +kernel
theorem dX0_style_13 : decode cX0_style 13 = .ok (.iload_n 3, 1) := by decide +kernel
theorem dX0_style_14 : decode cX0_style 14 = .ok (.bipush 15, 2) := by decide +kernel
theorem dX0_style_16 : decode cX0_style 16 = .ok (.if_icmp .gt 15, 3) := by decide +kernel
theorem dX0_style_19 : decode cX0_style 19 = .ok (.iload 4, 2) := by decide +kernel
theorem dX0_style_21 : decode cX0_style 21 = .ok (.ifCond .lt 10, 3) := by decide +kernel
theorem dX0_style_24 : decode cX0_style 24 = .ok (.iload 4, 2) := by decide +kernel
theorem dX0_style_26 : decode cX0_style 26 = .ok (.bipush 63, 2) := by decide +kernel
theorem dX0_style_28 : decode cX0_style 28 = .ok (.if_icmp .le 5, 3) := by decide +kernel
theorem dX0_style_31 : decode cX0_style 31 = .ok (.iconst (-1), 1) := by decide +kernel
theorem dX0_style_32 : decode cX0_style 32 = .ok (.ireturn, 1) := by decide +kernel
theorem dX0_style_33 : decode cX0_style 33 = .ok (.iload_n 1, 1) := by decide +kernel
theorem dX0_style_34 : decode cX0_style 34 = .ok (.iload_n 2, 1) := by decide +kernel
theorem dX0_style_35 : decode cX0_style 35 = .ok (.if_icmp .ne 5, 3) := by decide +kernel
theorem dX0_style_38 : decode cX0_style 38 = .ok (.iconst 0, 1) := by decide +kernel
theorem dX0_style_39 : decode cX0_style 39 = .ok (.ireturn, 1) := by decide +kernel
theorem dX0_style_40 : decode cX0_style 40 = .ok (.aload_n 0, 1) := by decide +kernel
theorem dX0_style_41 : decode cX0_style 41 = .ok (.iload_n 2, 1) := by decide +kernel
theorem dX0_style_42 : decode cX0_style 42 = .ok (.invokevirtual 52, 3) := by decide +kernel
theorem dX0_style_45 : decode cX0_style 45 = .ok (.pop, 1) := by decide +kernel
theorem dX0_style_46 : decode cX0_style 46 = .ok (.aload_n 0, 1) := by decide +kernel
theorem dX0_style_47 : decode cX0_style 47 = .ok (.iload_n 1, 1) := by decide +kernel
theorem dX0_style_48 : decode cX0_style 48 = .ok (.invokevirtual 52, 3) := by decide +kernel
theorem dX0_style_51 : decode cX0_style 51 = .ok (.istore 5, 2) := by decide +kernel
theorem dX0_style_53 : decode cX0_style 53 = .ok (.iconst 0, 1) := by decide +kernel
theorem dX0_style_54 : decode cX0_style 54 = .ok (.istore 6, 2) := by decide +kernel
theorem dX0_style_56 : decode cX0_style 56 = .ok (.iload_n 1, 1) := by decide +kernel
theorem dX0_style_57 : decode cX0_style 57 = .ok (.istore 7, 2) := by decide +kernel
theorem dX0_style_59 : decode cX0_style 59 = .ok (.iconst 0, 1) := by decide +kernel
theorem dX0_style_60 : decode cX0_style 60 = .ok (.istore 8, 2) := by decide +kernel
theorem dX0_style_62 : decode cX0_style 62 = .ok (.iload 8, 2) := by decide +kernel
theorem dX0_style_64 : decode cX0_style 64 = .ok (.bipush 64, 2) := by decide +kernel
theorem dX0_style_66 : decode cX0_style 66 = .ok (.if_icmp .ge 79, 3) := by decide +kernel
theorem dX0_style_69 : decode cX0_style 69 = .ok (.iload 7, 2) := by decide +kernel
theorem dX0_style_71 : decode cX0_style 71 = .ok (.iload_n 2, 1) := by decide +kernel
theorem dX0_style_72 : decode cX0_style 72 = .ok (.if_icmp .ge 73, 3) := by decide +kernel
theorem dX0_style_75 : decode cX0_style 75 = .ok (.aload_n 0, 1) := by decide +kernel
theorem dX0_style_76 : decode cX0_style 76 = .ok (.aload_n 0, 1) := by decide +kernel
theorem dX0_style_77 : decode cX0_style 77 = .ok (.getfield 16, 3) := by decide +kernel
theorem dX0_style_80 : decode cX0_style 80 = .ok (.iload 5, 2) := by decide +kernel
theorem dX0_style_82 : decode cX0_style 82 = .ok (.iaload, 1) := by decide +kernel
theorem dX0_style_83 : decode cX0_style 83 = .ok (.iload_n 3, 1) := by decide +kernel
theorem dX0_style_84 : decode cX0_style 84 = .ok (.iload 4, 2) := by decide +kernel
theorem dX0_style_86 : decode cX0_style 86 = .ok (.invokevirtual 108, 3) := by decide +kernel
theorem dX0_style_89 : decode cX0_style 89 = .ok (.istore 9, 2) := by decide +kernel
theorem dX0_style_91 : decode cX0_style 91 = .ok (.iload 9, 2) := by decide +kernel
theorem dX0_style_93 : decode cX0_style 93 = .ok (.aload_n 0, 1) := by decide +kernel
theorem dX0_style_94 : decode cX0_style 94 = .ok (.getfield 16, 3) := by decide +kernel
theorem dX0_style_97 : decode cX0_style 97 = .ok (.iload 5, 2) := by decide +kernel
theorem dX0_style_99 : decode cX0_style 99 = .ok (.iaload, 1) := by decide +kernel
theorem dX0_style_100 : decode cX0_style 100 = .ok (.if_icmp .eq 15, 3) := by decide +kernel
theorem dX0_style_103 : decode cX0_style 103 = .ok (.iload 6, 2) := by decide +kernel
theorem dX0_style_105 : decode cX0_style 105 = .ok (.aload_n 0, 1) := by decide +kernel
theorem dX0_style_106 : decode cX0_style 106 = .ok (.getfield 13, 3) := by decide +kernel
theorem dX0_style_109 : decode cX0_style 109 = .ok (.iload 5, 2) := by decide +kernel
theorem dX0_style_111 : decode cX0_style 111 = .ok (.iaload, 1) := by decide +kernel
theorem dX0_style_112 : decode cX0_style 112 = .ok (.iadd, 1) := by decide +kernel
theorem dX0_style_113 : decode cX0_style 113 = .ok (.istore 6, 2) := by decide +kernel
theorem dX0_style_115 : decode cX0_style 115 = .ok (.aload_n 0, 1) := by decide +kernel
theorem dX0_style_116 : decode cX0_style 116 = .ok (.getfield 16, 3) := by decide +kernel
theorem dX0_style_119 : decode cX0_style 119 = .ok (.iload 5, 2) := by decide +kernel
theorem dX0_style_121 : decode cX0_style 121 = .ok (.iload 9, 2) := by decide +kernel
theorem dX0_style_123 : decode cX0_style 123 = .ok (.iastore, 1) := by decide +kernel
theorem dX0_style_124 : decode cX0_style 124 = .ok (.iload 7, 2) := by decide +kernel
theorem dX0_style_126 : decode cX0_style 126 = .ok (.aload_n 0, 1) := by decide +kernel
theorem dX0_style_127 : decode cX0_style 127 = .ok (.getfield 13, 3) := by decide +kernel
theorem dX0_style_130 : decode cX0_style 130 = .ok (.iload 5, 2) := by decide +kernel
theorem dX0_style_132 : decode cX0_style 132 = .ok (.iaload, 1) := by decide +kernel
theorem dX0_style_133 : decode cX0_style 133 = .ok (.iadd, 1) := by decide +kernel
theorem dX0_style_134 : decode cX0_style 134 = .ok (.istore 7, 2) := by decide +kernel
theorem dX0_style_136 : decode cX0_style 136 = .ok (.iinc 5 1, 3) := by decide +kernel
theorem dX0_style_139 : decode cX0_style 139 = .ok (.iinc 8 1, 3) := by decide +kernel
theorem dX0_style_142 : decode cX0_style 142 = .ok (.goto (-80), 3) := by decide +kernel
theorem dX0_style_145 : decode cX0_style 145 = .ok (.aload_n 0, 1) := by decide +kernel
theorem dX0_style_146 : decode cX0_style 146 = .ok (.invokevirtual 55, 3) := by decide +kernel
theorem dX0_style_149 : decode cX0_style 149 = .ok (.iload 6, 2) := by decide +kernel
theorem dX0_style_151 : decode cX0_style 151 = .ok (.ireturn, 1) := by decide +kernel
theorem dX0_mixed_0 : decode cX0_mixed 0 = .ok (.iload_n 2, 1) := by decide +kernel
theorem dX0_mixed_1 : decode cX0_mixed 1 = .ok (.bipush 7, 2) := by decide +kernel
theorem dX0_mixed_3 : decode cX0_mixed 3 = .ok (.iand, 1) := by decide +kernel
theorem dX0_mixed_4 : decode cX0_mixed 4 = .ok (.istore 4, 2) := by decide +kernel
theorem dX0_mixed_6 : decode cX0_mixed 6 = .ok (.iload_n 2, 1) := by decide +kernel
theorem dX0_mixed_7 : decode cX0_mixed 7 = .ok (.bipush 8, 2) := by decide +kernel
theorem dX0_mixed_9 : decode cX0_mixed 9 = .ok (.if_icmp .lt 10, 3) := by decide +kernel
end
section
set_option maxRecDepth 100000
theorem dX0_mixed_12 : decode cX0_mixed 12 = .ok (.iload 4, 2) := by decide +kernel
theorem dX0_mixed_14 : decode cX0_mixed 14 = .ok (.bipush 56, 2) := by decide +kernel
theorem dX0_mixed_16 : decode cX0_mixed 16 = .ok (.ior, 1) := by decide +kernel
theorem dX0_mixed_17 : decode cX0_mixed 17 = .ok (.istore 4, 2) := by decide +kernel
theorem dX0_mixed_19 : decode cX0_mixed 19 = .ok (.iload_n 1, 1) := by decide +kernel
theorem dX0_mixed_20 : decode cX0_mixed 20 = .ok (.iload 4, 2) := by decide +kernel
theorem dX0_mixed_22 : decode cX0_mixed 22 = .ok (.iconst (-1), 1) := by decide +kernel
theorem dX0_mixed_23 : decode cX0_mixed 23 = .ok (.ixor, 1) := by decide +kernel
theorem dX0_mixed_24 : decode cX0_mixed 24 = .ok (.iand, 1) := by decide +kernel
theorem dX0_mixed_25 : decode cX0_mixed 25 = .ok (.iload_n 3, 1) := by decide +kernel
theorem dX0_mixed_26 : decode cX0_mixed 26 = .ok (.iload 4, 2) := by decide +kernel
theorem dX0_mixed_28 : decode cX0_mixed 28 = .ok (.iand, 1) := by decide +kernel
theorem dX0_mixed_29 : decode cX0_mixed 29 = .ok (.ior, 1) := by decide +kernel
theorem dX0_mixed_30 : decode cX0_mixed 30 = .ok (.ireturn, 1) := by decide +kernel
theorem dX0_toggle_0 : decode cX0_toggle 0 = .ok (.aload_n 0, 1) := by decide +kernel
theorem dX0_toggle_1 : decode cX0_toggle 1 = .ok (.iload_n 1, 1) := by decide +kernel
theorem dX0_toggle_2 : decode cX0_toggle 2 = .ok (.iload_n 2, 1) := by decide +kernel
theorem dX0_toggle_3 : decode cX0_toggle 3 = .ok (.invokevirtual 95, 3) := by decide +kernel
theorem dX0_toggle_6 : decode cX0_toggle 6 = .ok (.ifCond .ne 18, 3) := by decide +kernel
theorem dX0_toggle_9 : decode cX0_toggle 9 = .ok (.iload_n 3, 1) := by decide +kernel
theorem dX0_toggle_10 : decode cX0_toggle 10 = .ok (.iconst 1, 1) := by decide +kernel
theorem dX0_toggle_11 : decode cX0_toggle 11 = .ok (.if_icmp .eq 15, 3) := by decide +kernel
theorem dX0_toggle_14 : decode cX0_toggle 14 = .ok (.iload_n 3, 1) := by decide +kernel
theorem dX0_toggle_15 : decode cX0_toggle 15 = .ok (.iconst 2, 1) := by decide +kernel
theorem dX0_toggle_16 : decode cX0_toggle 16 = .ok (.if_icmp .eq 10, 3) := by decide +kernel
theorem dX0_toggle_19 : decode cX0_toggle 19 = .ok (.iload_n 3, 1) := by decide +kernel
theorem dX0_toggle_20 : decode cX0_toggle 20 = .ok (.iconst 4, 1) := by decide +kernel
theorem dX0_toggle_21 : decode cX0_toggle 21 = .ok (.if_icmp .eq 5, 3) := by decide +kernel
theorem dX0_toggle_24 : decode cX0_toggle 24 = .ok (.iconst (-1), 1) := by decide +kernel
theorem dX0_toggle_25 : decode cX0_toggle 25 = .ok (.ireturn, 1) := by decide +kernel
theorem dX0_toggle_26 : decode cX0_toggle 26 = .ok (.iload_n 1, 1) := by decide +kernel
theorem dX0_toggle_27 : decode cX0_toggle 27 = .ok (.iload_n 2, 1) := by decide +kernel
theorem dX0_toggle_28 : decode cX0_toggle 28 = .ok (.if_icmp .ne 5, 3) := by decide +kernel
theorem dX0_toggle_31 : decode cX0_toggle 31 = .ok (.iconst 0, 1) := by decide +kernel
theorem dX0_toggle_32 : decode cX0_toggle 32 = .ok (.ireturn, 1) := by decide +kernel
theorem dX0_toggle_33 : decode cX0_toggle 33 = .ok (.aload_n 0, 1) := by decide +kernel
theorem dX0_toggle_34 : decode cX0_toggle 34 = .ok (.iload_n 1, 1) := by decide +kernel
theorem dX0_toggle_35 : decode cX0_toggle 35 = .ok (.invokevirtual 42, 3) := by decide +kernel
theorem dX0_toggle_38 : decode cX0_toggle 38 = .ok (.istore 4, 2) := by decide +kernel
theorem dX0_toggle_40 : decode cX0_toggle 40 = .ok (.aload_n 0, 1) := by decide +kernel
theorem dX0_toggle_41 : decode cX0_toggle 41 = .ok (.getfield 36, 3) := by decide +kernel
theorem dX0_toggle_44 : decode cX0_toggle 44 = .ok (.istore 5, 2) := by decide +kernel
theorem dX0_toggle_46 : decode cX0_toggle 46 = .ok (.iconst 1, 1) := by decide +kernel
theorem dX0_toggle_47 : decode cX0_toggle 47 = .ok (.istore 6, 2) := by decide +kernel
theorem dX0_toggle_49 : decode cX0_toggle 49 = .ok (.iconst 0, 1) := by decide +kernel
theorem dX0_toggle_50 : decode cX0_toggle 50 = .ok (.istore 7, 2) := by decide +kernel
theorem dX0_toggle_52 : decode cX0_toggle 52 = .ok (.iload 7, 2) := by decide +kernel
theorem dX0_toggle_54 : decode cX0_toggle 54 = .ok (.bipush 64, 2) := by decide +kernel
theorem dX0_toggle_56 : decode cX0_toggle 56 = .ok (.if_icmp .ge 54, 3) := by decide +kernel
theorem dX0_toggle_59 : decode cX0_toggle 59 = .ok (.iload 5, 2) := by decide +kernel
theorem dX0_toggle_61 : decode cX0_toggle 61 = .ok (.iload_n 2, 1) := by decide +kernel
theorem dX0_toggle_62 : decode cX0_toggle 62 = .ok (.if_icmp .ge 48, 3) := by decide +kernel
theorem dX0_toggle_65 : decode cX0_toggle 65 = .ok (.iload 6, 2) := by decide +kernel
theorem dX0_toggle_67 : decode cX0_toggle 67 = .ok (.ifCond .eq 19, 3) := by decide +kernel
theorem dX0_toggle_70 : decode cX0_toggle 70 = .ok (.aload_n 0, 1) := by decide +kernel
theorem dX0_toggle_71 : decode cX0_toggle 71 = .ok (.getfield 16, 3) := by decide +kernel
theorem dX0_toggle_74 : decode cX0_toggle 74 = .ok (.iload 4, 2) := by decide +kernel
theorem dX0_toggle_76 : decode cX0_toggle 76 = .ok (.iaload, 1) := by decide +kernel
theorem dX0_toggle_77 : decode cX0_toggle 77 = .ok (.iload_n 3, 1) := by decide +kernel
theorem dX0_toggle_78 : decode cX0_toggle 78 = .ok (.iand, 1) := by decide +kernel
theorem dX0_toggle_79 : decode cX0_toggle 79 = .ok (.ifCond .eq 7, 3) := by decide +kernel
theorem dX0_toggle_82 : decode cX0_toggle 82 = .ok (.iconst 1, 1) := by decide +kernel
theorem dX0_toggle_83 : decode cX0_toggle 83 = .ok (.goto 4, 3) := by decide +kernel
theorem dX0_toggle_86 : decode cX0_toggle 86 = .ok (.iconst 0, 1) := by decide +kernel
theorem dX0_toggle_87 : decode cX0_toggle 87 = .ok (.istore 6, 2) := by decide +kernel
theorem dX0_toggle_89 : decode cX0_toggle 89 = .ok (.iload 5, 2) := by decide +kernel
theorem dX0_toggle_91 : decode cX0_toggle 91 = .ok (.aload_n 0, 1) := by decide +kernel
theorem dX0_toggle_92 : decode cX0_toggle 92 = .ok (.getfield 13, 3) := by decide +kernel
theorem dX0_toggle_95 : decode cX0_toggle 95 = .ok (.iload 4, 2) := by decide +kernel
theorem dX0_toggle_97 : decode cX0_toggle 97 = .ok (.iaload, 1) := by decide +kernel
theorem dX0_toggle_98 : decode cX0_toggle 98 = .ok (.iadd, 1) := by decide +kernel
theorem dX0_toggle_99 : decode cX0_toggle 99 = .ok (.istore 5, 2) := by decide +kernel
theorem dX0_toggle_101 : decode cX0_toggle 101 = .ok (.iinc 4 1, 3) := by decide +kernel
theorem dX0_toggle_104 : decode cX0_toggle 104 = .ok (.iinc 7 1, 3) := by decide +kernel
theorem dX0_toggle_107 : decode cX0_toggle 107 = .ok (.goto (-55), 3) := by decide +kernel
theorem dX0_toggle_110 : decode cX0_toggle 110 = .ok (.aload_n 0, 1) := by decide +kernel
theorem dX0_toggle_111 : decode cX0_toggle 111 = .ok (.iload_n 1, 1) := by decide +kernel
theorem dX0_toggle_112 : decode cX0_toggle 112 = .ok (.iload_n 2, 1) := by decide +kernel
theorem dX0_toggle_113 : decode cX0_toggle 113 = .ok (.iload_n 3, 1) := by decide +kernel
theorem dX0_toggle_114 : decode cX0_toggle 114 = .ok (.iload 6, 2) := by decide +kernel
theorem dX0_toggle_116 : decode cX0_toggle 116 = .ok (.ifCond .eq 7, 3) := by decide +kernel
theorem dX0_toggle_119 : decode cX0_toggle 119 = .ok (.iconst 0, 1) := by decide +kernel
theorem dX0_toggle_120 : decode cX0_toggle 120 = .ok (.goto 4, 3) := by decide +kernel
theorem dX0_toggle_123 : decode cX0_toggle 123 = .ok (.iload_n 3, 1) := by decide +kernel
theorem dX0_toggle_124 : decode cX0_toggle 124 = .ok (.invokevirtual 112, 3) := by decide +kernel
theorem dX0_toggle_127 : decode cX0_toggle 127 = .ok (.pop, 1) := by decide +kernel
theorem dX0_toggle_128 : decode cX0_toggle 128 = .ok (.iload 6, 2) := by decide +kernel
theorem dX0_toggle_130 : decode cX0_toggle 130 = .ok (.ifCond .eq 7, 3) := by decide +kernel
theorem dX0_toggle_133 : decode cX0_toggle 133 = .ok (.iconst 0, 1) := by decide +kernel
theorem dX0_toggle_134 : decode cX0_toggle 134 = .ok (.goto 4, 3) := by decide +kernel
theorem dX0_toggle_137 : decode cX0_toggle 137 = .ok (.iconst 1, 1) := by decide +kernel
theorem dX0_toggle_138 : decode cX0_toggle 138 = .ok (.ireturn, 1) := by decide +kernel
theorem dX0_replace_0 : decode cX0_replace 0 = .ok (.aload_n 0, 1) := by decide +kernel
theorem dX0_replace_1 : decode cX0_replace 1 = .ok (.iload_n 1, 1) := by decide +kernel
theorem dX0_replace_2 : decode cX0_replace 2 = .ok (.invokevirtual 84, 3) := by decide +kernel
theorem dX0_replace_5 : decode cX0_replace 5 = .ok (.ifCond .ne 11, 3) := by decide +kernel
theorem dX0_replace_8 : decode cX0_replace 8 = .ok (.aload_n 0, 1) := by decide +kernel
theorem dX0_replace_9 : decode cX0_replace 9 = .ok (.iload_n 2, 1) := by decide +kernel
theorem dX0_replace_10 : decode cX0_replace 10 = .ok (.invokevirtual 84, 3) := by decide +kernel
theorem dX0_replace_13 : decode cX0_replace 13 = .ok (.ifCond .eq 5, 3) := by decide +kernel
theorem dX0_replace_16 : decode cX0_replace 16 = .ok (.iconst (-1), 1) := by decide +kernel
theorem dX0_replace_17 : decode cX0_replace 17 = .ok (.ireturn, 1) := by decide +kernel
theorem dX0_replace_18 : decode cX0_replace 18 = .ok (.iconst 0, 1) := by decide +kernel
theorem dX0_replace_19 : decode cX0_replace 19 = .ok (.istore_n 3, 1) := by decide +kernel
theorem dX0_replace_20 : decode cX0_replace 20 = .ok (.iconst 0, 1) := by decide +kernel
theorem dX0_replace_21 : decode cX0_replace 21 = .ok (.istore 4, 2) := by decide +kernel
theorem dX0_replace_23 : decode cX0_replace 23 = .ok (.iload 4, 2) := by decide +kernel
theorem dX0_replace_25 : decode cX0_replace 25 = .ok (.aload_n 0, 1) := by decide +kernel
theorem dX0_replace_26 : decode cX0_replace 26 = .ok (.getfield 25, 3) := by decide +kernel
theorem dX0_replace_29 : decode cX0_replace 29 = .ok (.if_icmp .ge 39, 3) := by decide +kernel
theorem dX0_replace_32 : decode cX0_replace 32 = .ok (.aload_n 0, 1) := by decide +kernel
theorem dX0_replace_33 : decode cX0_replace 33 = .ok (.iload 4, 2) := by decide +kernel
theorem dX0_replace_35 : decode cX0_replace 35 = .ok (.invokevirtual 81, 3) := by decide +kernel
theorem dX0_replace_38 : decode cX0_replace 38 = .ok (.istore 5, 2) := by decide +kernel
theorem dX0_replace_40 : decode cX0_replace 40 = .ok (.aload_n 0, 1) := by decide +kernel
theorem dX0_replace_41 : decode cX0_replace 41 = .ok (.getfield 7, 3) := by decide +kernel
theorem dX0_replace_44 : decode cX0_replace 44 = .ok (.iload 5, 2) := by decide +kernel
theorem dX0_replace_46 : decode cX0_replace 46 = .ok (.iaload, 1) := by decide +kernel
theorem dX0_replace_47 : decode cX0_replace 47 = .ok (.iload_n 1, 1) := by decide +kernel
theorem dX0_replace_48 : decode cX0_replace 48 = .ok (.if_icmp .ne 14, 3) := by decide +kernel
theorem dX0_replace_51 : decode cX0_replace 51 = .ok (.aload_n 0, 1) := by decide +kernel
theorem dX0_replace_52 : decode cX0_replace 52 = .ok (.getfield 7, 3) := by decide +kernel
theorem dX0_replace_55 : decode cX0_replace 55 = .ok (.iload 5, 2) := by decide +kernel
theorem dX0_replace_57 : decode cX0_replace 57 = .ok (.iload_n 2, 1) := by decide +kernel
theorem dX0_replace_58 : decode cX0_replace 58 = .ok (.iastore, 1) := by decide +kernel
theorem dX0_replace_59 : decode cX0_replace 59 = .ok (.iinc 3 1, 3) := by decide +kernel
theorem dX0_replace_62 : decode cX0_replace 62 = .ok (.iinc 4 1, 3) := by decide +kernel
theorem dX0_replace_65 : decode cX0_replace 65 = .ok (.goto (-42), 3) := by decide +kernel
theorem dX0_replace_68 : decode cX0_replace 68 = .ok (.iload_n 3, 1) := by decide +kernel
theorem dX0_replace_69 : decode cX0_replace 69 = .ok (.ireturn, 1) := by decide +kernel
theorem dX0_length_0 : decode cX0_length 0 = .ok (.aload_n 0, 1) := by decide +kernel
theorem dX0_length_1 : decode cX0_length 1 = .ok (.getfield 25, 3) := by decide +kernel
theorem dX0_length_4 : decode cX0_length 4 = .ok (.ireturn, 1) := by decide +kernel
theorem dX0_letter_0 : decode cX0_letter 0 = .ok (.aload_n 0, 1) := by decide +kernel
theorem dX0_letter_1 : decode cX0_letter 1 = .ok (.iload_n 1, 1) := by decide +kernel
theorem dX0_letter_2 : decode cX0_letter 2 = .ok (.invokevirtual 116, 3) := by decide +kernel
theorem dX0_letter_5 : decode cX0_letter 5 = .ok (.ifCond .eq 8, 3) := by decide +kernel
theorem dX0_letter_8 : decode cX0_letter 8 = .ok (.bipush (-4), 2) := by decide +kernel
theorem dX0_letter_10 : decode cX0_letter 10 = .ok (.goto 13, 3) := by decide +kernel
theorem dX0_letter_13 : decode cX0_letter 13 = .ok (.aload_n 0, 1) := by decide +kernel
theorem dX0_letter_14 : decode cX0_letter 14 = .ok (.getfield 7, 3) := by decide +kernel
theorem dX0_letter_17 : decode cX0_letter 17 = .ok (.aload_n 0, 1) := by decide +kernel
theorem dX0_letter_18 : decode cX0_letter 18 = .ok (.iload_n 1, 1) := by decide +kernel
theorem dX0_letter_19 : decode cX0_letter 19 = .ok (.invokevirtual 81, 3) := by decide +kernel
theorem dX0_letter_22 : decode cX0_letter 22 = .ok (.iaload, 1) := by decide +kernel
theorem dX0_letter_23 : decode cX0_letter 23 = .ok (.ireturn, 1) := by decide +kernel
theorem dX0_off_0 : decode cX0_off 0 = .ok (.iload_n 1, 1) := by decide +kernel
theorem dX0_off_1 : decode cX0_off 1 = .ok (.ifCond .lt 11, 3) := by decide +kernel
theorem dX0_off_4 : decode cX0_off 4 = .ok (.iload_n 1, 1) := by decide +kernel
theorem dX0_off_5 : decode cX0_off 5 = .ok (.aload_n 0, 1) := by decide +kernel
theorem dX0_off_6 : decode cX0_off 6 = .ok (.getfield 25, 3) := by decide +kernel
theorem dX0_off_9 : decode cX0_off 9 = .ok (.if_icmp .lt 7, 3) := by decide +kernel
theorem dX0_off_12 : decode cX0_off 12 = .ok (.iconst 1, 1) := by decide +kernel
theorem dX0_off_13 : decode cX0_off 13 = .ok (.goto 4, 3) := by decide +kernel
theorem dX0_off_16 : decode cX0_off 16 = .ok (.iconst 0, 1) := by decide +kernel
theorem dX0_off_17 : decode cX0_off 17 = .ok (.ireturn, 1) := by decide +kernel
theorem dX0_styleAt_0 : decode cX0_styleAt 0 = .ok (.aload_n 0, 1) := by decide +kernel
theorem dX0_styleAt_1 : decode cX0_styleAt 1 = .ok (.iload_n 1, 1) := by decide +kernel
theorem dX0_styleAt_2 : decode cX0_styleAt 2 = .ok (.invokevirtual 116, 3) := by decide +kernel
theorem dX0_styleAt_5 : decode cX0_styleAt 5 = .ok (.ifCond .eq 8, 3) := by decide +kernel
theorem dX0_styleAt_8 : decode cX0_styleAt 8 = .ok (.bipush (-4), 2) := by decide +kernel
theorem dX0_styleAt_10 : decode cX0_styleAt 10 = .ok (.goto 8, 3) := by decide +kernel
theorem dX0_styleAt_13 : decode cX0_styleAt 13 = .ok (.aload_n 0, 1) := by decide +kernel
theorem dX0_styleAt_14 : decode cX0_styleAt 14 = .ok (.iload_n 1, 1) := by decide +kernel
theorem dX0_styleAt_15 : decode cX0_styleAt 15 = .ok (.invokevirtual 88, 3) := by decide +kernel
theorem dX0_styleAt_18 : decode cX0_styleAt 18 = .ok (.ireturn, 1) := by decide +kernel
theorem dX0_runs_0 : decode cX0_runs 0 = .ok (.aload_n 0, 1) := by decide +kernel
theorem dX0_runs_1 : decode cX0_runs 1 = .ok (.getfield 39, 3) := by decide +kernel
theorem dX0_runs_4 : decode cX0_runs 4 = .ok (.ireturn, 1) := by decide +kernel
theorem dX0_runBegin_0 : decode cX0_runBegin 0 = .ok (.iload_n 1, 1) := by decide +kernel
theorem dX0_runBegin_1 : decode cX0_runBegin 1 = .ok (.ifCond .lt 11, 3) := by decide +kernel
theorem dX0_runBegin_4 : decode cX0_runBegin 4 = .ok (.iload_n 1, 1) := by decide +kernel
theorem dX0_runBegin_5 : decode cX0_runBegin 5 = .ok (.aload_n 0, 1) := by decide +kernel
theorem dX0_runBegin_6 : decode cX0_runBegin 6 = .ok (.getfield 39, 3) := by decide +kernel
theorem dX0_runBegin_9 : decode cX0_runBegin 9 = .ok (.if_icmp .lt 6, 3) := by decide +kernel
theorem dX0_runBegin_12 : decode cX0_runBegin 12 = .ok (.bipush (-4), 2) := by decide +kernel
theorem dX0_runBegin_14 : decode cX0_runBegin 14 = .ok (.ireturn, 1) := by decide +kernel
theorem dX0_runBegin_15 : decode cX0_runBegin 15 = .ok (.iconst 0, 1) := by decide +kernel
theorem dX0_runBegin_16 : decode cX0_runBegin 16 = .ok (.istore_n 2, 1) := by decide +kernel
theorem dX0_runBegin_17 : decode cX0_runBegin 17 = .ok (.iconst 0, 1) := by decide +kernel
theorem dX0_runBegin_18 : decode cX0_runBegin 18 = .ok (.istore_n 3, 1) := by decide +kernel
theorem dX0_runBegin_19 : decode cX0_runBegin 19 = .ok (.iload_n 3, 1) := by decide +kernel
theorem dX0_runBegin_20 : decode cX0_runBegin 20 = .ok (.iload_n 1, 1) := by decide +kernel
theorem dX0_runBegin_21 : decode cX0_runBegin 21 = .ok (.if_icmp .ge 18, 3) := by decide +kernel
theorem dX0_runBegin_24 : decode cX0_runBegin 24 = .ok (.iload_n 2, 1) := by decide +kernel
theorem dX0_runBegin_25 : decode cX0_runBegin 25 = .ok (.aload_n 0, 1) := by decide +kernel
theorem dX0_runBegin_26 : decode cX0_runBegin 26 = .ok (.getfield 13, 3) := by decide +kernel
theorem dX0_runBegin_29 : decode cX0_runBegin 29 = .ok (.iload_n 3, 1) := by decide +kernel
theorem dX0_runBegin_30 : decode cX0_runBegin 30 = .ok (.iaload, 1) := by decide +kernel
theorem dX0_runBegin_31 : decode cX0_runBegin 31 = .ok (.iadd, 1) := by decide +kernel
theorem dX0_runBegin_32 : decode cX0_runBegin 32 = .ok (.istore_n 2, 1) := by decide +kernel
theorem dX0_runBegin_33 : decode cX0_runBegin 33 = .ok (.iinc 3 1, 3) := by decide +kernel
theorem dX0_runBegin_36 : decode cX0_runBegin 36 = .ok (.goto (-17), 3) := by decide +kernel
theorem dX0_runBegin_39 : decode cX0_runBegin 39 = .ok (.iload_n 2, 1) := by decide +kernel
theorem dX0_runBegin_40 : decode cX0_runBegin 40 = .ok (.ireturn, 1) := by decide +kernel
theorem dX0_runStyle_0 : decode cX0_runStyle 0 = .ok (.iload_n 1, 1) := by decide +kernel
theorem dX0_runStyle_1 : decode cX0_runStyle 1 = .ok (.ifCond .lt 11, 3) := by decide +kernel
theorem dX0_runStyle_4 : decode cX0_runStyle 4 = .ok (.iload_n 1, 1) := by decide +kernel
theorem dX0_runStyle_5 : decode cX0_runStyle 5 = .ok (.aload_n 0, 1) := by decide +kernel
theorem dX0_runStyle_6 : decode cX0_runStyle 6 = .ok (.getfield 39, 3) := by decide +kernel
theorem dX0_runStyle_9 : decode cX0_runStyle 9 = .ok (.if_icmp .lt 8, 3) := by decide +kernel
theorem dX0_runStyle_12 : decode cX0_runStyle 12 = .ok (.bipush (-4), 2) := by decide +kernel
theorem dX0_runStyle_14 : decode cX0_runStyle 14 = .ok (.goto 9, 3) := by decide +kernel
theorem dX0_runStyle_17 : decode cX0_runStyle 17 = .ok (.aload_n 0, 1) := by decide +kernel
theorem dX0_runStyle_18 : decode cX0_runStyle 18 = .ok (.getfield 16, 3) := by decide +kernel
theorem dX0_runStyle_21 : decode cX0_runStyle 21 = .ok (.iload_n 1, 1) := by decide +kernel
theorem dX0_runStyle_22 : decode cX0_runStyle 22 = .ok (.iaload, 1) := by decide +kernel
theorem dX0_runStyle_23 : decode cX0_runStyle 23 = .ok (.ireturn, 1) := by decide +kernel
theorem dX0_runOf_0 : decode cX0_runOf 0 = .ok (.aload_n 0, 1) := by decide +kernel
theorem dX0_runOf_1 : decode cX0_runOf 1 = .ok (.iload_n 1, 1) := by decide +kernel
theorem dX0_runOf_2 : decode cX0_runOf 2 = .ok (.invokevirtual 116, 3) := by decide +kernel
theorem dX0_runOf_5 : decode cX0_runOf 5 = .ok (.ifCond .eq 8, 3) := by decide +kernel
theorem dX0_runOf_8 : decode cX0_runOf 8 = .ok (.bipush (-4), 2) := by decide +kernel
theorem dX0_runOf_10 : decode cX0_runOf 10 = .ok (.goto 8, 3) := by decide +kernel
theorem dX0_runOf_13 : decode cX0_runOf 13 = .ok (.aload_n 0, 1) := by decide +kernel
theorem dX0_runOf_14 : decode cX0_runOf 14 = .ok (.iload_n 1, 1) := by decide +kernel
theorem dX0_runOf_15 : decode cX0_runOf 15 = .ok (.invokevirtual 42, 3) := by decide +kernel
theorem dX0_runOf_18 : decode cX0_runOf 18 = .ok (.ireturn, 1) := by decide +kernel
theorem dX0_having_0 : decode cX0_having 0 = .ok (.iload_n 1, 1) := by decide +kernel
theorem dX0_having_1 : decode cX0_having 1 = .ok (.ifCond .lt 9, 3) := by decide +kernel
theorem dX0_having_4 : decode cX0_having 4 = .ok (.iload_n 1, 1) := by decide +kernel
theorem dX0_having_5 : decode cX0_having 5 = .ok (.bipush 7, 2) := by decide +kernel
theorem dX0_having_7 : decode cX0_having 7 = .ok (.if_icmp .le 5, 3) := by decide +kernel
theorem dX0_having_10 : decode cX0_having 10 = .ok (.iconst (-1), 1) := by decide +kernel
theorem dX0_having_11 : decode cX0_having 11 = .ok (.ireturn, 1) := by decide +kernel
theorem dX0_having_12 : decode cX0_having 12 = .ok (.iconst 0, 1) := by decide +kernel
theorem dX0_having_13 : decode cX0_having 13 = .ok (.istore_n 2, 1) := by decide +kernel
theorem dX0_having_14 : decode cX0_having 14 = .ok (.iconst 0, 1) := by decide +kernel
theorem dX0_having_15 : decode cX0_having 15 = .ok (.istore_n 3, 1) := by decide +kernel
theorem dX0_having_16 : decode cX0_having 16 = .ok (.iload_n 3, 1) := by decide +kernel
theorem dX0_having_17 : decode cX0_having 17 = .ok (.aload_n 0, 1) := by decide +kernel
theorem dX0_having_18 : decode cX0_having 18 = .ok (.getfield 39, 3) := by decide +kernel
theorem dX0_having_21 : decode cX0_having 21 = .ok (.if_icmp .ge 30, 3) := by decide +kernel
theorem dX0_having_24 : decode cX0_having 24 = .ok (.aload_n 0, 1) := by decide +kernel
theorem dX0_having_25 : decode cX0_having 25 = .ok (.getfield 16, 3) := by decide +kernel
theorem dX0_having_28 : decode cX0_having 28 = .ok (.iload_n 3, 1) := by decide +kernel
theorem dX0_having_29 : decode cX0_having 29 = .ok (.iaload, 1) := by decide +kernel
theorem dX0_having_30 : decode cX0_having 30 = .ok (.iload_n 1, 1) := by decide +kernel
theorem dX0_having_31 : decode cX0_having 31 = .ok (.iand, 1) := by decide +kernel
theorem dX0_having_32 : decode cX0_having 32 = .ok (.iload_n 1, 1) := by decide +kernel
theorem dX0_having_33 : decode cX0_having 33 = .ok (.if_icmp .ne 12, 3) := by decide +kernel
theorem dX0_having_36 : decode cX0_having 36 = .ok (.iload_n 2, 1) := by decide +kernel
theorem dX0_having_37 : decode cX0_having 37 = .ok (.aload_n 0, 1) := by decide +kernel
theorem dX0_having_38 : decode cX0_having 38 = .ok (.getfield 13, 3) := by decide +kernel
theorem dX0_having_41 : decode cX0_having 41 = .ok (.iload_n 3, 1) := by decide +kernel
theorem dX0_having_42 : decode cX0_having 42 = .ok (.iaload, 1) := by decide +kernel
theorem dX0_having_43 : decode cX0_having 43 = .ok (.iadd, 1) := by decide +kernel
theorem dX0_having_44 : decode cX0_having 44 = .ok (.istore_n 2, 1) := by decide +kernel
theorem dX0_having_45 : decode cX0_having 45 = .ok (.iinc 3 1, 3) := by decide +kernel
theorem dX0_having_48 : decode cX0_having 48 = .ok (.goto (-32), 3) := by decide +kernel
theorem dX0_having_51 : decode cX0_having 51 = .ok (.iload_n 2, 1) := by decide +kernel
theorem dX0_having_52 : decode cX0_having 52 = .ok (.ireturn, 1) := by decide +kernel
theorem dX0_setFlag_0 : decode cX0_setFlag 0 = .ok (.iload_n 1, 1) := by decide +kernel
theorem dX0_setFlag_1 : decode cX0_setFlag 1 = .ok (.ifCond .lt 11, 3) := by decide +kernel
theorem dX0_setFlag_4 : decode cX0_setFlag 4 = .ok (.iload_n 1, 1) := by decide +kernel
theorem dX0_setFlag_5 : decode cX0_setFlag 5 = .ok (.aload_n 0, 1) := by decide +kernel
theorem dX0_setFlag_6 : decode cX0_setFlag 6 = .ok (.getfield 25, 3) := by decide +kernel
theorem dX0_setFlag_9 : decode cX0_setFlag 9 = .ok (.if_icmp .le 5, 3) := by decide +kernel
theorem dX0_setFlag_12 : decode cX0_setFlag 12 = .ok (.iconst (-1), 1) := by decide +kernel
theorem dX0_setFlag_13 : decode cX0_setFlag 13 = .ok (.ireturn, 1) := by decide +kernel
theorem dX0_setFlag_14 : decode cX0_setFlag 14 = .ok (.aload_n 0, 1) := by decide +kernel
theorem dX0_setFlag_15 : decode cX0_setFlag 15 = .ok (.getfield 58, 3) := by decide +kernel
theorem dX0_setFlag_18 : decode cX0_setFlag 18 = .ok (.istore_n 2, 1) := by decide +kernel
theorem dX0_setFlag_19 : decode cX0_setFlag 19 = .ok (.aload_n 0, 1) := by decide +kernel
theorem dX0_setFlag_20 : decode cX0_setFlag 20 = .ok (.iload_n 1, 1) := by decide +kernel
theorem dX0_setFlag_21 : decode cX0_setFlag 21 = .ok (.putfield 58, 3) := by decide +kernel
theorem dX0_setFlag_24 : decode cX0_setFlag 24 = .ok (.iload_n 2, 1) := by decide +kernel
theorem dX0_setFlag_25 : decode cX0_setFlag 25 = .ok (.ireturn, 1) := by decide +kernel
theorem dX0_flag_0 : decode cX0_flag 0 = .ok (.aload_n 0, 1) := by decide +kernel
theorem dX0_flag_1 : decode cX0_flag 1 = .ok (.getfield 58, 3) := by decide +kernel
theorem dX0_flag_4 : decode cX0_flag 4 = .ok (.ireturn, 1) := by decide +kernel
theorem dX0_digest_0 : decode cX0_digest 0 = .ok (.iconst 0, 1) := by decide +kernel
theorem dX0_digest_1 : decode cX0_digest 1 = .ok (.istore_n 1, 1) := by decide +kernel
theorem dX0_digest_2 : decode cX0_digest 2 = .ok (.iconst 0, 1) := by decide +kernel
theorem dX0_digest_3 : decode cX0_digest 3 = .ok (.istore_n 2, 1) := by decide +kernel
theorem dX0_digest_4 : decode cX0_digest 4 = .ok (.iconst 0, 1) := by decide +kernel
theorem dX0_digest_5 : decode cX0_digest 5 = .ok (.istore_n 3, 1) := by decide +kernel
theorem dX0_digest_6 : decode cX0_digest 6 = .ok (.iload_n 3, 1) := by decide +kernel
theorem dX0_digest_7 : decode cX0_digest 7 = .ok (.aload_n 0, 1) := by decide +kernel
theorem dX0_digest_8 : decode cX0_digest 8 = .ok (.getfield 39, 3) := by decide +kernel
theorem dX0_digest_11 : decode cX0_digest 11 = .ok (.if_icmp .ge 61, 3) := by decide +kernel
theorem dX0_digest_14 : decode cX0_digest 14 = .ok (.iconst 0, 1) := by decide +kernel
theorem dX0_digest_15 : decode cX0_digest 15 = .ok (.istore 4, 2) := by decide +kernel
theorem dX0_digest_17 : decode cX0_digest 17 = .ok (.iload 4, 2) := by decide +kernel
theorem dX0_digest_19 : decode cX0_digest 19 = .ok (.aload_n 0, 1) := by decide +kernel
theorem dX0_digest_20 : decode cX0_digest 20 = .ok (.getfield 13, 3) := by decide +kernel
theorem dX0_digest_23 : decode cX0_digest 23 = .ok (.iload_n 3, 1) := by decide +kernel
theorem dX0_digest_24 : decode cX0_digest 24 = .ok (.iaload, 1) := by decide +kernel
theorem dX0_digest_25 : decode cX0_digest 25 = .ok (.if_icmp .ge 41, 3) := by decide +kernel
theorem dX0_digest_28 : decode cX0_digest 28 = .ok (.aload_n 0, 1) := by decide +kernel
theorem dX0_digest_29 : decode cX0_digest 29 = .ok (.iload_n 2, 1) := by decide +kernel
theorem dX0_digest_30 : decode cX0_digest 30 = .ok (.invokevirtual 81, 3) := by decide +kernel
theorem dX0_digest_33 : decode cX0_digest 33 = .ok (.istore 5, 2) := by decide +kernel
theorem dX0_digest_35 : decode cX0_digest 35 = .ok (.iinc 2 1, 3) := by decide +kernel
theorem dX0_digest_38 : decode cX0_digest 38 = .ok (.iload_n 1, 1) := by decide +kernel
theorem dX0_digest_39 : decode cX0_digest 39 = .ok (.iload_n 2, 1) := by decide +kernel
theorem dX0_digest_40 : decode cX0_digest 40 = .ok (.bipush 64, 2) := by decide +kernel
theorem dX0_digest_42 : decode cX0_digest 42 = .ok (.aload_n 0, 1) := by decide +kernel
theorem dX0_digest_43 : decode cX0_digest 43 = .ok (.getfield 7, 3) := by decide +kernel
theorem dX0_digest_46 : decode cX0_digest 46 = .ok (.iload 5, 2) := by decide +kernel
theorem dX0_digest_48 : decode cX0_digest 48 = .ok (.iaload, 1) := by decide +kernel
theorem dX0_digest_49 : decode cX0_digest 49 = .ok (.imul, 1) := by decide +kernel
theorem dX0_digest_50 : decode cX0_digest 50 = .ok (.aload_n 0, 1) := by decide +kernel
theorem dX0_digest_51 : decode cX0_digest 51 = .ok (.getfield 16, 3) := by decide +kernel
theorem dX0_digest_54 : decode cX0_digest 54 = .ok (.iload_n 3, 1) := by decide +kernel
theorem dX0_digest_55 : decode cX0_digest 55 = .ok (.iaload, 1) := by decide +kernel
theorem dX0_digest_56 : decode cX0_digest 56 = .ok (.iadd, 1) := by decide +kernel
theorem dX0_digest_57 : decode cX0_digest 57 = .ok (.imul, 1) := by decide +kernel
theorem dX0_digest_58 : decode cX0_digest 58 = .ok (.iadd, 1) := by decide +kernel
theorem dX0_digest_59 : decode cX0_digest 59 = .ok (.istore_n 1, 1) := by decide +kernel
theorem dX0_digest_60 : decode cX0_digest 60 = .ok (.iinc 4 1, 3) := by decide +kernel
theorem dX0_digest_63 : decode cX0_digest 63 = .ok (.goto (-46), 3) := by decide +kernel
theorem dX0_digest_66 : decode cX0_digest 66 = .ok (.iinc 3 1, 3) := by decide +kernel
theorem dX0_digest_69 : decode cX0_digest 69 = .ok (.goto (-63), 3) := by decide +kernel
theorem dX0_digest_72 : decode cX0_digest 72 = .ok (.iload_n 1, 1) := by decide +kernel
theorem dX0_digest_73 : decode cX0_digest 73 = .ok (.ireturn, 1) := by decide +kernel
end
section
set_option maxRecDepth 100000
theorem dX1_init_0 : decode cX1_init 0 = .ok (.aload_n 0, 1) := by decide +kernel
theorem dX1_init_1 : decode cX1_init 1 = .ok (.invokespecial 1, 3) := by decide +kernel
theorem dX1_init_4 : decode cX1_init 4 = .ok (.aload_n 0, 1) := by decide +kernel
theorem dX1_init_5 : decode cX1_init 5 = .ok (.bipush 64, 2) := by decide +kernel
theorem dX1_init_7 : decode cX1_init 7 = .ok (.newarray .int, 2) := by decide +kernel
theorem dX1_init_9 : decode cX1_init 9 = .ok (.putfield 7, 3) := by decide +kernel
theorem dX1_init_12 : decode cX1_init 12 = .ok (.aload_n 0, 1) := by decide +kernel
theorem dX1_init_13 : decode cX1_init 13 = .ok (.bipush 64, 2) := by decide +kernel
theorem dX1_init_15 : decode cX1_init 15 = .ok (.newarray .int, 2) := by decide +kernel
theorem dX1_init_17 : decode cX1_init 17 = .ok (.putfield 13, 3) := by decide +kernel
theorem dX1_init_20 : decode cX1_init 20 = .ok (.aload_n 0, 1) := by decide +kernel
theorem dX1_init_21 : decode cX1_init 21 = .ok (.bipush 64, 2) := by decide +kernel
theorem dX1_init_23 : decode cX1_init 23 = .ok (.newarray .int, 2) := by decide +kernel
theorem dX1_init_25 : decode cX1_init 25 = .ok (.putfield 16, 3) := by decide +kernel
theorem dX1_init_28 : decode cX1_init 28 = .ok (.aload_n 0, 1) := by decide +kernel
theorem dX1_init_29 : decode cX1_init 29 = .ok (.bipush 64, 2) := by decide +kernel
theorem dX1_init_31 : decode cX1_init 31 = .ok (.newarray .int, 2) := by decide +kernel
theorem dX1_init_33 : decode cX1_init 33 = .ok (.putfield 19, 3) := by decide +kernel
theorem dX1_init_36 : decode cX1_init 36 = .ok (.return_, 1) := by decide +kernel
theorem dX1_type_0 : decode cX1_type 0 = .ok (.aload_n 0, 1) := by decide +kernel
theorem dX1_type_1 : decode cX1_type 1 = .ok (.iload_n 2, 1) := by decide +kernel
theorem dX1_type_2 : decode cX1_type 2 = .ok (.invokevirtual 33, 3) := by decide +kernel
theorem dX1_type_5 : decode cX1_type 5 = .ok (.ifCond .eq 15, 3) := by decide +kernel
theorem dX1_type_8 : decode cX1_type 8 = .ok (.iload_n 1, 1) := by decide +kernel
theorem dX1_type_9 : decode cX1_type 9 = .ok (.ifCond .lt 11, 3) := by decide +kernel
theorem dX1_type_12 : decode cX1_type 12 = .ok (.iload_n 1, 1) := by decide +kernel
theorem dX1_type_13 : decode cX1_type 13 = .ok (.aload_n 0, 1) := by decide +kernel
theorem dX1_type_14 : decode cX1_type 14 = .ok (.getfield 22, 3) := by decide +kernel
theorem dX1_type_17 : decode cX1_type 17 = .ok (.if_icmp .le 5, 3) := by decide +kernel
theorem dX1_type_20 : decode cX1_type 20 = .ok (.iconst (-1), 1) := by decide +kernel
theorem dX1_type_21 : decode cX1_type 21 = .ok (.ireturn, 1) := by decide +kernel
theorem dX1_type_22 : decode cX1_type 22 = .ok (.aload_n 0, 1) := by decide +kernel
theorem dX1_type_23 : decode cX1_type 23 = .ok (.getfield 22, 3) := by decide +kernel
theorem dX1_type_26 : decode cX1_type 26 = .ok (.bipush 64, 2) := by decide +kernel
theorem dX1_type_28 : decode cX1_type 28 = .ok (.if_icmp .ne 6, 3) := by decide +kernel
theorem dX1_type_31 : decode cX1_type 31 = .ok (.bipush (-2), 2) := by decide +kernel
theorem dX1_type_33 : decode cX1_type 33 = .ok (.ireturn, 1) := by decide +kernel
theorem dX1_type_34 : decode cX1_type 34 = .ok (.aload_n 0, 1) := by decide +kernel
theorem dX1_type_35 : decode cX1_type 35 = .ok (.getfield 22, 3) := by decide +kernel
theorem dX1_type_38 : decode cX1_type 38 = .ok (.ifCond .ne 7, 3) := by decide +kernel
theorem dX1_type_41 : decode cX1_type 41 = .ok (.iconst 0, 1) := by decide +kernel
theorem dX1_type_42 : decode cX1_type 42 = .ok (.goto 24, 3) := by decide +kernel
theorem dX1_type_45 : decode cX1_type 45 = .ok (.iload_n 1, 1) := by decide +kernel
theorem dX1_type_46 : decode cX1_type 46 = .ok (.ifCond .ne 12, 3) := by decide +kernel
theorem dX1_type_49 : decode cX1_type 49 = .ok (.aload_n 0, 1) := by decide +kernel
theorem dX1_type_50 : decode cX1_type 50 = .ok (.getfield 13, 3) := by decide +kernel
theorem dX1_type_53 : decode cX1_type 53 = .ok (.iconst 0, 1) := by decide +kernel
theorem dX1_type_54 : decode cX1_type 54 = .ok (.iaload, 1) := by decide +kernel
theorem dX1_type_55 : decode cX1_type 55 = .ok (.goto 11, 3) := by decide +kernel
theorem dX1_type_58 : decode cX1_type 58 = .ok (.aload_n 0, 1) := by decide +kernel
theorem dX1_type_59 : decode cX1_type 59 = .ok (.getfield 13, 3) := by decide +kernel
theorem dX1_type_62 : decode cX1_type 62 = .ok (.iload_n 1, 1) := by decide +kernel
theorem dX1_type_63 : decode cX1_type 63 = .ok (.iconst 1, 1) := by decide +kernel
theorem dX1_type_64 : decode cX1_type 64 = .ok (.isub, 1) := by decide +kernel
theorem dX1_type_65 : decode cX1_type 65 = .ok (.iaload, 1) := by decide +kernel
theorem dX1_type_66 : decode cX1_type 66 = .ok (.istore_n 3, 1) := by decide +kernel
theorem dX1_type_67 : decode cX1_type 67 = .ok (.aload_n 0, 1) := by decide +kernel
theorem dX1_type_68 : decode cX1_type 68 = .ok (.iload_n 1, 1) := by decide +kernel
theorem dX1_type_69 : decode cX1_type 69 = .ok (.iconst 1, 1) := by decide +kernel
theorem dX1_type_70 : decode cX1_type 70 = .ok (.invokevirtual 29, 3) := by decide +kernel
theorem dX1_type_73 : decode cX1_type 73 = .ok (.aload_n 0, 1) := by decide +kernel
theorem dX1_type_74 : decode cX1_type 74 = .ok (.getfield 7, 3) := by decide +kernel
theorem dX1_type_77 : decode cX1_type 77 = .ok (.iload_n 1, 1) := by decide +kernel
theorem dX1_type_78 : decode cX1_type 78 = .ok (.iload_n 2, 1) := by decide +kernel
theorem dX1_type_79 : decode cX1_type 79 = .ok (.iastore, 1) := by decide +kernel
theorem dX1_type_80 : decode cX1_type 80 = .ok (.aload_n 0, 1) := by decide +kernel
theorem dX1_type_81 : decode cX1_type 81 = .ok (.getfield 13, 3) := by decide +kernel
theorem dX1_type_84 : decode cX1_type 84 = .ok (.iload_n 1, 1) := by decide +kernel
theorem dX1_type_85 : decode cX1_type 85 = .ok (.iload_n 3, 1) := by decide +kernel
theorem dX1_type_86 : decode cX1_type 86 = .ok (.iastore, 1) := by decide +kernel
theorem dX1_type_87 : decode cX1_type 87 = .ok (.aload_n 0, 1) := by decide +kernel
theorem dX1_type_88 : decode cX1_type 88 = .ok (.getfield 22, 3) := by decide +kernel
theorem dX1_type_91 : decode cX1_type 91 = .ok (.ireturn, 1) := by decide +kernel
theorem dX1_isLetter_0 : decode cX1_isLetter 0 = .ok (.iload_n 1, 1) := by decide +kernel
theorem dX1_isLetter_1 : decode cX1_isLetter 1 = .ok (.ifCond .lt 13, 3) := by decide +kernel
theorem dX1_isLetter_4 : decode cX1_isLetter 4 = .ok (.iload_n 1, 1) := by decide +kernel
theorem dX1_isLetter_5 : decode cX1_isLetter 5 = .ok (.bipush 25, 2) := by decide +kernel
theorem dX1_isLetter_7 : decode cX1_isLetter 7 = .ok (.if_icmp .gt 7, 3) := by decide +kernel
theorem dX1_isLetter_10 : decode cX1_isLetter 10 = .ok (.iconst 1, 1) := by decide +kernel
theorem dX1_isLetter_11 : decode cX1_isLetter 11 = .ok (.goto 4, 3) := by decide +kernel
theorem dX1_isLetter_14 : decode cX1_isLetter 14 = .ok (.iconst 0, 1) := by decide +kernel
theorem dX1_isLetter_15 : decode cX1_isLetter 15 = .ok (.ireturn, 1) := by decide +kernel
theorem dX1_open_0 : decode cX1_open 0 = .ok (.aload_n 0, 1) := by decide +kernel
theorem dX1_open_1 : decode cX1_open 1 = .ok (.getfield 22, 3) := by decide +kernel
theorem dX1_open_4 : decode cX1_open 4 = .ok (.iconst 1, 1) := by decide +kernel
theorem dX1_open_5 : decode cX1_open 5 = .ok (.isub, 1) := by decide +kernel
theorem dX1_open_6 : decode cX1_open 6 = .ok (.istore_n 3, 1) := by decide +kernel
theorem dX1_open_7 : decode cX1_open 7 = .ok (.iload_n 3, 1) := by decide +kernel
theorem dX1_open_8 : decode cX1_open 8 = .ok (.iload_n 1, 1) := by decide +kernel
theorem dX1_open_9 : decode cX1_open 9 = .ok (.if_icmp .lt 37, 3) := by decide +kernel
theorem dX1_open_12 : decode cX1_open 12 = .ok (.aload_n 0, 1) := by decide +kernel
theorem dX1_open_13 : decode cX1_open 13 = .ok (.getfield 7, 3) := by decide +kernel
theorem dX1_open_16 : decode cX1_open 16 = .ok (.iload_n 3, 1) := by decide +kernel
theorem dX1_open_17 : decode cX1_open 17 = .ok (.iload_n 2, 1) := by decide +kernel
theorem dX1_open_18 : decode cX1_open 18 = .ok (.iadd, 1) := by decide +kernel
theorem dX1_open_19 : decode cX1_open 19 = .ok (.aload_n 0, 1) := by decide +kernel
theorem dX1_open_20 : decode cX1_open 20 = .ok (.getfield 7, 3) := by decide +kernel
theorem dX1_open_23 : decode cX1_open 23 = .ok (.iload_n 3, 1) := by decide +kernel
theorem dX1_open_24 : decode cX1_open 24 = .ok (.iaload, 1) := by decide +kernel
theorem dX1_open_25 : decode cX1_open 25 = .ok (.iastore, 1) := by decide +kernel
theorem dX1_open_26 : decode cX1_open 26 = .ok (.aload_n 0, 1) := by decide +kernel
theorem dX1_open_27 : decode cX1_open 27 = .ok (.getfield 13, 3) := by decide +kernel
theorem dX1_open_30 : decode cX1_open 30 = .ok (.iload_n 3, 1) := by decide +kernel
theorem dX1_open_31 : decode cX1_open 31 = .ok (.iload_n 2, 1) := by decide +kernel
theorem dX1_open_32 : decode cX1_open 32 = .ok (.iadd, 1) := by decide +kernel
theorem dX1_open_33 : decode cX1_open 33 = .ok (.aload_n 0, 1) := by decide +kernel
theorem dX1_open_34 : decode cX1_open 34 = .ok (.getfield 13, 3) := by decide +kernel
theorem dX1_open_37 : decode cX1_open 37 = .ok (.iload_n 3, 1) := by decide +kernel
theorem dX1_open_38 : decode cX1_open 38 = .ok (.iaload, 1) := by decide +kernel
theorem dX1_open_39 : decode cX1_open 39 = .ok (.iastore, 1) := by decide +kernel
theorem dX1_open_40 : decode cX1_open 40 = .ok (.iinc 3 (-1), 3) := by decide +kernel
theorem dX1_open_43 : decode cX1_open 43 = .ok (.goto (-36), 3) := by decide +kernel
theorem dX1_open_46 : decode cX1_open 46 = .ok (.aload_n 0, 1) := by decide +kernel
theorem dX1_open_47 : decode cX1_open 47 = .ok (.aload_n 0, 1) := by decide +kernel
theorem dX1_open_48 : decode cX1_open 48 = .ok (.getfield 22, 3) := by decide +kernel
theorem dX1_open_51 : decode cX1_open 51 = .ok (.iload_n 2, 1) := by decide +kernel
theorem dX1_open_52 : decode cX1_open 52 = .ok (.iadd, 1) := by decide +kernel
theorem dX1_open_53 : decode cX1_open 53 = .ok (.putfield 22, 3) := by decide +kernel
theorem dX1_open_56 : decode cX1_open 56 = .ok (.aload_n 0, 1) := by decide +kernel
theorem dX1_open_57 : decode cX1_open 57 = .ok (.iload_n 1, 1) := by decide +kernel
theorem dX1_open_58 : decode cX1_open 58 = .ok (.aload_n 0, 1) := by decide +kernel
theorem dX1_open_59 : decode cX1_open 59 = .ok (.getfield 26, 3) := by decide +kernel
theorem dX1_open_62 : decode cX1_open 62 = .ok (.if_icmp .ge 12, 3) := by decide +kernel
theorem dX1_open_65 : decode cX1_open 65 = .ok (.aload_n 0, 1) := by decide +kernel
theorem dX1_open_66 : decode cX1_open 66 = .ok (.getfield 26, 3) := by decide +kernel
theorem dX1_open_69 : decode cX1_open 69 = .ok (.iload_n 2, 1) := by decide +kernel
theorem dX1_open_70 : decode cX1_open 70 = .ok (.iadd, 1) := by decide +kernel
theorem dX1_open_71 : decode cX1_open 71 = .ok (.goto 7, 3) := by decide +kernel
theorem dX1_open_74 : decode cX1_open 74 = .ok (.aload_n 0, 1) := by decide +kernel
theorem dX1_open_75 : decode cX1_open 75 = .ok (.getfield 26, 3) := by decide +kernel
theorem dX1_open_78 : decode cX1_open 78 = .ok (.putfield 26, 3) := by decide +kernel
theorem dX1_open_81 : decode cX1_open 81 = .ok (.return_, 1) := by decide +kernel
theorem dX1_put_0 : decode cX1_put 0 = .ok (.aload_n 0, 1) := by decide +kernel
theorem dX1_put_1 : decode cX1_put 1 = .ok (.iload_n 2, 1) := by decide +kernel
theorem dX1_put_2 : decode cX1_put 2 = .ok (.invokevirtual 33, 3) := by decide +kernel
theorem dX1_put_5 : decode cX1_put 5 = .ok (.ifCond .eq 37, 3) := by decide +kernel
theorem dX1_put_8 : decode cX1_put 8 = .ok (.iload_n 1, 1) := by decide +kernel
theorem dX1_put_9 : decode cX1_put 9 = .ok (.ifCond .lt 33, 3) := by decide +kernel
theorem dX1_put_12 : decode cX1_put 12 = .ok (.iload_n 1, 1) := by decide +kernel
theorem dX1_put_13 : decode cX1_put 13 = .ok (.aload_n 0, 1) := by decide +kernel
theorem dX1_put_14 : decode cX1_put 14 = .ok (.getfield 22, 3) := by decide +kernel
theorem dX1_put_17 : decode cX1_put 17 = .ok (.if_icmp .gt 25, 3) := by decide +kernel
theorem dX1_put_20 : decode cX1_put 20 = .ok (.iload_n 3, 1) := by decide +kernel
theorem dX1_put_21 : decode cX1_put 21 = .ok (.ifCond .lt 21, 3) := by decide +kernel
theorem dX1_put_24 : decode cX1_put 24 = .ok (.iload_n 3, 1) := by decide +kernel
theorem dX1_put_25 : decode cX1_put 25 = .ok (.bipush 64, 2) := by decide +kernel
theorem dX1_put_27 : decode cX1_put 27 = .ok (.if_icmp .gt 15, 3) := by decide +kernel
theorem dX1_put_30 : decode cX1_put 30 = .ok (.iload 4, 2) := by decide +kernel
theorem dX1_put_32 : decode cX1_put 32 = .ok (.ifCond .lt 10, 3) := by decide +kernel
theorem dX1_put_35 : decode cX1_put 35 = .ok (.iload 4, 2) := by decide +kernel
theorem dX1_put_37 : decode cX1_put 37 = .ok (.bipush 63, 2) := by decide +kernel
theorem dX1_put_39 : decode cX1_put 39 = .ok (.if_icmp .le 5, 3) := by decide +kernel
theorem dX1_put_42 : decode cX1_put 42 = .ok (.iconst (-1), 1) := by decide +kernel
theorem dX1_put_43 : decode cX1_put 43 = .ok (.ireturn, 1) := by decide +kernel
theorem dX1_put_44 : decode cX1_put 44 = .ok (.aload_n 0, 1) := by decide +kernel
theorem dX1_put_45 : decode cX1_put 45 = .ok (.getfield 22, 3) := by decide +kernel
theorem dX1_put_48 : decode cX1_put 48 = .ok (.iload_n 3, 1) := by decide +kernel
theorem dX1_put_49 : decode cX1_put 49 = .ok (.iadd, 1) := by decide +kernel
theorem dX1_put_50 : decode cX1_put 50 = .ok (.bipush 64, 2) := by decide +kernel
theorem dX1_put_52 : decode cX1_put 52 = .ok (.if_icmp .le 6, 3) := by decide +kernel
theorem dX1_put_55 : decode cX1_put 55 = .ok (.bipush (-2), 2) := by decide +kernel
theorem dX1_put_57 : decode cX1_put 57 = .ok (.ireturn, 1) := by decide +kernel
theorem dX1_put_58 : decode cX1_put 58 = .ok (.aload_n 0, 1) := by decide +kernel
theorem dX1_put_59 : decode cX1_put 59 = .ok (.iload_n 1, 1) := by decide +kernel
theorem dX1_put_60 : decode cX1_put 60 = .ok (.iload_n 3, 1) := by decide +kernel
theorem dX1_put_61 : decode cX1_put 61 = .ok (.invokevirtual 29, 3) := by decide +kernel
theorem dX1_put_64 : decode cX1_put 64 = .ok (.iconst 0, 1) := by decide +kernel
theorem dX1_put_65 : decode cX1_put 65 = .ok (.istore 5, 2) := by decide +kernel
theorem dX1_put_67 : decode cX1_put 67 = .ok (.iload 5, 2) := by decide +kernel
theorem dX1_put_69 : decode cX1_put 69 = .ok (.iload_n 3, 1) := by decide +kernel
theorem dX1_put_70 : decode cX1_put 70 = .ok (.if_icmp .ge 30, 3) := by decide +kernel
theorem dX1_put_73 : decode cX1_put 73 = .ok (.aload_n 0, 1) := by decide +kernel
theorem dX1_put_74 : decode cX1_put 74 = .ok (.getfield 7, 3) := by decide +kernel
theorem dX1_put_77 : decode cX1_put 77 = .ok (.iload_n 1, 1) := by decide +kernel
theorem dX1_put_78 : decode cX1_put 78 = .ok (.iload 5, 2) := by decide +kernel
theorem dX1_put_80 : decode cX1_put 80 = .ok (.iadd, 1) := by decide +kernel
theorem dX1_put_81 : decode cX1_put 81 = .ok (.iload_n 2, 1) := by decide +kernel
theorem dX1_put_82 : decode cX1_put 82 = .ok (.iastore, 1) := by decide +kernel
theorem dX1_put_83 : decode cX1_put 83 = .ok (.aload_n 0, 1) := by decide +kernel
theorem dX1_put_84 : decode cX1_put 84 = .ok (.getfield 13, 3) := by decide +kernel
theorem dX1_put_87 : decode cX1_put 87 = .ok (.iload_n 1, 1) := by decide +kernel
theorem dX1_put_88 : decode cX1_put 88 = .ok (.iload 5, 2) := by decide +kernel
theorem dX1_put_90 : decode cX1_put 90 = .ok (.iadd, 1) := by decide +kernel
theorem dX1_put_91 : decode cX1_put 91 = .ok (.iload 4, 2) := by decide +kernel
theorem dX1_put_93 : decode cX1_put 93 = .ok (.iastore, 1) := by decide +kernel
theorem dX1_put_94 : decode cX1_put 94 = .ok (.iinc 5 1, 3) := by decide +kernel
theorem dX1_put_97 : decode cX1_put 97 = .ok (.goto (-30), 3) := by decide +kernel
theorem dX1_put_100 : decode cX1_put 100 = .ok (.aload_n 0, 1) := by decide +kernel
theorem dX1_put_101 : decode cX1_put 101 = .ok (.getfield 22, 3) := by decide +kernel
theorem dX1_put_104 : decode cX1_put 104 = .ok (.ireturn, 1) := by decide +kernel
theorem dX1_remove_0 : decode cX1_remove 0 = .ok (.aload_n 0, 1) := by decide +kernel
theorem dX1_remove_1 : decode cX1_remove 1 = .ok (.iload_n 1, 1) := by decide +kernel
theorem dX1_remove_2 : decode cX1_remove 2 = .ok (.iload_n 2, 1) := by decide +kernel
theorem dX1_remove_3 : decode cX1_remove 3 = .ok (.invokevirtual 37, 3) := by decide +kernel
theorem dX1_remove_6 : decode cX1_remove 6 = .ok (.ifCond .ne 5, 3) := by decide +kernel
theorem dX1_remove_9 : decode cX1_remove 9 = .ok (.iconst (-1), 1) := by decide +kernel
theorem dX1_remove_10 : decode cX1_remove 10 = .ok (.ireturn, 1) := by decide +kernel
theorem dX1_remove_11 : decode cX1_remove 11 = .ok (.iload_n 2, 1) := by decide +kernel
theorem dX1_remove_12 : decode cX1_remove 12 = .ok (.istore_n 3, 1) := by decide +kernel
theorem dX1_remove_13 : decode cX1_remove 13 = .ok (.iload_n 3, 1) := by decide +kernel
theorem dX1_remove_14 : decode cX1_remove 14 = .ok (.aload_n 0, 1) := by decide +kernel
theorem dX1_remove_15 : decode cX1_remove 15 = .ok (.getfield 22, 3) := by decide +kernel
theorem dX1_remove_18 : decode cX1_remove 18 = .ok (.if_icmp .ge 41, 3) := by decide +kernel
theorem dX1_remove_21 : decode cX1_remove 21 = .ok (.aload_n 0, 1) := by decide +kernel
theorem dX1_remove_22 : decode cX1_remove 22 = .ok (.getfield 7, 3) := by decide +kernel
theorem dX1_remove_25 : decode cX1_remove 25 = .ok (.iload_n 3, 1) := by decide +kernel
theorem dX1_remove_26 : decode cX1_remove 26 = .ok (.iload_n 2, 1) := by decide +kernel
theorem dX1_remove_27 : decode cX1_remove 27 = .ok (.iload_n 1, 1) := by decide +kernel
theorem dX1_remove_28 : decode cX1_remove 28 = .ok (.isub, 1) := by decide +kernel
theorem dX1_remove_29 : decode cX1_remove 29 = .ok (.isub, 1) := by decide +kernel
theorem dX1_remove_30 : decode cX1_remove 30 = .ok (.aload_n 0, 1) := by decide +kernel
theorem dX1_remove_31 : decode cX1_remove 31 = .ok (.getfield 7, 3) := by decide +kernel
theorem dX1_remove_34 : decode cX1_remove 34 = .ok (.iload_n 3, 1) := by decide +kernel
theorem dX1_remove_35 : decode cX1_remove 35 = .ok (.iaload, 1) := by decide +kernel
theorem dX1_remove_36 : decode cX1_remove 36 = .ok (.iastore, 1) := by decide +kernel
theorem dX1_remove_37 : decode cX1_remove 37 = .ok (.aload_n 0, 1) := by decide +kernel
theorem dX1_remove_38 : decode cX1_remove 38 = .ok (.getfield 13, 3) := by decide +kernel
theorem dX1_remove_41 : decode cX1_remove 41 = .ok (.iload_n 3, 1) := by decide +kernel
theorem dX1_remove_42 : decode cX1_remove 42 = .ok (.iload_n 2, 1) := by decide +kernel
theorem dX1_remove_43 : decode cX1_remove 43 = .ok (.iload_n 1, 1) := by decide +kernel
theorem dX1_remove_44 : decode cX1_remove 44 = .ok (.isub, 1) := by decide +kernel
theorem dX1_remove_45 : decode cX1_remove 45 = .ok (.isub, 1) := by decide +kernel
theorem dX1_remove_46 : decode cX1_remove 46 = .ok (.aload_n 0, 1) := by decide +kernel
theorem dX1_remove_47 : decode cX1_remove 47 = .ok (.getfield 13, 3) := by decide +kernel
theorem dX1_remove_50 : decode cX1_remove 50 = .ok (.iload_n 3, 1) := by decide +kernel
theorem dX1_remove_51 : decode cX1_remove 51 = .ok (.iaload, 1) := by decide +kernel
theorem dX1_remove_52 : decode cX1_remove 52 = .ok (.iastore, 1) := by decide +kernel
theorem dX1_remove_53 : decode cX1_remove 53 = .ok (.iinc 3 1, 3) := by decide +kernel
theorem dX1_remove_56 : decode cX1_remove 56 = .ok (.goto (-43), 3) := by decide +kernel
theorem dX1_remove_59 : decode cX1_remove 59 = .ok (.aload_n 0, 1) := by decide +kernel
theorem dX1_remove_60 : decode cX1_remove 60 = .ok (.aload_n 0, 1) := by decide +kernel
theorem dX1_remove_61 : decode cX1_remove 61 = .ok (.getfield 22, 3) := by decide +kernel
theorem dX1_remove_64 : decode cX1_remove 64 = .ok (.iload_n 2, 1) := by decide +kernel
theorem dX1_remove_65 : decode cX1_remove 65 = .ok (.iload_n 1, 1) := by decide +kernel
theorem dX1_remove_66 : decode cX1_remove 66 = .ok (.isub, 1) := by decide +kernel
theorem dX1_remove_67 : decode cX1_remove 67 = .ok (.isub, 1) := by decide +kernel
theorem dX1_remove_68 : decode cX1_remove 68 = .ok (.putfield 22, 3) := by decide +kernel
theorem dX1_remove_71 : decode cX1_remove 71 = .ok (.aload_n 0, 1) := by decide +kernel
theorem dX1_remove_72 : decode cX1_remove 72 = .ok (.aload_n 0, 1) := by decide +kernel
theorem dX1_remove_73 : decode cX1_remove 73 = .ok (.getfield 26, 3) := by decide +kernel
theorem dX1_remove_76 : decode cX1_remove 76 = .ok (.iload_n 2, 1) := by decide +kernel
theorem dX1_remove_77 : decode cX1_remove 77 = .ok (.if_icmp .lt 14, 3) := by decide +kernel
theorem dX1_remove_80 : decode cX1_remove 80 = .ok (.aload_n 0, 1) := by decide +kernel
theorem dX1_remove_81 : decode cX1_remove 81 = .ok (.getfield 26, 3) := by decide +kernel
theorem dX1_remove_84 : decode cX1_remove 84 = .ok (.iload_n 2, 1) := by decide +kernel
theorem dX1_remove_85 : decode cX1_remove 85 = .ok (.iload_n 1, 1) := by decide +kernel
theorem dX1_remove_86 : decode cX1_remove 86 = .ok (.isub, 1) := by decide +kernel
theorem dX1_remove_87 : decode cX1_remove 87 = .ok (.isub, 1) := by decide +kernel
theorem dX1_remove_88 : decode cX1_remove 88 = .ok (.goto 19, 3) := by decide +kernel
theorem dX1_remove_91 : decode cX1_remove 91 = .ok (.aload_n 0, 1) := by decide +kernel
theorem dX1_remove_92 : decode cX1_remove 92 = .ok (.getfield 26, 3) := by decide +kernel
theorem dX1_remove_95 : decode cX1_remove 95 = .ok (.iload_n 1, 1) := by decide +kernel
theorem dX1_remove_96 : decode cX1_remove 96 = .ok (.if_icmp .le 7, 3) := by decide +kernel
theorem dX1_remove_99 : decode cX1_remove 99 = .ok (.iload_n 1, 1) := by decide +kernel
theorem dX1_remove_100 : decode cX1_remove 100 = .ok (.goto 7, 3) := by decide +kernel
theorem dX1_remove_103 : decode cX1_remove 103 = .ok (.aload_n 0, 1) := by decide +kernel
theorem dX1_remove_104 : decode cX1_remove 104 = .ok (.getfield 26, 3) := by decide +kernel
theorem dX1_remove_107 : decode cX1_remove 107 = .ok (.putfield 26, 3) := by decide +kernel
theorem dX1_remove_110 : decode cX1_remove 110 = .ok (.aload_n 0, 1) := by decide +kernel
theorem dX1_remove_111 : decode cX1_remove 111 = .ok (.getfield 22, 3) := by decide +kernel
theorem dX1_remove_114 : decode cX1_remove 114 = .ok (.ireturn, 1) := by decide +kernel
theorem dX1_isStretch_0 : decode cX1_isStretch 0 = .ok (.iload_n 1, 1) := by decide +kernel
theorem dX1_isStretch_1 : decode cX1_isStretch 1 = .ok (.ifCond .lt 20, 3) := by decide +kernel
theorem dX1_isStretch_4 : decode cX1_isStretch 4 = .ok (.iload_n 1, 1) := by decide +kernel
theorem dX1_isStretch_5 : decode cX1_isStretch 5 = .ok (.iload_n 2, 1) := by decide +kernel
theorem dX1_isStretch_6 : decode cX1_isStretch 6 = .ok (.if_icmp .gt 15, 3) := by decide +kernel
theorem dX1_isStretch_9 : decode cX1_isStretch 9 = .ok (.iload_n 2, 1) := by decide +kernel
theorem dX1_isStretch_10 : decode cX1_isStretch 10 = .ok (.aload_n 0, 1) := by decide +kernel
theorem dX1_isStretch_11 : decode cX1_isStretch 11 = .ok (.getfield 22, 3) := by decide +kernel
theorem dX1_isStretch_14 : decode cX1_isStretch 14 = .ok (.if_icmp .gt 7, 3) := by decide +kernel
theorem dX1_isStretch_17 : decode cX1_isStretch 17 = .ok (.iconst 1, 1) := by decide +kernel
theorem dX1_isStretch_18 : decode cX1_isStretch 18 = .ok (.goto 4, 3) := by decide +kernel
theorem dX1_isStretch_21 : decode cX1_isStretch 21 = .ok (.iconst 0, 1) := by decide +kernel
theorem dX1_isStretch_22 : decode cX1_isStretch 22 = .ok (.ireturn, 1) := by decide +kernel
theorem dX1_move_0 : decode cX1_move 0 = .ok (.aload_n 0, 1) := by decide +kernel
theorem dX1_move_1 : decode cX1_move 1 = .ok (.iload_n 1, 1) := by decide +kernel
theorem dX1_move_2 : decode cX1_move 2 = .ok (.iload_n 2, 1) := by decide +kernel
theorem dX1_move_3 : decode cX1_move 3 = .ok (.invokevirtual 37, 3) := by decide +kernel
theorem dX1_move_6 : decode cX1_move 6 = .ok (.ifCond .eq 19, 3) := by decide +kernel
theorem dX1_move_9 : decode cX1_move 9 = .ok (.iload_n 3, 1) := by decide +kernel
theorem dX1_move_10 : decode cX1_move 10 = .ok (.ifCond .lt 15, 3) := by decide +kernel
theorem dX1_move_13 : decode cX1_move 13 = .ok (.iload_n 3, 1) := by decide +kernel
theorem dX1_move_14 : decode cX1_move 14 = .ok (.aload_n 0, 1) := by decide +kernel
theorem dX1_move_15 : decode cX1_move 15 = .ok (.getfield 22, 3) := by decide +kernel
theorem dX1_move_18 : decode cX1_move 18 = .ok (.iload_n 2, 1) := by decide +kernel
theorem dX1_move_19 : decode cX1_move 19 = .ok (.iload_n 1, 1) := by decide +kernel
theorem dX1_move_20 : decode cX1_move 20 = .ok (.isub, 1) := by decide +kernel
theorem dX1_move_21 : decode cX1_move 21 = .ok (.isub, 1) := by decide +kernel
theorem dX1_move_22 : decode cX1_move 22 = .ok (.if_icmp .le 5, 3) := by decide +kernel
theorem dX1_move_25 : decode cX1_move 25 = .ok (.iconst (-1), 1) := by decide +kernel
theorem dX1_move_26 : decode cX1_move 26 = .ok (.ireturn, 1) := by decide +kernel
theorem dX1_move_27 : decode cX1_move 27 = .ok (.aload_n 0, 1) := by decide +kernel
theorem dX1_move_28 : decode cX1_move 28 = .ok (.iload_n 1, 1) := by decide +kernel
theorem dX1_move_29 : decode cX1_move 29 = .ok (.iload_n 2, 1) := by decide +kernel
theorem dX1_move_30 : decode cX1_move 30 = .ok (.invokevirtual 41, 3) := by decide +kernel
theorem dX1_move_33 : decode cX1_move 33 = .ok (.aload_n 0, 1) := by decide +kernel
theorem dX1_move_34 : decode cX1_move 34 = .ok (.iload_n 1, 1) := by decide +kernel
theorem dX1_move_35 : decode cX1_move 35 = .ok (.iload_n 2, 1) := by decide +kernel
theorem dX1_move_36 : decode cX1_move 36 = .ok (.invokevirtual 44, 3) := by decide +kernel
theorem dX1_move_39 : decode cX1_move 39 = .ok (.pop, 1) := by decide +kernel
theorem dX1_move_40 : decode cX1_move 40 = .ok (.aload_n 0, 1) := by decide +kernel
theorem dX1_move_41 : decode cX1_move 41 = .ok (.iload_n 3, 1) := by decide +kernel
theorem dX1_move_42 : decode cX1_move 42 = .ok (.iload_n 2, 1) := by decide +kernel
theorem dX1_move_43 : decode cX1_move 43 = .ok (.iload_n 1, 1) := by decide +kernel
theorem dX1_move_44 : decode cX1_move 44 = .ok (.isub, 1) := by decide +kernel
theorem dX1_move_45 : decode cX1_move 45 = .ok (.invokevirtual 48, 3) := by decide +kernel
theorem dX1_move_48 : decode cX1_move 48 = .ok (.iconst 0, 1) := by decide +kernel
theorem dX1_move_49 : decode cX1_move 49 = .ok (.ireturn, 1) := by decide +kernel
theorem dX1_keep_0 : decode cX1_keep 0 = .ok (.iload_n 1, 1) := by decide +kernel
theorem dX1_keep_1 : decode cX1_keep 1 = .ok (.istore_n 3, 1) := by decide +kernel
theorem dX1_keep_2 : decode cX1_keep 2 = .ok (.iload_n 3, 1) := by decide +kernel
theorem dX1_keep_3 : decode cX1_keep 3 = .ok (.iload_n 2, 1) := by decide +kernel
theorem dX1_keep_4 : decode cX1_keep 4 = .ok (.if_icmp .ge 37, 3) := by decide +kernel
theorem dX1_keep_7 : decode cX1_keep 7 = .ok (.aload_n 0, 1) := by decide +kernel
theorem dX1_keep_8 : decode cX1_keep 8 = .ok (.getfield 16, 3) := by decide +kernel
theorem dX1_keep_11 : decode cX1_keep 11 = .ok (.iload_n 3, 1) := by decide +kernel
theorem dX1_keep_12 : decode cX1_keep 12 = .ok (.iload_n 1, 1) := by decide +kernel
theorem dX1_keep_13 : decode cX1_keep 13 = .ok (.isub, 1) := by decide +kernel
theorem dX1_keep_14 : decode cX1_keep 14 = .ok (.aload_n 0, 1) := by decide +kernel
theorem dX1_keep_15 : decode cX1_keep 15 = .ok (.getfield 7, 3) := by decide +kernel
theorem dX1_keep_18 : decode cX1_keep 18 = .ok (.iload_n 3, 1) := by decide +kernel
theorem dX1_keep_19 : decode cX1_keep 19 = .ok (.iaload, 1) := by decide +kernel
theorem dX1_keep_20 : decode cX1_keep 20 = .ok (.iastore, 1) := by decide +kernel
theorem dX1_keep_21 : decode cX1_keep 21 = .ok (.aload_n 0, 1) := by decide +kernel
theorem dX1_keep_22 : decode cX1_keep 22 = .ok (.getfield 19, 3) := by decide +kernel
theorem dX1_keep_25 : decode cX1_keep 25 = .ok (.iload_n 3, 1) := by decide +kernel
theorem dX1_keep_26 : decode cX1_keep 26 = .ok (.iload_n 1, 1) := by decide +kernel
theorem dX1_keep_27 : decode cX1_keep 27 = .ok (.isub, 1) := by decide +kernel
theorem dX1_keep_28 : decode cX1_keep 28 = .ok (.aload_n 0, 1) := by decide +kernel
theorem dX1_keep_29 : decode cX1_keep 29 = .ok (.getfield 13, 3) := by decide +kernel
theorem dX1_keep_32 : decode cX1_keep 32 = .ok (.iload_n 3, 1) := by decide +kernel
theorem dX1_keep_33 : decode cX1_keep 33 = .ok (.iaload, 1) := by decide +kernel
theorem dX1_keep_34 : decode cX1_keep 34 = .ok (.iastore, 1) := by decide +kernel
theorem dX1_keep_35 : decode cX1_keep 35 = .ok (.iinc 3 1, 3) := by decide +kernel
theorem dX1_keep_38 : decode cX1_keep 38 = .ok (.goto (-36), 3) := by decide +kernel
theorem dX1_keep_41 : decode cX1_keep 41 = .ok (.return_, 1) := by decide +kernel
theorem dX1_putKept_0 : decode cX1_putKept 0 = .ok (.aload_n 0, 1) := by decide +kernel
theorem dX1_putKept_1 : decode cX1_putKept 1 = .ok (.iload_n 1, 1) := by decide +kernel
theorem dX1_putKept_2 : decode cX1_putKept 2 = .ok (.iload_n 2, 1) := by decide +kernel
theorem dX1_putKept_3 : decode cX1_putKept 3 = .ok (.invokevirtual 29, 3) := by decide +kernel
theorem dX1_putKept_6 : decode cX1_putKept 6 = .ok (.iconst 0, 1) := by decide +kernel
theorem dX1_putKept_7 : decode cX1_putKept 7 = .ok (.istore_n 3, 1) := by decide +kernel
theorem dX1_putKept_8 : decode cX1_putKept 8 = .ok (.iload_n 3, 1) := by decide +kernel
theorem dX1_putKept_9 : decode cX1_putKept 9 = .ok (.iload_n 2, 1) := by decide +kernel
theorem dX1_putKept_10 : decode cX1_putKept 10 = .ok (.if_icmp .ge 37, 3) := by decide +kernel
theorem dX1_putKept_13 : decode cX1_putKept 13 = .ok (.aload_n 0, 1) := by decide +kernel
theorem dX1_putKept_14 : decode cX1_putKept 14 = .ok (.getfield 7, 3) := by decide +kernel
theorem dX1_putKept_17 : decode cX1_putKept 17 = .ok (.iload_n 1, 1) := by decide +kernel
theorem dX1_putKept_18 : decode cX1_putKept 18 = .ok (.iload_n 3, 1) := by decide +kernel
theorem dX1_putKept_19 : decode cX1_putKept 19 = .ok (.iadd, 1) := by decide +kernel
theorem dX1_putKept_20 : decode cX1_putKept 20 = .ok (.aload_n 0, 1) := by decide +kernel
theorem dX1_putKept_21 : decode cX1_putKept 21 = .ok (.getfield 16, 3) := by decide +kernel
theorem dX1_putKept_24 : decode cX1_putKept 24 = .ok (.iload_n 3, 1) := by decide +kernel
theorem dX1_putKept_25 : decode cX1_putKept 25 = .ok (.iaload, 1) := by decide +kernel
theorem dX1_putKept_26 : decode cX1_putKept 26 = .ok (.iastore, 1) := by decide +kernel
theorem dX1_putKept_27 : decode cX1_putKept 27 = .ok (.aload_n 0, 1) := by decide +kernel
theorem dX1_putKept_28 : decode cX1_putKept 28 = .ok (.getfield 13, 3) := by decide +kernel
theorem dX1_putKept_31 : decode cX1_putKept 31 = .ok (.iload_n 1, 1) := by decide +kernel
theorem dX1_putKept_32 : decode cX1_putKept 32 = .ok (.iload_n 3, 1) := by decide +kernel
theorem dX1_putKept_33 : decode cX1_putKept 33 = .ok (.iadd, 1) := by decide +kernel
theorem dX1_putKept_34 : decode cX1_putKept 34 = .ok (.aload_n 0, 1) := by decide +kernel
theorem dX1_putKept_35 : decode cX1_putKept 35 = .ok (.getfield 19, 3) := by decide +kernel
theorem dX1_putKept_38 : decode cX1_putKept 38 = .ok (.iload_n 3, 1) := by decide +kernel
theorem dX1_putKept_39 : decode cX1_putKept 39 = .ok (.iaload, 1) := by decide +kernel
theorem dX1_putKept_40 : decode cX1_putKept 40 = .ok (.iastore, 1) := by decide +kernel
theorem dX1_putKept_41 : decode cX1_putKept 41 = .ok (.iinc 3 1, 3) := by decide +kernel
theorem dX1_putKept_44 : decode cX1_putKept 44 = .ok (.goto (-36), 3) := by decide +kernel
theorem dX1_putKept_47 : decode cX1_putKept 47 = .ok (.return_, 1) := by decide +kernel
theorem dX1_copy_0 : decode cX1_copy 0 = .ok (.aload_n 0, 1) := by decide +kernel
theorem dX1_copy_1 : decode cX1_copy 1 = .ok (.iload_n 1, 1) := by decide +kernel
theorem dX1_copy_2 : decode cX1_copy 2 = .ok (.iload_n 2, 1) := by decide +kernel
theorem dX1_copy_3 : decode cX1_copy 3 = .ok (.invokevirtual 37, 3) := by decide +kernel
theorem dX1_copy_6 : decode cX1_copy 6 = .ok (.ifCond .eq 15, 3) := by decide +kernel
theorem dX1_copy_9 : decode cX1_copy 9 = .ok (.iload_n 3, 1) := by decide +kernel
theorem dX1_copy_10 : decode cX1_copy 10 = .ok (.ifCond .lt 11, 3) := by decide +kernel
theorem dX1_copy_13 : decode cX1_copy 13 = .ok (.iload_n 3, 1) := by decide +kernel
theorem dX1_copy_14 : decode cX1_copy 14 = .ok (.aload_n 0, 1) := by decide +kernel
theorem dX1_copy_15 : decode cX1_copy 15 = .ok (.getfield 22, 3) := by decide +kernel
theorem dX1_copy_18 : decode cX1_copy 18 = .ok (.if_icmp .le 5, 3) := by decide +kernel
theorem dX1_copy_21 : decode cX1_copy 21 = .ok (.iconst (-1), 1) := by decide +kernel
theorem dX1_copy_22 : decode cX1_copy 22 = .ok (.ireturn, 1) := by decide +kernel
theorem dX1_copy_23 : decode cX1_copy 23 = .ok (.aload_n 0, 1) := by decide +kernel
theorem dX1_copy_24 : decode cX1_copy 24 = .ok (.getfield 22, 3) := by decide +kernel
theorem dX1_copy_27 : decode cX1_copy 27 = .ok (.iload_n 2, 1) := by decide +kernel
theorem dX1_copy_28 : decode cX1_copy 28 = .ok (.iadd, 1) := by decide +kernel
theorem dX1_copy_29 : decode cX1_copy 29 = .ok (.iload_n 1, 1) := by decide +kernel
theorem dX1_copy_30 : decode cX1_copy 30 = .ok (.isub, 1) := by decide +kernel
theorem dX1_copy_31 : decode cX1_copy 31 = .ok (.bipush 64, 2) := by decide +kernel
theorem dX1_copy_33 : decode cX1_copy 33 = .ok (.if_icmp .le 6, 3) := by decide +kernel
theorem dX1_copy_36 : decode cX1_copy 36 = .ok (.bipush (-2), 2) := by decide +kernel
theorem dX1_copy_38 : decode cX1_copy 38 = .ok (.ireturn, 1) := by decide +kernel
theorem dX1_copy_39 : decode cX1_copy 39 = .ok (.aload_n 0, 1) := by decide +kernel
theorem dX1_copy_40 : decode cX1_copy 40 = .ok (.iload_n 1, 1) := by decide +kernel
theorem dX1_copy_41 : decode cX1_copy 41 = .ok (.iload_n 2, 1) := by decide +kernel
theorem dX1_copy_42 : decode cX1_copy 42 = .ok (.invokevirtual 41, 3) := by decide +kernel
theorem dX1_copy_45 : decode cX1_copy 45 = .ok (.aload_n 0, 1) := by decide +kernel
theorem dX1_copy_46 : decode cX1_copy 46 = .ok (.iload_n 3, 1) := by decide +kernel
theorem dX1_copy_47 : decode cX1_copy 47 = .ok (.iload_n 2, 1) := by decide +kernel
theorem dX1_copy_48 : decode cX1_copy 48 = .ok (.iload_n 1, 1) := by decide +kernel
theorem dX1_copy_49 : decode cX1_copy 49 = .ok (.isub, 1) := by decide +kernel
theorem dX1_copy_50 : decode cX1_copy 50 = .ok (.invokevirtual 48, 3) := by decide +kernel
theorem dX1_copy_53 : decode cX1_copy 53 = .ok (.aload_n 0, 1) := by decide +kernel
theorem dX1_copy_54 : decode cX1_copy 54 = .ok (.getfield 22, 3) := by decide +kernel
theorem dX1_copy_57 : decode cX1_copy 57 = .ok (.ireturn, 1) := by decide +kernel
theorem dX1_style_0 : decode cX1_style 0 = .ok (.aload_n 0, 1) := by decide +kernel
theorem dX1_style_1 : decode cX1_style 1 = .ok (.iload_n 1, 1) := by decide +kernel
theorem dX1_style_2 : decode cX1_style 2 = .ok (.iload_n 2, 1) := by decide +kernel
theorem dX1_style_3 : decode cX1_style 3 = .ok (.invokevirtual 37, 3) := by decide +kernel
theorem dX1_style_6 : decode cX1_style 6 = .ok (.ifCond .eq 25, 3) := by decide +kernel
theorem dX1_style_9 : decode cX1_style 9 = .ok (.iload_n 3, 1) := by decide +kernel
theorem dX1_style_10 : decode cX1_style 10 = .ok (.ifCond .lt 21, 3) := by decide +kernel
theorem dX1_style_13 : decode cX1_style 13 = .ok (.iload_n 3, 1) := by decide +kernel
theorem dX1_style_14 : decode cX1_style 14 = .ok (.bipush 15, 2) := by decide +kernel
theorem dX1_style_16 : decode cX1_style 16 = .ok (.if_icmp .gt 15, 3) := by decide +kernel
theorem dX1_style_19 : decode cX1_style 19 = .ok (.iload 4, 2) := by decide +kernel
theorem dX1_style_21 : decode cX1_style 21 = .ok (.ifCond .lt 10, 3) := by decide +kernel
theorem dX1_style_24 : decode cX1_style 24 = .ok (.iload 4, 2) := by decide +kernel
theorem dX1_style_26 : decode cX1_style 26 = .ok (.bipush 63, 2) := by decide +kernel
theorem dX1_style_28 : decode cX1_style 28 = .ok (.if_icmp .le 5, 3) := by decide +kernel
theorem dX1_style_31 : decode cX1_style 31 = .ok (.iconst (-1), 1) := by decide +kernel
end
section
set_option maxRecDepth 100000
theorem dX1_style_32 : decode cX1_style 32 = .ok (.ireturn, 1) := by decide +kernel
theorem dX1_style_33 : decode cX1_style 33 = .ok (.iload_n 3, 1) := by decide +kernel
theorem dX1_style_34 : decode cX1_style 34 = .ok (.bipush 8, 2) := by decide +kernel
theorem dX1_style_36 : decode cX1_style 36 = .ok (.if_icmp .ge 7, 3) := by decide +kernel
theorem dX1_style_39 : decode cX1_style 39 = .ok (.iload_n 3, 1) := by decide +kernel
theorem dX1_style_40 : decode cX1_style 40 = .ok (.goto 10, 3) := by decide +kernel
theorem dX1_style_43 : decode cX1_style 43 = .ok (.iload_n 3, 1) := by decide +kernel
theorem dX1_style_44 : decode cX1_style 44 = .ok (.bipush 7, 2) := by decide +kernel
theorem dX1_style_46 : decode cX1_style 46 = .ok (.iand, 1) := by decide +kernel
theorem dX1_style_47 : decode cX1_style 47 = .ok (.bipush 56, 2) := by decide +kernel
theorem dX1_style_49 : decode cX1_style 49 = .ok (.iadd, 1) := by decide +kernel
theorem dX1_style_50 : decode cX1_style 50 = .ok (.istore 5, 2) := by decide +kernel
theorem dX1_style_52 : decode cX1_style 52 = .ok (.aload_n 0, 1) := by decide +kernel
theorem dX1_style_53 : decode cX1_style 53 = .ok (.iload_n 1, 1) := by decide +kernel
theorem dX1_style_54 : decode cX1_style 54 = .ok (.iload_n 2, 1) := by decide +kernel
theorem dX1_style_55 : decode cX1_style 55 = .ok (.iload 5, 2) := by decide +kernel
theorem dX1_style_57 : decode cX1_style 57 = .ok (.iload 4, 2) := by decide +kernel
theorem dX1_style_59 : decode cX1_style 59 = .ok (.invokevirtual 51, 3) := by decide +kernel
theorem dX1_style_62 : decode cX1_style 62 = .ok (.ireturn, 1) := by decide +kernel
theorem dX1_setParts_0 : decode cX1_setParts 0 = .ok (.iconst 0, 1) := by decide +kernel
theorem dX1_setParts_1 : decode cX1_setParts 1 = .ok (.istore 5, 2) := by decide +kernel
theorem dX1_setParts_3 : decode cX1_setParts 3 = .ok (.iload_n 1, 1) := by decide +kernel
theorem dX1_setParts_4 : decode cX1_setParts 4 = .ok (.istore 6, 2) := by decide +kernel
theorem dX1_setParts_6 : decode cX1_setParts 6 = .ok (.iload 6, 2) := by decide +kernel
theorem dX1_setParts_8 : decode cX1_setParts 8 = .ok (.iload_n 2, 1) := by decide +kernel
theorem dX1_setParts_9 : decode cX1_setParts 9 = .ok (.if_icmp .ge 59, 3) := by decide +kernel
theorem dX1_setParts_12 : decode cX1_setParts 12 = .ok (.aload_n 0, 1) := by decide +kernel
theorem dX1_setParts_13 : decode cX1_setParts 13 = .ok (.getfield 13, 3) := by decide +kernel
theorem dX1_setParts_16 : decode cX1_setParts 16 = .ok (.iload 6, 2) := by decide +kernel
theorem dX1_setParts_18 : decode cX1_setParts 18 = .ok (.iaload, 1) := by decide +kernel
theorem dX1_setParts_19 : decode cX1_setParts 19 = .ok (.iload_n 3, 1) := by decide +kernel
theorem dX1_setParts_20 : decode cX1_setParts 20 = .ok (.iconst (-1), 1) := by decide +kernel
theorem dX1_setParts_21 : decode cX1_setParts 21 = .ok (.ixor, 1) := by decide +kernel
theorem dX1_setParts_22 : decode cX1_setParts 22 = .ok (.iand, 1) := by decide +kernel
theorem dX1_setParts_23 : decode cX1_setParts 23 = .ok (.iload 4, 2) := by decide +kernel
theorem dX1_setParts_25 : decode cX1_setParts 25 = .ok (.iload_n 3, 1) := by decide +kernel
theorem dX1_setParts_26 : decode cX1_setParts 26 = .ok (.iand, 1) := by decide +kernel
theorem dX1_setParts_27 : decode cX1_setParts 27 = .ok (.ior, 1) := by decide +kernel
theorem dX1_setParts_28 : decode cX1_setParts 28 = .ok (.istore 7, 2) := by decide +kernel
theorem dX1_setParts_30 : decode cX1_setParts 30 = .ok (.iload 7, 2) := by decide +kernel
theorem dX1_setParts_32 : decode cX1_setParts 32 = .ok (.aload_n 0, 1) := by decide +kernel
theorem dX1_setParts_33 : decode cX1_setParts 33 = .ok (.getfield 13, 3) := by decide +kernel
theorem dX1_setParts_36 : decode cX1_setParts 36 = .ok (.iload 6, 2) := by decide +kernel
theorem dX1_setParts_38 : decode cX1_setParts 38 = .ok (.iaload, 1) := by decide +kernel
theorem dX1_setParts_39 : decode cX1_setParts 39 = .ok (.if_icmp .eq 10, 3) := by decide +kernel
theorem dX1_setParts_42 : decode cX1_setParts 42 = .ok (.iload 5, 2) := by decide +kernel
theorem dX1_setParts_44 : decode cX1_setParts 44 = .ok (.iconst 1, 1) := by decide +kernel
theorem dX1_setParts_45 : decode cX1_setParts 45 = .ok (.iadd, 1) := by decide +kernel
theorem dX1_setParts_46 : decode cX1_setParts 46 = .ok (.goto 5, 3) := by decide +kernel
theorem dX1_setParts_49 : decode cX1_setParts 49 = .ok (.iload 5, 2) := by decide +kernel
theorem dX1_setParts_51 : decode cX1_setParts 51 = .ok (.istore 5, 2) := by decide +kernel
theorem dX1_setParts_53 : decode cX1_setParts 53 = .ok (.aload_n 0, 1) := by decide +kernel
theorem dX1_setParts_54 : decode cX1_setParts 54 = .ok (.getfield 13, 3) := by decide +kernel
theorem dX1_setParts_57 : decode cX1_setParts 57 = .ok (.iload 6, 2) := by decide +kernel
theorem dX1_setParts_59 : decode cX1_setParts 59 = .ok (.iload 7, 2) := by decide +kernel
theorem dX1_setParts_61 : decode cX1_setParts 61 = .ok (.iastore, 1) := by decide +kernel
theorem dX1_setParts_62 : decode cX1_setParts 62 = .ok (.iinc 6 1, 3) := by decide +kernel
theorem dX1_setParts_65 : decode cX1_setParts 65 = .ok (.goto (-59), 3) := by decide +kernel
theorem dX1_setParts_68 : decode cX1_setParts 68 = .ok (.iload 5, 2) := by decide +kernel
theorem dX1_setParts_70 : decode cX1_setParts 70 = .ok (.ireturn, 1) := by decide +kernel
theorem dX1_toggle_0 : decode cX1_toggle 0 = .ok (.aload_n 0, 1) := by decide +kernel
theorem dX1_toggle_1 : decode cX1_toggle 1 = .ok (.iload_n 1, 1) := by decide +kernel
theorem dX1_toggle_2 : decode cX1_toggle 2 = .ok (.iload_n 2, 1) := by decide +kernel
theorem dX1_toggle_3 : decode cX1_toggle 3 = .ok (.invokevirtual 37, 3) := by decide +kernel
theorem dX1_toggle_6 : decode cX1_toggle 6 = .ok (.ifCond .eq 18, 3) := by decide +kernel
theorem dX1_toggle_9 : decode cX1_toggle 9 = .ok (.iload_n 3, 1) := by decide +kernel
theorem dX1_toggle_10 : decode cX1_toggle 10 = .ok (.iconst 1, 1) := by decide +kernel
theorem dX1_toggle_11 : decode cX1_toggle 11 = .ok (.if_icmp .eq 15, 3) := by decide +kernel
theorem dX1_toggle_14 : decode cX1_toggle 14 = .ok (.iload_n 3, 1) := by decide +kernel
theorem dX1_toggle_15 : decode cX1_toggle 15 = .ok (.iconst 2, 1) := by decide +kernel
theorem dX1_toggle_16 : decode cX1_toggle 16 = .ok (.if_icmp .eq 10, 3) := by decide +kernel
theorem dX1_toggle_19 : decode cX1_toggle 19 = .ok (.iload_n 3, 1) := by decide +kernel
theorem dX1_toggle_20 : decode cX1_toggle 20 = .ok (.iconst 4, 1) := by decide +kernel
theorem dX1_toggle_21 : decode cX1_toggle 21 = .ok (.if_icmp .eq 5, 3) := by decide +kernel
theorem dX1_toggle_24 : decode cX1_toggle 24 = .ok (.iconst (-1), 1) := by decide +kernel
theorem dX1_toggle_25 : decode cX1_toggle 25 = .ok (.ireturn, 1) := by decide +kernel
theorem dX1_toggle_26 : decode cX1_toggle 26 = .ok (.iconst 1, 1) := by decide +kernel
theorem dX1_toggle_27 : decode cX1_toggle 27 = .ok (.istore 4, 2) := by decide +kernel
theorem dX1_toggle_29 : decode cX1_toggle 29 = .ok (.iload_n 1, 1) := by decide +kernel
theorem dX1_toggle_30 : decode cX1_toggle 30 = .ok (.istore 5, 2) := by decide +kernel
theorem dX1_toggle_32 : decode cX1_toggle 32 = .ok (.iload 5, 2) := by decide +kernel
theorem dX1_toggle_34 : decode cX1_toggle 34 = .ok (.iload_n 2, 1) := by decide +kernel
theorem dX1_toggle_35 : decode cX1_toggle 35 = .ok (.if_icmp .ge 33, 3) := by decide +kernel
theorem dX1_toggle_38 : decode cX1_toggle 38 = .ok (.iload 4, 2) := by decide +kernel
theorem dX1_toggle_40 : decode cX1_toggle 40 = .ok (.ifCond .eq 19, 3) := by decide +kernel
theorem dX1_toggle_43 : decode cX1_toggle 43 = .ok (.aload_n 0, 1) := by decide +kernel
theorem dX1_toggle_44 : decode cX1_toggle 44 = .ok (.getfield 13, 3) := by decide +kernel
theorem dX1_toggle_47 : decode cX1_toggle 47 = .ok (.iload 5, 2) := by decide +kernel
theorem dX1_toggle_49 : decode cX1_toggle 49 = .ok (.iaload, 1) := by decide +kernel
theorem dX1_toggle_50 : decode cX1_toggle 50 = .ok (.iload_n 3, 1) := by decide +kernel
theorem dX1_toggle_51 : decode cX1_toggle 51 = .ok (.iand, 1) := by decide +kernel
theorem dX1_toggle_52 : decode cX1_toggle 52 = .ok (.ifCond .eq 7, 3) := by decide +kernel
theorem dX1_toggle_55 : decode cX1_toggle 55 = .ok (.iconst 1, 1) := by decide +kernel
theorem dX1_toggle_56 : decode cX1_toggle 56 = .ok (.goto 4, 3) := by decide +kernel
theorem dX1_toggle_59 : decode cX1_toggle 59 = .ok (.iconst 0, 1) := by decide +kernel
theorem dX1_toggle_60 : decode cX1_toggle 60 = .ok (.istore 4, 2) := by decide +kernel
theorem dX1_toggle_62 : decode cX1_toggle 62 = .ok (.iinc 5 1, 3) := by decide +kernel
theorem dX1_toggle_65 : decode cX1_toggle 65 = .ok (.goto (-33), 3) := by decide +kernel
theorem dX1_toggle_68 : decode cX1_toggle 68 = .ok (.aload_n 0, 1) := by decide +kernel
theorem dX1_toggle_69 : decode cX1_toggle 69 = .ok (.iload_n 1, 1) := by decide +kernel
theorem dX1_toggle_70 : decode cX1_toggle 70 = .ok (.iload_n 2, 1) := by decide +kernel
theorem dX1_toggle_71 : decode cX1_toggle 71 = .ok (.iload_n 3, 1) := by decide +kernel
theorem dX1_toggle_72 : decode cX1_toggle 72 = .ok (.iload 4, 2) := by decide +kernel
theorem dX1_toggle_74 : decode cX1_toggle 74 = .ok (.ifCond .eq 7, 3) := by decide +kernel
theorem dX1_toggle_77 : decode cX1_toggle 77 = .ok (.iconst 0, 1) := by decide +kernel
theorem dX1_toggle_78 : decode cX1_toggle 78 = .ok (.goto 4, 3) := by decide +kernel
theorem dX1_toggle_81 : decode cX1_toggle 81 = .ok (.iload_n 3, 1) := by decide +kernel
theorem dX1_toggle_82 : decode cX1_toggle 82 = .ok (.invokevirtual 51, 3) := by decide +kernel
theorem dX1_toggle_85 : decode cX1_toggle 85 = .ok (.pop, 1) := by decide +kernel
theorem dX1_toggle_86 : decode cX1_toggle 86 = .ok (.iload 4, 2) := by decide +kernel
theorem dX1_toggle_88 : decode cX1_toggle 88 = .ok (.ifCond .eq 7, 3) := by decide +kernel
theorem dX1_toggle_91 : decode cX1_toggle 91 = .ok (.iconst 0, 1) := by decide +kernel
theorem dX1_toggle_92 : decode cX1_toggle 92 = .ok (.goto 4, 3) := by decide +kernel
theorem dX1_toggle_95 : decode cX1_toggle 95 = .ok (.iconst 1, 1) := by decide +kernel
theorem dX1_toggle_96 : decode cX1_toggle 96 = .ok (.ireturn, 1) := by decide +kernel
theorem dX1_replace_0 : decode cX1_replace 0 = .ok (.aload_n 0, 1) := by decide +kernel
theorem dX1_replace_1 : decode cX1_replace 1 = .ok (.iload_n 1, 1) := by decide +kernel
theorem dX1_replace_2 : decode cX1_replace 2 = .ok (.invokevirtual 33, 3) := by decide +kernel
theorem dX1_replace_5 : decode cX1_replace 5 = .ok (.ifCond .eq 11, 3) := by decide +kernel
theorem dX1_replace_8 : decode cX1_replace 8 = .ok (.aload_n 0, 1) := by decide +kernel
theorem dX1_replace_9 : decode cX1_replace 9 = .ok (.iload_n 2, 1) := by decide +kernel
theorem dX1_replace_10 : decode cX1_replace 10 = .ok (.invokevirtual 33, 3) := by decide +kernel
theorem dX1_replace_13 : decode cX1_replace 13 = .ok (.ifCond .ne 5, 3) := by decide +kernel
theorem dX1_replace_16 : decode cX1_replace 16 = .ok (.iconst (-1), 1) := by decide +kernel
theorem dX1_replace_17 : decode cX1_replace 17 = .ok (.ireturn, 1) := by decide +kernel
theorem dX1_replace_18 : decode cX1_replace 18 = .ok (.iconst 0, 1) := by decide +kernel
theorem dX1_replace_19 : decode cX1_replace 19 = .ok (.istore_n 3, 1) := by decide +kernel
theorem dX1_replace_20 : decode cX1_replace 20 = .ok (.iconst 0, 1) := by decide +kernel
theorem dX1_replace_21 : decode cX1_replace 21 = .ok (.istore 4, 2) := by decide +kernel
theorem dX1_replace_23 : decode cX1_replace 23 = .ok (.iload 4, 2) := by decide +kernel
theorem dX1_replace_25 : decode cX1_replace 25 = .ok (.aload_n 0, 1) := by decide +kernel
theorem dX1_replace_26 : decode cX1_replace 26 = .ok (.getfield 22, 3) := by decide +kernel
theorem dX1_replace_29 : decode cX1_replace 29 = .ok (.if_icmp .ge 31, 3) := by decide +kernel
theorem dX1_replace_32 : decode cX1_replace 32 = .ok (.aload_n 0, 1) := by decide +kernel
theorem dX1_replace_33 : decode cX1_replace 33 = .ok (.getfield 7, 3) := by decide +kernel
theorem dX1_replace_36 : decode cX1_replace 36 = .ok (.iload 4, 2) := by decide +kernel
theorem dX1_replace_38 : decode cX1_replace 38 = .ok (.iaload, 1) := by decide +kernel
theorem dX1_replace_39 : decode cX1_replace 39 = .ok (.iload_n 1, 1) := by decide +kernel
theorem dX1_replace_40 : decode cX1_replace 40 = .ok (.if_icmp .ne 14, 3) := by decide +kernel
theorem dX1_replace_43 : decode cX1_replace 43 = .ok (.aload_n 0, 1) := by decide +kernel
theorem dX1_replace_44 : decode cX1_replace 44 = .ok (.getfield 7, 3) := by decide +kernel
theorem dX1_replace_47 : decode cX1_replace 47 = .ok (.iload 4, 2) := by decide +kernel
theorem dX1_replace_49 : decode cX1_replace 49 = .ok (.iload_n 2, 1) := by decide +kernel
theorem dX1_replace_50 : decode cX1_replace 50 = .ok (.iastore, 1) := by decide +kernel
theorem dX1_replace_51 : decode cX1_replace 51 = .ok (.iinc 3 1, 3) := by decide +kernel
theorem dX1_replace_54 : decode cX1_replace 54 = .ok (.iinc 4 1, 3) := by decide +kernel
theorem dX1_replace_57 : decode cX1_replace 57 = .ok (.goto (-34), 3) := by decide +kernel
theorem dX1_replace_60 : decode cX1_replace 60 = .ok (.iload_n 3, 1) := by decide +kernel
theorem dX1_replace_61 : decode cX1_replace 61 = .ok (.ireturn, 1) := by decide +kernel
theorem dX1_length_0 : decode cX1_length 0 = .ok (.aload_n 0, 1) := by decide +kernel
theorem dX1_length_1 : decode cX1_length 1 = .ok (.getfield 22, 3) := by decide +kernel
theorem dX1_length_4 : decode cX1_length 4 = .ok (.ireturn, 1) := by decide +kernel
theorem dX1_letter_0 : decode cX1_letter 0 = .ok (.iload_n 1, 1) := by decide +kernel
theorem dX1_letter_1 : decode cX1_letter 1 = .ok (.ifCond .lt 20, 3) := by decide +kernel
theorem dX1_letter_4 : decode cX1_letter 4 = .ok (.iload_n 1, 1) := by decide +kernel
theorem dX1_letter_5 : decode cX1_letter 5 = .ok (.aload_n 0, 1) := by decide +kernel
theorem dX1_letter_6 : decode cX1_letter 6 = .ok (.getfield 22, 3) := by decide +kernel
theorem dX1_letter_9 : decode cX1_letter 9 = .ok (.if_icmp .ge 12, 3) := by decide +kernel
theorem dX1_letter_12 : decode cX1_letter 12 = .ok (.aload_n 0, 1) := by decide +kernel
theorem dX1_letter_13 : decode cX1_letter 13 = .ok (.getfield 7, 3) := by decide +kernel
theorem dX1_letter_16 : decode cX1_letter 16 = .ok (.iload_n 1, 1) := by decide +kernel
theorem dX1_letter_17 : decode cX1_letter 17 = .ok (.iaload, 1) := by decide +kernel
theorem dX1_letter_18 : decode cX1_letter 18 = .ok (.goto 5, 3) := by decide +kernel
theorem dX1_letter_21 : decode cX1_letter 21 = .ok (.bipush (-4), 2) := by decide +kernel
theorem dX1_letter_23 : decode cX1_letter 23 = .ok (.ireturn, 1) := by decide +kernel
theorem dX1_styleAt_0 : decode cX1_styleAt 0 = .ok (.iload_n 1, 1) := by decide +kernel
theorem dX1_styleAt_1 : decode cX1_styleAt 1 = .ok (.ifCond .lt 20, 3) := by decide +kernel
theorem dX1_styleAt_4 : decode cX1_styleAt 4 = .ok (.iload_n 1, 1) := by decide +kernel
theorem dX1_styleAt_5 : decode cX1_styleAt 5 = .ok (.aload_n 0, 1) := by decide +kernel
theorem dX1_styleAt_6 : decode cX1_styleAt 6 = .ok (.getfield 22, 3) := by decide +kernel
theorem dX1_styleAt_9 : decode cX1_styleAt 9 = .ok (.if_icmp .ge 12, 3) := by decide +kernel
theorem dX1_styleAt_12 : decode cX1_styleAt 12 = .ok (.aload_n 0, 1) := by decide +kernel
theorem dX1_styleAt_13 : decode cX1_styleAt 13 = .ok (.getfield 13, 3) := by decide +kernel
theorem dX1_styleAt_16 : decode cX1_styleAt 16 = .ok (.iload_n 1, 1) := by decide +kernel
theorem dX1_styleAt_17 : decode cX1_styleAt 17 = .ok (.iaload, 1) := by decide +kernel
theorem dX1_styleAt_18 : decode cX1_styleAt 18 = .ok (.goto 5, 3) := by decide +kernel
theorem dX1_styleAt_21 : decode cX1_styleAt 21 = .ok (.bipush (-4), 2) := by decide +kernel
theorem dX1_styleAt_23 : decode cX1_styleAt 23 = .ok (.ireturn, 1) := by decide +kernel
theorem dX1_runs_0 : decode cX1_runs 0 = .ok (.iconst 0, 1) := by decide +kernel
theorem dX1_runs_1 : decode cX1_runs 1 = .ok (.istore_n 1, 1) := by decide +kernel
theorem dX1_runs_2 : decode cX1_runs 2 = .ok (.iconst 0, 1) := by decide +kernel
theorem dX1_runs_3 : decode cX1_runs 3 = .ok (.istore_n 2, 1) := by decide +kernel
theorem dX1_runs_4 : decode cX1_runs 4 = .ok (.iload_n 2, 1) := by decide +kernel
theorem dX1_runs_5 : decode cX1_runs 5 = .ok (.aload_n 0, 1) := by decide +kernel
theorem dX1_runs_6 : decode cX1_runs 6 = .ok (.getfield 22, 3) := by decide +kernel
theorem dX1_runs_9 : decode cX1_runs 9 = .ok (.if_icmp .ge 25, 3) := by decide +kernel
theorem dX1_runs_12 : decode cX1_runs 12 = .ok (.aload_n 0, 1) := by decide +kernel
theorem dX1_runs_13 : decode cX1_runs 13 = .ok (.iload_n 2, 1) := by decide +kernel
theorem dX1_runs_14 : decode cX1_runs 14 = .ok (.invokevirtual 55, 3) := by decide +kernel
theorem dX1_runs_17 : decode cX1_runs 17 = .ok (.ifCond .eq 9, 3) := by decide +kernel
theorem dX1_runs_20 : decode cX1_runs 20 = .ok (.iload_n 1, 1) := by decide +kernel
theorem dX1_runs_21 : decode cX1_runs 21 = .ok (.iconst 1, 1) := by decide +kernel
theorem dX1_runs_22 : decode cX1_runs 22 = .ok (.iadd, 1) := by decide +kernel
theorem dX1_runs_23 : decode cX1_runs 23 = .ok (.goto 4, 3) := by decide +kernel
theorem dX1_runs_26 : decode cX1_runs 26 = .ok (.iload_n 1, 1) := by decide +kernel
theorem dX1_runs_27 : decode cX1_runs 27 = .ok (.istore_n 1, 1) := by decide +kernel
theorem dX1_runs_28 : decode cX1_runs 28 = .ok (.iinc 2 1, 3) := by decide +kernel
theorem dX1_runs_31 : decode cX1_runs 31 = .ok (.goto (-27), 3) := by decide +kernel
theorem dX1_runs_34 : decode cX1_runs 34 = .ok (.iload_n 1, 1) := by decide +kernel
theorem dX1_runs_35 : decode cX1_runs 35 = .ok (.ireturn, 1) := by decide +kernel
theorem dX1_isBegin_0 : decode cX1_isBegin 0 = .ok (.iload_n 1, 1) := by decide +kernel
theorem dX1_isBegin_1 : decode cX1_isBegin 1 = .ok (.ifCond .eq 20, 3) := by decide +kernel
theorem dX1_isBegin_4 : decode cX1_isBegin 4 = .ok (.aload_n 0, 1) := by decide +kernel
theorem dX1_isBegin_5 : decode cX1_isBegin 5 = .ok (.getfield 13, 3) := by decide +kernel
theorem dX1_isBegin_8 : decode cX1_isBegin 8 = .ok (.iload_n 1, 1) := by decide +kernel
theorem dX1_isBegin_9 : decode cX1_isBegin 9 = .ok (.iaload, 1) := by decide +kernel
theorem dX1_isBegin_10 : decode cX1_isBegin 10 = .ok (.aload_n 0, 1) := by decide +kernel
theorem dX1_isBegin_11 : decode cX1_isBegin 11 = .ok (.getfield 13, 3) := by decide +kernel
theorem dX1_isBegin_14 : decode cX1_isBegin 14 = .ok (.iload_n 1, 1) := by decide +kernel
theorem dX1_isBegin_15 : decode cX1_isBegin 15 = .ok (.iconst 1, 1) := by decide +kernel
theorem dX1_isBegin_16 : decode cX1_isBegin 16 = .ok (.isub, 1) := by decide +kernel
theorem dX1_isBegin_17 : decode cX1_isBegin 17 = .ok (.iaload, 1) := by decide +kernel
theorem dX1_isBegin_18 : decode cX1_isBegin 18 = .ok (.if_icmp .eq 7, 3) := by decide +kernel
theorem dX1_isBegin_21 : decode cX1_isBegin 21 = .ok (.iconst 1, 1) := by decide +kernel
theorem dX1_isBegin_22 : decode cX1_isBegin 22 = .ok (.goto 4, 3) := by decide +kernel
theorem dX1_isBegin_25 : decode cX1_isBegin 25 = .ok (.iconst 0, 1) := by decide +kernel
theorem dX1_isBegin_26 : decode cX1_isBegin 26 = .ok (.ireturn, 1) := by decide +kernel
theorem dX1_runBegin_0 : decode cX1_runBegin 0 = .ok (.iconst 0, 1) := by decide +kernel
theorem dX1_runBegin_1 : decode cX1_runBegin 1 = .ok (.istore_n 2, 1) := by decide +kernel
theorem dX1_runBegin_2 : decode cX1_runBegin 2 = .ok (.iconst 0, 1) := by decide +kernel
theorem dX1_runBegin_3 : decode cX1_runBegin 3 = .ok (.istore_n 3, 1) := by decide +kernel
theorem dX1_runBegin_4 : decode cX1_runBegin 4 = .ok (.iload_n 3, 1) := by decide +kernel
theorem dX1_runBegin_5 : decode cX1_runBegin 5 = .ok (.aload_n 0, 1) := by decide +kernel
theorem dX1_runBegin_6 : decode cX1_runBegin 6 = .ok (.getfield 22, 3) := by decide +kernel
theorem dX1_runBegin_9 : decode cX1_runBegin 9 = .ok (.if_icmp .ge 27, 3) := by decide +kernel
theorem dX1_runBegin_12 : decode cX1_runBegin 12 = .ok (.aload_n 0, 1) := by decide +kernel
theorem dX1_runBegin_13 : decode cX1_runBegin 13 = .ok (.iload_n 3, 1) := by decide +kernel
theorem dX1_runBegin_14 : decode cX1_runBegin 14 = .ok (.invokevirtual 55, 3) := by decide +kernel
theorem dX1_runBegin_17 : decode cX1_runBegin 17 = .ok (.ifCond .eq 13, 3) := by decide +kernel
theorem dX1_runBegin_20 : decode cX1_runBegin 20 = .ok (.iload_n 2, 1) := by decide +kernel
theorem dX1_runBegin_21 : decode cX1_runBegin 21 = .ok (.iload_n 1, 1) := by decide +kernel
theorem dX1_runBegin_22 : decode cX1_runBegin 22 = .ok (.if_icmp .ne 5, 3) := by decide +kernel
theorem dX1_runBegin_25 : decode cX1_runBegin 25 = .ok (.iload_n 3, 1) := by decide +kernel
theorem dX1_runBegin_26 : decode cX1_runBegin 26 = .ok (.ireturn, 1) := by decide +kernel
theorem dX1_runBegin_27 : decode cX1_runBegin 27 = .ok (.iinc 2 1, 3) := by decide +kernel
theorem dX1_runBegin_30 : decode cX1_runBegin 30 = .ok (.iinc 3 1, 3) := by decide +kernel
theorem dX1_runBegin_33 : decode cX1_runBegin 33 = .ok (.goto (-29), 3) := by decide +kernel
theorem dX1_runBegin_36 : decode cX1_runBegin 36 = .ok (.bipush (-4), 2) := by decide +kernel
theorem dX1_runBegin_38 : decode cX1_runBegin 38 = .ok (.ireturn, 1) := by decide +kernel
theorem dX1_runStyle_0 : decode cX1_runStyle 0 = .ok (.aload_n 0, 1) := by decide +kernel
theorem dX1_runStyle_1 : decode cX1_runStyle 1 = .ok (.iload_n 1, 1) := by decide +kernel
theorem dX1_runStyle_2 : decode cX1_runStyle 2 = .ok (.invokevirtual 58, 3) := by decide +kernel
theorem dX1_runStyle_5 : decode cX1_runStyle 5 = .ok (.istore_n 2, 1) := by decide +kernel
theorem dX1_runStyle_6 : decode cX1_runStyle 6 = .ok (.iload_n 2, 1) := by decide +kernel
theorem dX1_runStyle_7 : decode cX1_runStyle 7 = .ok (.ifCond .ge 8, 3) := by decide +kernel
theorem dX1_runStyle_10 : decode cX1_runStyle 10 = .ok (.bipush (-4), 2) := by decide +kernel
theorem dX1_runStyle_12 : decode cX1_runStyle 12 = .ok (.goto 9, 3) := by decide +kernel
theorem dX1_runStyle_15 : decode cX1_runStyle 15 = .ok (.aload_n 0, 1) := by decide +kernel
theorem dX1_runStyle_16 : decode cX1_runStyle 16 = .ok (.getfield 13, 3) := by decide +kernel
theorem dX1_runStyle_19 : decode cX1_runStyle 19 = .ok (.iload_n 2, 1) := by decide +kernel
theorem dX1_runStyle_20 : decode cX1_runStyle 20 = .ok (.iaload, 1) := by decide +kernel
theorem dX1_runStyle_21 : decode cX1_runStyle 21 = .ok (.ireturn, 1) := by decide +kernel
theorem dX1_runOf_0 : decode cX1_runOf 0 = .ok (.iload_n 1, 1) := by decide +kernel
theorem dX1_runOf_1 : decode cX1_runOf 1 = .ok (.ifCond .lt 11, 3) := by decide +kernel
theorem dX1_runOf_4 : decode cX1_runOf 4 = .ok (.iload_n 1, 1) := by decide +kernel
theorem dX1_runOf_5 : decode cX1_runOf 5 = .ok (.aload_n 0, 1) := by decide +kernel
theorem dX1_runOf_6 : decode cX1_runOf 6 = .ok (.getfield 22, 3) := by decide +kernel
theorem dX1_runOf_9 : decode cX1_runOf 9 = .ok (.if_icmp .lt 6, 3) := by decide +kernel
theorem dX1_runOf_12 : decode cX1_runOf 12 = .ok (.bipush (-4), 2) := by decide +kernel
theorem dX1_runOf_14 : decode cX1_runOf 14 = .ok (.ireturn, 1) := by decide +kernel
theorem dX1_runOf_15 : decode cX1_runOf 15 = .ok (.iconst (-1), 1) := by decide +kernel
theorem dX1_runOf_16 : decode cX1_runOf 16 = .ok (.istore_n 2, 1) := by decide +kernel
theorem dX1_runOf_17 : decode cX1_runOf 17 = .ok (.iconst 0, 1) := by decide +kernel
theorem dX1_runOf_18 : decode cX1_runOf 18 = .ok (.istore_n 3, 1) := by decide +kernel
theorem dX1_runOf_19 : decode cX1_runOf 19 = .ok (.iload_n 3, 1) := by decide +kernel
theorem dX1_runOf_20 : decode cX1_runOf 20 = .ok (.iload_n 1, 1) := by decide +kernel
theorem dX1_runOf_21 : decode cX1_runOf 21 = .ok (.if_icmp .gt 25, 3) := by decide +kernel
theorem dX1_runOf_24 : decode cX1_runOf 24 = .ok (.aload_n 0, 1) := by decide +kernel
theorem dX1_runOf_25 : decode cX1_runOf 25 = .ok (.iload_n 3, 1) := by decide +kernel
theorem dX1_runOf_26 : decode cX1_runOf 26 = .ok (.invokevirtual 55, 3) := by decide +kernel
theorem dX1_runOf_29 : decode cX1_runOf 29 = .ok (.ifCond .eq 9, 3) := by decide +kernel
theorem dX1_runOf_32 : decode cX1_runOf 32 = .ok (.iload_n 2, 1) := by decide +kernel
theorem dX1_runOf_33 : decode cX1_runOf 33 = .ok (.iconst 1, 1) := by decide +kernel
theorem dX1_runOf_34 : decode cX1_runOf 34 = .ok (.iadd, 1) := by decide +kernel
theorem dX1_runOf_35 : decode cX1_runOf 35 = .ok (.goto 4, 3) := by decide +kernel
theorem dX1_runOf_38 : decode cX1_runOf 38 = .ok (.iload_n 2, 1) := by decide +kernel
theorem dX1_runOf_39 : decode cX1_runOf 39 = .ok (.istore_n 2, 1) := by decide +kernel
theorem dX1_runOf_40 : decode cX1_runOf 40 = .ok (.iinc 3 1, 3) := by decide +kernel
theorem dX1_runOf_43 : decode cX1_runOf 43 = .ok (.goto (-24), 3) := by decide +kernel
theorem dX1_runOf_46 : decode cX1_runOf 46 = .ok (.iload_n 2, 1) := by decide +kernel
theorem dX1_runOf_47 : decode cX1_runOf 47 = .ok (.ireturn, 1) := by decide +kernel
theorem dX1_having_0 : decode cX1_having 0 = .ok (.iload_n 1, 1) := by decide +kernel
theorem dX1_having_1 : decode cX1_having 1 = .ok (.ifCond .lt 9, 3) := by decide +kernel
theorem dX1_having_4 : decode cX1_having 4 = .ok (.iload_n 1, 1) := by decide +kernel
theorem dX1_having_5 : decode cX1_having 5 = .ok (.bipush 7, 2) := by decide +kernel
theorem dX1_having_7 : decode cX1_having 7 = .ok (.if_icmp .le 5, 3) := by decide +kernel
theorem dX1_having_10 : decode cX1_having 10 = .ok (.iconst (-1), 1) := by decide +kernel
theorem dX1_having_11 : decode cX1_having 11 = .ok (.ireturn, 1) := by decide +kernel
theorem dX1_having_12 : decode cX1_having 12 = .ok (.iconst 0, 1) := by decide +kernel
theorem dX1_having_13 : decode cX1_having 13 = .ok (.istore_n 2, 1) := by decide +kernel
theorem dX1_having_14 : decode cX1_having 14 = .ok (.iconst 0, 1) := by decide +kernel
theorem dX1_having_15 : decode cX1_having 15 = .ok (.istore_n 3, 1) := by decide +kernel
theorem dX1_having_16 : decode cX1_having 16 = .ok (.iload_n 3, 1) := by decide +kernel
theorem dX1_having_17 : decode cX1_having 17 = .ok (.aload_n 0, 1) := by decide +kernel
theorem dX1_having_18 : decode cX1_having 18 = .ok (.getfield 22, 3) := by decide +kernel
theorem dX1_having_21 : decode cX1_having 21 = .ok (.if_icmp .ge 29, 3) := by decide +kernel
theorem dX1_having_24 : decode cX1_having 24 = .ok (.aload_n 0, 1) := by decide +kernel
theorem dX1_having_25 : decode cX1_having 25 = .ok (.getfield 13, 3) := by decide +kernel
theorem dX1_having_28 : decode cX1_having 28 = .ok (.iload_n 3, 1) := by decide +kernel
theorem dX1_having_29 : decode cX1_having 29 = .ok (.iaload, 1) := by decide +kernel
theorem dX1_having_30 : decode cX1_having 30 = .ok (.iload_n 1, 1) := by decide +kernel
theorem dX1_having_31 : decode cX1_having 31 = .ok (.iand, 1) := by decide +kernel
theorem dX1_having_32 : decode cX1_having 32 = .ok (.iload_n 1, 1) := by decide +kernel
theorem dX1_having_33 : decode cX1_having 33 = .ok (.if_icmp .ne 9, 3) := by decide +kernel
theorem dX1_having_36 : decode cX1_having 36 = .ok (.iload_n 2, 1) := by decide +kernel
theorem dX1_having_37 : decode cX1_having 37 = .ok (.iconst 1, 1) := by decide +kernel
theorem dX1_having_38 : decode cX1_having 38 = .ok (.iadd, 1) := by decide +kernel
theorem dX1_having_39 : decode cX1_having 39 = .ok (.goto 4, 3) := by decide +kernel
theorem dX1_having_42 : decode cX1_having 42 = .ok (.iload_n 2, 1) := by decide +kernel
theorem dX1_having_43 : decode cX1_having 43 = .ok (.istore_n 2, 1) := by decide +kernel
theorem dX1_having_44 : decode cX1_having 44 = .ok (.iinc 3 1, 3) := by decide +kernel
theorem dX1_having_47 : decode cX1_having 47 = .ok (.goto (-31), 3) := by decide +kernel
theorem dX1_having_50 : decode cX1_having 50 = .ok (.iload_n 2, 1) := by decide +kernel
theorem dX1_having_51 : decode cX1_having 51 = .ok (.ireturn, 1) := by decide +kernel
theorem dX1_setFlag_0 : decode cX1_setFlag 0 = .ok (.iload_n 1, 1) := by decide +kernel
theorem dX1_setFlag_1 : decode cX1_setFlag 1 = .ok (.ifCond .lt 11, 3) := by decide +kernel
theorem dX1_setFlag_4 : decode cX1_setFlag 4 = .ok (.iload_n 1, 1) := by decide +kernel
theorem dX1_setFlag_5 : decode cX1_setFlag 5 = .ok (.aload_n 0, 1) := by decide +kernel
theorem dX1_setFlag_6 : decode cX1_setFlag 6 = .ok (.getfield 22, 3) := by decide +kernel
theorem dX1_setFlag_9 : decode cX1_setFlag 9 = .ok (.if_icmp .le 5, 3) := by decide +kernel
theorem dX1_setFlag_12 : decode cX1_setFlag 12 = .ok (.iconst (-1), 1) := by decide +kernel
theorem dX1_setFlag_13 : decode cX1_setFlag 13 = .ok (.ireturn, 1) := by decide +kernel
theorem dX1_setFlag_14 : decode cX1_setFlag 14 = .ok (.aload_n 0, 1) := by decide +kernel
theorem dX1_setFlag_15 : decode cX1_setFlag 15 = .ok (.getfield 26, 3) := by decide +kernel
theorem dX1_setFlag_18 : decode cX1_setFlag 18 = .ok (.istore_n 2, 1) := by decide +kernel
theorem dX1_setFlag_19 : decode cX1_setFlag 19 = .ok (.aload_n 0, 1) := by decide +kernel
theorem dX1_setFlag_20 : decode cX1_setFlag 20 = .ok (.iload_n 1, 1) := by decide +kernel
theorem dX1_setFlag_21 : decode cX1_setFlag 21 = .ok (.putfield 26, 3) := by decide +kernel
theorem dX1_setFlag_24 : decode cX1_setFlag 24 = .ok (.iload_n 2, 1) := by decide +kernel
theorem dX1_setFlag_25 : decode cX1_setFlag 25 = .ok (.ireturn, 1) := by decide +kernel
theorem dX1_flag_0 : decode cX1_flag 0 = .ok (.aload_n 0, 1) := by decide +kernel
theorem dX1_flag_1 : decode cX1_flag 1 = .ok (.getfield 26, 3) := by decide +kernel
theorem dX1_flag_4 : decode cX1_flag 4 = .ok (.ireturn, 1) := by decide +kernel
theorem dX1_digest_0 : decode cX1_digest 0 = .ok (.iconst 0, 1) := by decide +kernel
theorem dX1_digest_1 : decode cX1_digest 1 = .ok (.istore_n 1, 1) := by decide +kernel
theorem dX1_digest_2 : decode cX1_digest 2 = .ok (.iconst 0, 1) := by decide +kernel
theorem dX1_digest_3 : decode cX1_digest 3 = .ok (.istore_n 2, 1) := by decide +kernel
theorem dX1_digest_4 : decode cX1_digest 4 = .ok (.iload_n 2, 1) := by decide +kernel
theorem dX1_digest_5 : decode cX1_digest 5 = .ok (.aload_n 0, 1) := by decide +kernel
theorem dX1_digest_6 : decode cX1_digest 6 = .ok (.getfield 22, 3) := by decide +kernel
theorem dX1_digest_9 : decode cX1_digest 9 = .ok (.if_icmp .ge 32, 3) := by decide +kernel
theorem dX1_digest_12 : decode cX1_digest 12 = .ok (.iload_n 1, 1) := by decide +kernel
theorem dX1_digest_13 : decode cX1_digest 13 = .ok (.iload_n 2, 1) := by decide +kernel
theorem dX1_digest_14 : decode cX1_digest 14 = .ok (.iconst 1, 1) := by decide +kernel
theorem dX1_digest_15 : decode cX1_digest 15 = .ok (.iadd, 1) := by decide +kernel
theorem dX1_digest_16 : decode cX1_digest 16 = .ok (.bipush 64, 2) := by decide +kernel
theorem dX1_digest_18 : decode cX1_digest 18 = .ok (.aload_n 0, 1) := by decide +kernel
theorem dX1_digest_19 : decode cX1_digest 19 = .ok (.getfield 7, 3) := by decide +kernel
theorem dX1_digest_22 : decode cX1_digest 22 = .ok (.iload_n 2, 1) := by decide +kernel
theorem dX1_digest_23 : decode cX1_digest 23 = .ok (.iaload, 1) := by decide +kernel
theorem dX1_digest_24 : decode cX1_digest 24 = .ok (.imul, 1) := by decide +kernel
theorem dX1_digest_25 : decode cX1_digest 25 = .ok (.aload_n 0, 1) := by decide +kernel
theorem dX1_digest_26 : decode cX1_digest 26 = .ok (.getfield 13, 3) := by decide +kernel
theorem dX1_digest_29 : decode cX1_digest 29 = .ok (.iload_n 2, 1) := by decide +kernel
theorem dX1_digest_30 : decode cX1_digest 30 = .ok (.iaload, 1) := by decide +kernel
theorem dX1_digest_31 : decode cX1_digest 31 = .ok (.iadd, 1) := by decide +kernel
theorem dX1_digest_32 : decode cX1_digest 32 = .ok (.imul, 1) := by decide +kernel
theorem dX1_digest_33 : decode cX1_digest 33 = .ok (.iadd, 1) := by decide +kernel
theorem dX1_digest_34 : decode cX1_digest 34 = .ok (.istore_n 1, 1) := by decide +kernel
theorem dX1_digest_35 : decode cX1_digest 35 = .ok (.iinc 2 1, 3) := by decide +kernel
theorem dX1_digest_38 : decode cX1_digest 38 = .ok (.goto (-34), 3) := by decide +kernel
theorem dX1_digest_41 : decode cX1_digest 41 = .ok (.iload_n 1, 1) := by decide +kernel
theorem dX1_digest_42 : decode cX1_digest 42 = .ok (.ireturn, 1) := by decide +kernel
end
section
set_option maxRecDepth 100000
theorem dL_law_0 : decode cL_law 0 = .ok (.new 7, 3) := by decide +kernel
theorem dL_law_3 : decode cL_law 3 = .ok (.dup, 1) := by decide +kernel
theorem dL_law_4 : decode cL_law 4 = .ok (.invokespecial 9, 3) := by decide +kernel
theorem dL_law_7 : decode cL_law 7 = .ok (.astore_n 1, 1) := by decide +kernel
theorem dL_law_8 : decode cL_law 8 = .ok (.new 10, 3) := by decide +kernel
theorem dL_law_11 : decode cL_law 11 = .ok (.dup, 1) := by decide +kernel
theorem dL_law_12 : decode cL_law 12 = .ok (.invokespecial 12, 3) := by decide +kernel
theorem dL_law_15 : decode cL_law 15 = .ok (.astore_n 2, 1) := by decide +kernel
theorem dL_law_16 : decode cL_law 16 = .ok (.iconst 0, 1) := by decide +kernel
theorem dL_law_17 : decode cL_law 17 = .ok (.istore_n 3, 1) := by decide +kernel
theorem dL_law_18 : decode cL_law 18 = .ok (.iload_n 3, 1) := by decide +kernel
theorem dL_law_19 : decode cL_law 19 = .ok (.aload_n 0, 1) := by decide +kernel
theorem dL_law_20 : decode cL_law 20 = .ok (.arraylength, 1) := by decide +kernel
theorem dL_law_21 : decode cL_law 21 = .ok (.iconst 5, 1) := by decide +kernel
theorem dL_law_22 : decode cL_law 22 = .ok (.isub, 1) := by decide +kernel
theorem dL_law_23 : decode cL_law 23 = .ok (.if_icmp .gt 654, 3) := by decide +kernel
theorem dL_law_26 : decode cL_law 26 = .ok (.aload_n 0, 1) := by decide +kernel
theorem dL_law_27 : decode cL_law 27 = .ok (.iload_n 3, 1) := by decide +kernel
theorem dL_law_28 : decode cL_law 28 = .ok (.iaload, 1) := by decide +kernel
theorem dL_law_29 : decode cL_law 29 = .ok (.bipush 31, 2) := by decide +kernel
theorem dL_law_31 : decode cL_law 31 = .ok (.iand, 1) := by decide +kernel
theorem dL_law_32 : decode cL_law 32 = .ok (.tableswitch 639 0 18 #[92, 125, 178, 211, 254, 297, 350, 393, 426, 439, 462, 485, 498, 521, 544, 567, 590, 613, 626], 92) := by decide +kernel
theorem dL_law_124 : decode cL_law 124 = .ok (.aload_n 1, 1) := by decide +kernel
theorem dL_law_125 : decode cL_law 125 = .ok (.aload_n 0, 1) := by decide +kernel
theorem dL_law_126 : decode cL_law 126 = .ok (.iload_n 3, 1) := by decide +kernel
theorem dL_law_127 : decode cL_law 127 = .ok (.iconst 1, 1) := by decide +kernel
theorem dL_law_128 : decode cL_law 128 = .ok (.iadd, 1) := by decide +kernel
theorem dL_law_129 : decode cL_law 129 = .ok (.iaload, 1) := by decide +kernel
theorem dL_law_130 : decode cL_law 130 = .ok (.aload_n 0, 1) := by decide +kernel
theorem dL_law_131 : decode cL_law 131 = .ok (.iload_n 3, 1) := by decide +kernel
theorem dL_law_132 : decode cL_law 132 = .ok (.iconst 2, 1) := by decide +kernel
theorem dL_law_133 : decode cL_law 133 = .ok (.iadd, 1) := by decide +kernel
theorem dL_law_134 : decode cL_law 134 = .ok (.iaload, 1) := by decide +kernel
theorem dL_law_135 : decode cL_law 135 = .ok (.invokevirtual 13, 3) := by decide +kernel
theorem dL_law_138 : decode cL_law 138 = .ok (.aload_n 2, 1) := by decide +kernel
theorem dL_law_139 : decode cL_law 139 = .ok (.aload_n 0, 1) := by decide +kernel
theorem dL_law_140 : decode cL_law 140 = .ok (.iload_n 3, 1) := by decide +kernel
theorem dL_law_141 : decode cL_law 141 = .ok (.iconst 1, 1) := by decide +kernel
theorem dL_law_142 : decode cL_law 142 = .ok (.iadd, 1) := by decide +kernel
theorem dL_law_143 : decode cL_law 143 = .ok (.iaload, 1) := by decide +kernel
theorem dL_law_144 : decode cL_law 144 = .ok (.aload_n 0, 1) := by decide +kernel
theorem dL_law_145 : decode cL_law 145 = .ok (.iload_n 3, 1) := by decide +kernel
theorem dL_law_146 : decode cL_law 146 = .ok (.iconst 2, 1) := by decide +kernel
theorem dL_law_147 : decode cL_law 147 = .ok (.iadd, 1) := by decide +kernel
theorem dL_law_148 : decode cL_law 148 = .ok (.iaload, 1) := by decide +kernel
theorem dL_law_149 : decode cL_law 149 = .ok (.invokevirtual 17, 3) := by decide +kernel
theorem dL_law_152 : decode cL_law 152 = .ok (.if_icmp .eq 519, 3) := by decide +kernel
theorem dL_law_155 : decode cL_law 155 = .ok (.iconst 0, 1) := by decide +kernel
theorem dL_law_156 : decode cL_law 156 = .ok (.ireturn, 1) := by decide +kernel
theorem dL_law_157 : decode cL_law 157 = .ok (.aload_n 1, 1) := by decide +kernel
theorem dL_law_158 : decode cL_law 158 = .ok (.aload_n 0, 1) := by decide +kernel
theorem dL_law_159 : decode cL_law 159 = .ok (.iload_n 3, 1) := by decide +kernel
theorem dL_law_160 : decode cL_law 160 = .ok (.iconst 1, 1) := by decide +kernel
theorem dL_law_161 : decode cL_law 161 = .ok (.iadd, 1) := by decide +kernel
theorem dL_law_162 : decode cL_law 162 = .ok (.iaload, 1) := by decide +kernel
theorem dL_law_163 : decode cL_law 163 = .ok (.aload_n 0, 1) := by decide +kernel
theorem dL_law_164 : decode cL_law 164 = .ok (.iload_n 3, 1) := by decide +kernel
theorem dL_law_165 : decode cL_law 165 = .ok (.iconst 2, 1) := by decide +kernel
theorem dL_law_166 : decode cL_law 166 = .ok (.iadd, 1) := by decide +kernel
theorem dL_law_167 : decode cL_law 167 = .ok (.iaload, 1) := by decide +kernel
theorem dL_law_168 : decode cL_law 168 = .ok (.aload_n 0, 1) := by decide +kernel
theorem dL_law_169 : decode cL_law 169 = .ok (.iload_n 3, 1) := by decide +kernel
theorem dL_law_170 : decode cL_law 170 = .ok (.iconst 3, 1) := by decide +kernel
theorem dL_law_171 : decode cL_law 171 = .ok (.iadd, 1) := by decide +kernel
theorem dL_law_172 : decode cL_law 172 = .ok (.iaload, 1) := by decide +kernel
theorem dL_law_173 : decode cL_law 173 = .ok (.aload_n 0, 1) := by decide +kernel
theorem dL_law_174 : decode cL_law 174 = .ok (.iload_n 3, 1) := by decide +kernel
theorem dL_law_175 : decode cL_law 175 = .ok (.iconst 4, 1) := by decide +kernel
theorem dL_law_176 : decode cL_law 176 = .ok (.iadd, 1) := by decide +kernel
theorem dL_law_177 : decode cL_law 177 = .ok (.iaload, 1) := by decide +kernel
theorem dL_law_178 : decode cL_law 178 = .ok (.invokevirtual 18, 3) := by decide +kernel
theorem dL_law_181 : decode cL_law 181 = .ok (.aload_n 2, 1) := by decide +kernel
theorem dL_law_182 : decode cL_law 182 = .ok (.aload_n 0, 1) := by decide +kernel
theorem dL_law_183 : decode cL_law 183 = .ok (.iload_n 3, 1) := by decide +kernel
theorem dL_law_184 : decode cL_law 184 = .ok (.iconst 1, 1) := by decide +kernel
theorem dL_law_185 : decode cL_law 185 = .ok (.iadd, 1) := by decide +kernel
theorem dL_law_186 : decode cL_law 186 = .ok (.iaload, 1) := by decide +kernel
theorem dL_law_187 : decode cL_law 187 = .ok (.aload_n 0, 1) := by decide +kernel
theorem dL_law_188 : decode cL_law 188 = .ok (.iload_n 3, 1) := by decide +kernel
theorem dL_law_189 : decode cL_law 189 = .ok (.iconst 2, 1) := by decide +kernel
theorem dL_law_190 : decode cL_law 190 = .ok (.iadd, 1) := by decide +kernel
theorem dL_law_191 : decode cL_law 191 = .ok (.iaload, 1) := by decide +kernel
theorem dL_law_192 : decode cL_law 192 = .ok (.aload_n 0, 1) := by decide +kernel
theorem dL_law_193 : decode cL_law 193 = .ok (.iload_n 3, 1) := by decide +kernel
theorem dL_law_194 : decode cL_law 194 = .ok (.iconst 3, 1) := by decide +kernel
theorem dL_law_195 : decode cL_law 195 = .ok (.iadd, 1) := by decide +kernel
theorem dL_law_196 : decode cL_law 196 = .ok (.iaload, 1) := by decide +kernel
theorem dL_law_197 : decode cL_law 197 = .ok (.aload_n 0, 1) := by decide +kernel
theorem dL_law_198 : decode cL_law 198 = .ok (.iload_n 3, 1) := by decide +kernel
theorem dL_law_199 : decode cL_law 199 = .ok (.iconst 4, 1) := by decide +kernel
theorem dL_law_200 : decode cL_law 200 = .ok (.iadd, 1) := by decide +kernel
theorem dL_law_201 : decode cL_law 201 = .ok (.iaload, 1) := by decide +kernel
theorem dL_law_202 : decode cL_law 202 = .ok (.invokevirtual 22, 3) := by decide +kernel
theorem dL_law_205 : decode cL_law 205 = .ok (.if_icmp .eq 466, 3) := by decide +kernel
theorem dL_law_208 : decode cL_law 208 = .ok (.iconst 0, 1) := by decide +kernel
theorem dL_law_209 : decode cL_law 209 = .ok (.ireturn, 1) := by decide +kernel
theorem dL_law_210 : decode cL_law 210 = .ok (.aload_n 1, 1) := by decide +kernel
theorem dL_law_211 : decode cL_law 211 = .ok (.aload_n 0, 1) := by decide +kernel
theorem dL_law_212 : decode cL_law 212 = .ok (.iload_n 3, 1) := by decide +kernel
theorem dL_law_213 : decode cL_law 213 = .ok (.iconst 1, 1) := by decide +kernel
theorem dL_law_214 : decode cL_law 214 = .ok (.iadd, 1) := by decide +kernel
theorem dL_law_215 : decode cL_law 215 = .ok (.iaload, 1) := by decide +kernel
theorem dL_law_216 : decode cL_law 216 = .ok (.aload_n 0, 1) := by decide +kernel
theorem dL_law_217 : decode cL_law 217 = .ok (.iload_n 3, 1) := by decide +kernel
theorem dL_law_218 : decode cL_law 218 = .ok (.iconst 2, 1) := by decide +kernel
theorem dL_law_219 : decode cL_law 219 = .ok (.iadd, 1) := by decide +kernel
theorem dL_law_220 : decode cL_law 220 = .ok (.iaload, 1) := by decide +kernel
theorem dL_law_221 : decode cL_law 221 = .ok (.invokevirtual 23, 3) := by decide +kernel
theorem dL_law_224 : decode cL_law 224 = .ok (.aload_n 2, 1) := by decide +kernel
theorem dL_law_225 : decode cL_law 225 = .ok (.aload_n 0, 1) := by decide +kernel
theorem dL_law_226 : decode cL_law 226 = .ok (.iload_n 3, 1) := by decide +kernel
theorem dL_law_227 : decode cL_law 227 = .ok (.iconst 1, 1) := by decide +kernel
theorem dL_law_228 : decode cL_law 228 = .ok (.iadd, 1) := by decide +kernel
theorem dL_law_229 : decode cL_law 229 = .ok (.iaload, 1) := by decide +kernel
theorem dL_law_230 : decode cL_law 230 = .ok (.aload_n 0, 1) := by decide +kernel
theorem dL_law_231 : decode cL_law 231 = .ok (.iload_n 3, 1) := by decide +kernel
theorem dL_law_232 : decode cL_law 232 = .ok (.iconst 2, 1) := by decide +kernel
theorem dL_law_233 : decode cL_law 233 = .ok (.iadd, 1) := by decide +kernel
theorem dL_law_234 : decode cL_law 234 = .ok (.iaload, 1) := by decide +kernel
theorem dL_law_235 : decode cL_law 235 = .ok (.invokevirtual 26, 3) := by decide +kernel
theorem dL_law_238 : decode cL_law 238 = .ok (.if_icmp .eq 433, 3) := by decide +kernel
theorem dL_law_241 : decode cL_law 241 = .ok (.iconst 0, 1) := by decide +kernel
theorem dL_law_242 : decode cL_law 242 = .ok (.ireturn, 1) := by decide +kernel
theorem dL_law_243 : decode cL_law 243 = .ok (.aload_n 1, 1) := by decide +kernel
theorem dL_law_244 : decode cL_law 244 = .ok (.aload_n 0, 1) := by decide +kernel
theorem dL_law_245 : decode cL_law 245 = .ok (.iload_n 3, 1) := by decide +kernel
theorem dL_law_246 : decode cL_law 246 = .ok (.iconst 1, 1) := by decide +kernel
theorem dL_law_247 : decode cL_law 247 = .ok (.iadd, 1) := by decide +kernel
theorem dL_law_248 : decode cL_law 248 = .ok (.iaload, 1) := by decide +kernel
theorem dL_law_249 : decode cL_law 249 = .ok (.aload_n 0, 1) := by decide +kernel
theorem dL_law_250 : decode cL_law 250 = .ok (.iload_n 3, 1) := by decide +kernel
theorem dL_law_251 : decode cL_law 251 = .ok (.iconst 2, 1) := by decide +kernel
theorem dL_law_252 : decode cL_law 252 = .ok (.iadd, 1) := by decide +kernel
theorem dL_law_253 : decode cL_law 253 = .ok (.iaload, 1) := by decide +kernel
theorem dL_law_254 : decode cL_law 254 = .ok (.aload_n 0, 1) := by decide +kernel
theorem dL_law_255 : decode cL_law 255 = .ok (.iload_n 3, 1) := by decide +kernel
theorem dL_law_256 : decode cL_law 256 = .ok (.iconst 3, 1) := by decide +kernel
theorem dL_law_257 : decode cL_law 257 = .ok (.iadd, 1) := by decide +kernel
theorem dL_law_258 : decode cL_law 258 = .ok (.iaload, 1) := by decide +kernel
theorem dL_law_259 : decode cL_law 259 = .ok (.invokevirtual 27, 3) := by decide +kernel
theorem dL_law_262 : decode cL_law 262 = .ok (.aload_n 2, 1) := by decide +kernel
theorem dL_law_263 : decode cL_law 263 = .ok (.aload_n 0, 1) := by decide +kernel
theorem dL_law_264 : decode cL_law 264 = .ok (.iload_n 3, 1) := by decide +kernel
theorem dL_law_265 : decode cL_law 265 = .ok (.iconst 1, 1) := by decide +kernel
theorem dL_law_266 : decode cL_law 266 = .ok (.iadd, 1) := by decide +kernel
theorem dL_law_267 : decode cL_law 267 = .ok (.iaload, 1) := by decide +kernel
theorem dL_law_268 : decode cL_law 268 = .ok (.aload_n 0, 1) := by decide +kernel
theorem dL_law_269 : decode cL_law 269 = .ok (.iload_n 3, 1) := by decide +kernel
theorem dL_law_270 : decode cL_law 270 = .ok (.iconst 2, 1) := by decide +kernel
theorem dL_law_271 : decode cL_law 271 = .ok (.iadd, 1) := by decide +kernel
theorem dL_law_272 : decode cL_law 272 = .ok (.iaload, 1) := by decide +kernel
theorem dL_law_273 : decode cL_law 273 = .ok (.aload_n 0, 1) := by decide +kernel
theorem dL_law_274 : decode cL_law 274 = .ok (.iload_n 3, 1) := by decide +kernel
theorem dL_law_275 : decode cL_law 275 = .ok (.iconst 3, 1) := by decide +kernel
theorem dL_law_276 : decode cL_law 276 = .ok (.iadd, 1) := by decide +kernel
theorem dL_law_277 : decode cL_law 277 = .ok (.iaload, 1) := by decide +kernel
theorem dL_law_278 : decode cL_law 278 = .ok (.invokevirtual 31, 3) := by decide +kernel
theorem dL_law_281 : decode cL_law 281 = .ok (.if_icmp .eq 390, 3) := by decide +kernel
theorem dL_law_284 : decode cL_law 284 = .ok (.iconst 0, 1) := by decide +kernel
theorem dL_law_285 : decode cL_law 285 = .ok (.ireturn, 1) := by decide +kernel
theorem dL_law_286 : decode cL_law 286 = .ok (.aload_n 1, 1) := by decide +kernel
theorem dL_law_287 : decode cL_law 287 = .ok (.aload_n 0, 1) := by decide +kernel
theorem dL_law_288 : decode cL_law 288 = .ok (.iload_n 3, 1) := by decide +kernel
theorem dL_law_289 : decode cL_law 289 = .ok (.iconst 1, 1) := by decide +kernel
theorem dL_law_290 : decode cL_law 290 = .ok (.iadd, 1) := by decide +kernel
theorem dL_law_291 : decode cL_law 291 = .ok (.iaload, 1) := by decide +kernel
theorem dL_law_292 : decode cL_law 292 = .ok (.aload_n 0, 1) := by decide +kernel
theorem dL_law_293 : decode cL_law 293 = .ok (.iload_n 3, 1) := by decide +kernel
theorem dL_law_294 : decode cL_law 294 = .ok (.iconst 2, 1) := by decide +kernel
theorem dL_law_295 : decode cL_law 295 = .ok (.iadd, 1) := by decide +kernel
theorem dL_law_296 : decode cL_law 296 = .ok (.iaload, 1) := by decide +kernel
theorem dL_law_297 : decode cL_law 297 = .ok (.aload_n 0, 1) := by decide +kernel
theorem dL_law_298 : decode cL_law 298 = .ok (.iload_n 3, 1) := by decide +kernel
theorem dL_law_299 : decode cL_law 299 = .ok (.iconst 3, 1) := by decide +kernel
theorem dL_law_300 : decode cL_law 300 = .ok (.iadd, 1) := by decide +kernel
theorem dL_law_301 : decode cL_law 301 = .ok (.iaload, 1) := by decide +kernel
theorem dL_law_302 : decode cL_law 302 = .ok (.invokevirtual 32, 3) := by decide +kernel
theorem dL_law_305 : decode cL_law 305 = .ok (.aload_n 2, 1) := by decide +kernel
theorem dL_law_306 : decode cL_law 306 = .ok (.aload_n 0, 1) := by decide +kernel
theorem dL_law_307 : decode cL_law 307 = .ok (.iload_n 3, 1) := by decide +kernel
theorem dL_law_308 : decode cL_law 308 = .ok (.iconst 1, 1) := by decide +kernel
theorem dL_law_309 : decode cL_law 309 = .ok (.iadd, 1) := by decide +kernel
theorem dL_law_310 : decode cL_law 310 = .ok (.iaload, 1) := by decide +kernel
theorem dL_law_311 : decode cL_law 311 = .ok (.aload_n 0, 1) := by decide +kernel
theorem dL_law_312 : decode cL_law 312 = .ok (.iload_n 3, 1) := by decide +kernel
theorem dL_law_313 : decode cL_law 313 = .ok (.iconst 2, 1) := by decide +kernel
theorem dL_law_314 : decode cL_law 314 = .ok (.iadd, 1) := by decide +kernel
theorem dL_law_315 : decode cL_law 315 = .ok (.iaload, 1) := by decide +kernel
theorem dL_law_316 : decode cL_law 316 = .ok (.aload_n 0, 1) := by decide +kernel
theorem dL_law_317 : decode cL_law 317 = .ok (.iload_n 3, 1) := by decide +kernel
theorem dL_law_318 : decode cL_law 318 = .ok (.iconst 3, 1) := by decide +kernel
theorem dL_law_319 : decode cL_law 319 = .ok (.iadd, 1) := by decide +kernel
theorem dL_law_320 : decode cL_law 320 = .ok (.iaload, 1) := by decide +kernel
theorem dL_law_321 : decode cL_law 321 = .ok (.invokevirtual 35, 3) := by decide +kernel
theorem dL_law_324 : decode cL_law 324 = .ok (.if_icmp .eq 347, 3) := by decide +kernel
theorem dL_law_327 : decode cL_law 327 = .ok (.iconst 0, 1) := by decide +kernel
theorem dL_law_328 : decode cL_law 328 = .ok (.ireturn, 1) := by decide +kernel
theorem dL_law_329 : decode cL_law 329 = .ok (.aload_n 1, 1) := by decide +kernel
theorem dL_law_330 : decode cL_law 330 = .ok (.aload_n 0, 1) := by decide +kernel
theorem dL_law_331 : decode cL_law 331 = .ok (.iload_n 3, 1) := by decide +kernel
theorem dL_law_332 : decode cL_law 332 = .ok (.iconst 1, 1) := by decide +kernel
theorem dL_law_333 : decode cL_law 333 = .ok (.iadd, 1) := by decide +kernel
theorem dL_law_334 : decode cL_law 334 = .ok (.iaload, 1) := by decide +kernel
theorem dL_law_335 : decode cL_law 335 = .ok (.aload_n 0, 1) := by decide +kernel
theorem dL_law_336 : decode cL_law 336 = .ok (.iload_n 3, 1) := by decide +kernel
theorem dL_law_337 : decode cL_law 337 = .ok (.iconst 2, 1) := by decide +kernel
theorem dL_law_338 : decode cL_law 338 = .ok (.iadd, 1) := by decide +kernel
theorem dL_law_339 : decode cL_law 339 = .ok (.iaload, 1) := by decide +kernel
theorem dL_law_340 : decode cL_law 340 = .ok (.aload_n 0, 1) := by decide +kernel
theorem dL_law_341 : decode cL_law 341 = .ok (.iload_n 3, 1) := by decide +kernel
theorem dL_law_342 : decode cL_law 342 = .ok (.iconst 3, 1) := by decide +kernel
theorem dL_law_343 : decode cL_law 343 = .ok (.iadd, 1) := by decide +kernel
theorem dL_law_344 : decode cL_law 344 = .ok (.iaload, 1) := by decide +kernel
theorem dL_law_345 : decode cL_law 345 = .ok (.aload_n 0, 1) := by decide +kernel
theorem dL_law_346 : decode cL_law 346 = .ok (.iload_n 3, 1) := by decide +kernel
theorem dL_law_347 : decode cL_law 347 = .ok (.iconst 4, 1) := by decide +kernel
theorem dL_law_348 : decode cL_law 348 = .ok (.iadd, 1) := by decide +kernel
theorem dL_law_349 : decode cL_law 349 = .ok (.iaload, 1) := by decide +kernel
theorem dL_law_350 : decode cL_law 350 = .ok (.invokevirtual 36, 3) := by decide +kernel
theorem dL_law_353 : decode cL_law 353 = .ok (.aload_n 2, 1) := by decide +kernel
theorem dL_law_354 : decode cL_law 354 = .ok (.aload_n 0, 1) := by decide +kernel
theorem dL_law_355 : decode cL_law 355 = .ok (.iload_n 3, 1) := by decide +kernel
theorem dL_law_356 : decode cL_law 356 = .ok (.iconst 1, 1) := by decide +kernel
theorem dL_law_357 : decode cL_law 357 = .ok (.iadd, 1) := by decide +kernel
theorem dL_law_358 : decode cL_law 358 = .ok (.iaload, 1) := by decide +kernel
theorem dL_law_359 : decode cL_law 359 = .ok (.aload_n 0, 1) := by decide +kernel
theorem dL_law_360 : decode cL_law 360 = .ok (.iload_n 3, 1) := by decide +kernel
theorem dL_law_361 : decode cL_law 361 = .ok (.iconst 2, 1) := by decide +kernel
theorem dL_law_362 : decode cL_law 362 = .ok (.iadd, 1) := by decide +kernel
theorem dL_law_363 : decode cL_law 363 = .ok (.iaload, 1) := by decide +kernel
theorem dL_law_364 : decode cL_law 364 = .ok (.aload_n 0, 1) := by decide +kernel
theorem dL_law_365 : decode cL_law 365 = .ok (.iload_n 3, 1) := by decide +kernel
theorem dL_law_366 : decode cL_law 366 = .ok (.iconst 3, 1) := by decide +kernel
theorem dL_law_367 : decode cL_law 367 = .ok (.iadd, 1) := by decide +kernel
theorem dL_law_368 : decode cL_law 368 = .ok (.iaload, 1) := by decide +kernel
theorem dL_law_369 : decode cL_law 369 = .ok (.aload_n 0, 1) := by decide +kernel
theorem dL_law_370 : decode cL_law 370 = .ok (.iload_n 3, 1) := by decide +kernel
theorem dL_law_371 : decode cL_law 371 = .ok (.iconst 4, 1) := by decide +kernel
theorem dL_law_372 : decode cL_law 372 = .ok (.iadd, 1) := by decide +kernel
theorem dL_law_373 : decode cL_law 373 = .ok (.iaload, 1) := by decide +kernel
theorem dL_law_374 : decode cL_law 374 = .ok (.invokevirtual 39, 3) := by decide +kernel
theorem dL_law_377 : decode cL_law 377 = .ok (.if_icmp .eq 294, 3) := by decide +kernel
theorem dL_law_380 : decode cL_law 380 = .ok (.iconst 0, 1) := by decide +kernel
theorem dL_law_381 : decode cL_law 381 = .ok (.ireturn, 1) := by decide +kernel
theorem dL_law_382 : decode cL_law 382 = .ok (.aload_n 1, 1) := by decide +kernel
theorem dL_law_383 : decode cL_law 383 = .ok (.aload_n 0, 1) := by decide +kernel
theorem dL_law_384 : decode cL_law 384 = .ok (.iload_n 3, 1) := by decide +kernel
theorem dL_law_385 : decode cL_law 385 = .ok (.iconst 1, 1) := by decide +kernel
theorem dL_law_386 : decode cL_law 386 = .ok (.iadd, 1) := by decide +kernel
theorem dL_law_387 : decode cL_law 387 = .ok (.iaload, 1) := by decide +kernel
theorem dL_law_388 : decode cL_law 388 = .ok (.aload_n 0, 1) := by decide +kernel
theorem dL_law_389 : decode cL_law 389 = .ok (.iload_n 3, 1) := by decide +kernel
theorem dL_law_390 : decode cL_law 390 = .ok (.iconst 2, 1) := by decide +kernel
theorem dL_law_391 : decode cL_law 391 = .ok (.iadd, 1) := by decide +kernel
theorem dL_law_392 : decode cL_law 392 = .ok (.iaload, 1) := by decide +kernel
theorem dL_law_393 : decode cL_law 393 = .ok (.aload_n 0, 1) := by decide +kernel
theorem dL_law_394 : decode cL_law 394 = .ok (.iload_n 3, 1) := by decide +kernel
theorem dL_law_395 : decode cL_law 395 = .ok (.iconst 3, 1) := by decide +kernel
theorem dL_law_396 : decode cL_law 396 = .ok (.iadd, 1) := by decide +kernel
theorem dL_law_397 : decode cL_law 397 = .ok (.iaload, 1) := by decide +kernel
theorem dL_law_398 : decode cL_law 398 = .ok (.invokevirtual 40, 3) := by decide +kernel
theorem dL_law_401 : decode cL_law 401 = .ok (.aload_n 2, 1) := by decide +kernel
theorem dL_law_402 : decode cL_law 402 = .ok (.aload_n 0, 1) := by decide +kernel
theorem dL_law_403 : decode cL_law 403 = .ok (.iload_n 3, 1) := by decide +kernel
theorem dL_law_404 : decode cL_law 404 = .ok (.iconst 1, 1) := by decide +kernel
theorem dL_law_405 : decode cL_law 405 = .ok (.iadd, 1) := by decide +kernel
theorem dL_law_406 : decode cL_law 406 = .ok (.iaload, 1) := by decide +kernel
theorem dL_law_407 : decode cL_law 407 = .ok (.aload_n 0, 1) := by decide +kernel
theorem dL_law_408 : decode cL_law 408 = .ok (.iload_n 3, 1) := by decide +kernel
theorem dL_law_409 : decode cL_law 409 = .ok (.iconst 2, 1) := by decide +kernel
theorem dL_law_410 : decode cL_law 410 = .ok (.iadd, 1) := by decide +kernel
theorem dL_law_411 : decode cL_law 411 = .ok (.iaload, 1) := by decide +kernel
theorem dL_law_412 : decode cL_law 412 = .ok (.aload_n 0, 1) := by decide +kernel
theorem dL_law_413 : decode cL_law 413 = .ok (.iload_n 3, 1) := by decide +kernel
theorem dL_law_414 : decode cL_law 414 = .ok (.iconst 3, 1) := by decide +kernel
theorem dL_law_415 : decode cL_law 415 = .ok (.iadd, 1) := by decide +kernel
theorem dL_law_416 : decode cL_law 416 = .ok (.iaload, 1) := by decide +kernel
theorem dL_law_417 : decode cL_law 417 = .ok (.invokevirtual 43, 3) := by decide +kernel
theorem dL_law_420 : decode cL_law 420 = .ok (.if_icmp .eq 251, 3) := by decide +kernel
theorem dL_law_423 : decode cL_law 423 = .ok (.iconst 0, 1) := by decide +kernel
theorem dL_law_424 : decode cL_law 424 = .ok (.ireturn, 1) := by decide +kernel
theorem dL_law_425 : decode cL_law 425 = .ok (.aload_n 1, 1) := by decide +kernel
theorem dL_law_426 : decode cL_law 426 = .ok (.aload_n 0, 1) := by decide +kernel
theorem dL_law_427 : decode cL_law 427 = .ok (.iload_n 3, 1) := by decide +kernel
theorem dL_law_428 : decode cL_law 428 = .ok (.iconst 1, 1) := by decide +kernel
theorem dL_law_429 : decode cL_law 429 = .ok (.iadd, 1) := by decide +kernel
theorem dL_law_430 : decode cL_law 430 = .ok (.iaload, 1) := by decide +kernel
theorem dL_law_431 : decode cL_law 431 = .ok (.aload_n 0, 1) := by decide +kernel
theorem dL_law_432 : decode cL_law 432 = .ok (.iload_n 3, 1) := by decide +kernel
theorem dL_law_433 : decode cL_law 433 = .ok (.iconst 2, 1) := by decide +kernel
theorem dL_law_434 : decode cL_law 434 = .ok (.iadd, 1) := by decide +kernel
theorem dL_law_435 : decode cL_law 435 = .ok (.iaload, 1) := by decide +kernel
theorem dL_law_436 : decode cL_law 436 = .ok (.invokevirtual 44, 3) := by decide +kernel
theorem dL_law_439 : decode cL_law 439 = .ok (.aload_n 2, 1) := by decide +kernel
theorem dL_law_440 : decode cL_law 440 = .ok (.aload_n 0, 1) := by decide +kernel
theorem dL_law_441 : decode cL_law 441 = .ok (.iload_n 3, 1) := by decide +kernel
theorem dL_law_442 : decode cL_law 442 = .ok (.iconst 1, 1) := by decide +kernel
theorem dL_law_443 : decode cL_law 443 = .ok (.iadd, 1) := by decide +kernel
theorem dL_law_444 : decode cL_law 444 = .ok (.iaload, 1) := by decide +kernel
theorem dL_law_445 : decode cL_law 445 = .ok (.aload_n 0, 1) := by decide +kernel
theorem dL_law_446 : decode cL_law 446 = .ok (.iload_n 3, 1) := by decide +kernel
theorem dL_law_447 : decode cL_law 447 = .ok (.iconst 2, 1) := by decide +kernel
theorem dL_law_448 : decode cL_law 448 = .ok (.iadd, 1) := by decide +kernel
theorem dL_law_449 : decode cL_law 449 = .ok (.iaload, 1) := by decide +kernel
theorem dL_law_450 : decode cL_law 450 = .ok (.invokevirtual 47, 3) := by decide +kernel
theorem dL_law_453 : decode cL_law 453 = .ok (.if_icmp .eq 218, 3) := by decide +kernel
theorem dL_law_456 : decode cL_law 456 = .ok (.iconst 0, 1) := by decide +kernel
theorem dL_law_457 : decode cL_law 457 = .ok (.ireturn, 1) := by decide +kernel
theorem dL_law_458 : decode cL_law 458 = .ok (.aload_n 1, 1) := by decide +kernel
theorem dL_law_459 : decode cL_law 459 = .ok (.invokevirtual 48, 3) := by decide +kernel
theorem dL_law_462 : decode cL_law 462 = .ok (.aload_n 2, 1) := by decide +kernel
theorem dL_law_463 : decode cL_law 463 = .ok (.invokevirtual 52, 3) := by decide +kernel
theorem dL_law_466 : decode cL_law 466 = .ok (.if_icmp .eq 205, 3) := by decide +kernel
theorem dL_law_469 : decode cL_law 469 = .ok (.iconst 0, 1) := by decide +kernel
theorem dL_law_470 : decode cL_law 470 = .ok (.ireturn, 1) := by decide +kernel
theorem dL_law_471 : decode cL_law 471 = .ok (.aload_n 1, 1) := by decide +kernel
theorem dL_law_472 : decode cL_law 472 = .ok (.aload_n 0, 1) := by decide +kernel
theorem dL_law_473 : decode cL_law 473 = .ok (.iload_n 3, 1) := by decide +kernel
theorem dL_law_474 : decode cL_law 474 = .ok (.iconst 1, 1) := by decide +kernel
theorem dL_law_475 : decode cL_law 475 = .ok (.iadd, 1) := by decide +kernel
theorem dL_law_476 : decode cL_law 476 = .ok (.iaload, 1) := by decide +kernel
theorem dL_law_477 : decode cL_law 477 = .ok (.invokevirtual 53, 3) := by decide +kernel
theorem dL_law_480 : decode cL_law 480 = .ok (.aload_n 2, 1) := by decide +kernel
theorem dL_law_481 : decode cL_law 481 = .ok (.aload_n 0, 1) := by decide +kernel
theorem dL_law_482 : decode cL_law 482 = .ok (.iload_n 3, 1) := by decide +kernel
theorem dL_law_483 : decode cL_law 483 = .ok (.iconst 1, 1) := by decide +kernel
theorem dL_law_484 : decode cL_law 484 = .ok (.iadd, 1) := by decide +kernel
theorem dL_law_485 : decode cL_law 485 = .ok (.iaload, 1) := by decide +kernel
theorem dL_law_486 : decode cL_law 486 = .ok (.invokevirtual 57, 3) := by decide +kernel
theorem dL_law_489 : decode cL_law 489 = .ok (.if_icmp .eq 182, 3) := by decide +kernel
theorem dL_law_492 : decode cL_law 492 = .ok (.iconst 0, 1) := by decide +kernel
theorem dL_law_493 : decode cL_law 493 = .ok (.ireturn, 1) := by decide +kernel
theorem dL_law_494 : decode cL_law 494 = .ok (.aload_n 1, 1) := by decide +kernel
theorem dL_law_495 : decode cL_law 495 = .ok (.aload_n 0, 1) := by decide +kernel
theorem dL_law_496 : decode cL_law 496 = .ok (.iload_n 3, 1) := by decide +kernel
theorem dL_law_497 : decode cL_law 497 = .ok (.iconst 1, 1) := by decide +kernel
theorem dL_law_498 : decode cL_law 498 = .ok (.iadd, 1) := by decide +kernel
theorem dL_law_499 : decode cL_law 499 = .ok (.iaload, 1) := by decide +kernel
theorem dL_law_500 : decode cL_law 500 = .ok (.invokevirtual 58, 3) := by decide +kernel
theorem dL_law_503 : decode cL_law 503 = .ok (.aload_n 2, 1) := by decide +kernel
theorem dL_law_504 : decode cL_law 504 = .ok (.aload_n 0, 1) := by decide +kernel
theorem dL_law_505 : decode cL_law 505 = .ok (.iload_n 3, 1) := by decide +kernel
theorem dL_law_506 : decode cL_law 506 = .ok (.iconst 1, 1) := by decide +kernel
theorem dL_law_507 : decode cL_law 507 = .ok (.iadd, 1) := by decide +kernel
theorem dL_law_508 : decode cL_law 508 = .ok (.iaload, 1) := by decide +kernel
theorem dL_law_509 : decode cL_law 509 = .ok (.invokevirtual 61, 3) := by decide +kernel
theorem dL_law_512 : decode cL_law 512 = .ok (.if_icmp .eq 159, 3) := by decide +kernel
theorem dL_law_515 : decode cL_law 515 = .ok (.iconst 0, 1) := by decide +kernel
theorem dL_law_516 : decode cL_law 516 = .ok (.ireturn, 1) := by decide +kernel
theorem dL_law_517 : decode cL_law 517 = .ok (.aload_n 1, 1) := by decide +kernel
theorem dL_law_518 : decode cL_law 518 = .ok (.invokevirtual 62, 3) := by decide +kernel
theorem dL_law_521 : decode cL_law 521 = .ok (.aload_n 2, 1) := by decide +kernel
theorem dL_law_522 : decode cL_law 522 = .ok (.invokevirtual 65, 3) := by decide +kernel
theorem dL_law_525 : decode cL_law 525 = .ok (.if_icmp .eq 146, 3) := by decide +kernel
theorem dL_law_528 : decode cL_law 528 = .ok (.iconst 0, 1) := by decide +kernel
theorem dL_law_529 : decode cL_law 529 = .ok (.ireturn, 1) := by decide +kernel
theorem dL_law_530 : decode cL_law 530 = .ok (.aload_n 1, 1) := by decide +kernel
theorem dL_law_531 : decode cL_law 531 = .ok (.aload_n 0, 1) := by decide +kernel
theorem dL_law_532 : decode cL_law 532 = .ok (.iload_n 3, 1) := by decide +kernel
theorem dL_law_533 : decode cL_law 533 = .ok (.iconst 1, 1) := by decide +kernel
theorem dL_law_534 : decode cL_law 534 = .ok (.iadd, 1) := by decide +kernel
theorem dL_law_535 : decode cL_law 535 = .ok (.iaload, 1) := by decide +kernel
theorem dL_law_536 : decode cL_law 536 = .ok (.invokevirtual 66, 3) := by decide +kernel
theorem dL_law_539 : decode cL_law 539 = .ok (.aload_n 2, 1) := by decide +kernel
theorem dL_law_540 : decode cL_law 540 = .ok (.aload_n 0, 1) := by decide +kernel
theorem dL_law_541 : decode cL_law 541 = .ok (.iload_n 3, 1) := by decide +kernel
theorem dL_law_542 : decode cL_law 542 = .ok (.iconst 1, 1) := by decide +kernel
theorem dL_law_543 : decode cL_law 543 = .ok (.iadd, 1) := by decide +kernel
theorem dL_law_544 : decode cL_law 544 = .ok (.iaload, 1) := by decide +kernel
theorem dL_law_545 : decode cL_law 545 = .ok (.invokevirtual 69, 3) := by decide +kernel
theorem dL_law_548 : decode cL_law 548 = .ok (.if_icmp .eq 123, 3) := by decide +kernel
theorem dL_law_551 : decode cL_law 551 = .ok (.iconst 0, 1) := by decide +kernel
theorem dL_law_552 : decode cL_law 552 = .ok (.ireturn, 1) := by decide +kernel
theorem dL_law_553 : decode cL_law 553 = .ok (.aload_n 1, 1) := by decide +kernel
theorem dL_law_554 : decode cL_law 554 = .ok (.aload_n 0, 1) := by decide +kernel
theorem dL_law_555 : decode cL_law 555 = .ok (.iload_n 3, 1) := by decide +kernel
theorem dL_law_556 : decode cL_law 556 = .ok (.iconst 1, 1) := by decide +kernel
theorem dL_law_557 : decode cL_law 557 = .ok (.iadd, 1) := by decide +kernel
theorem dL_law_558 : decode cL_law 558 = .ok (.iaload, 1) := by decide +kernel
theorem dL_law_559 : decode cL_law 559 = .ok (.invokevirtual 70, 3) := by decide +kernel
theorem dL_law_562 : decode cL_law 562 = .ok (.aload_n 2, 1) := by decide +kernel
theorem dL_law_563 : decode cL_law 563 = .ok (.aload_n 0, 1) := by decide +kernel
theorem dL_law_564 : decode cL_law 564 = .ok (.iload_n 3, 1) := by decide +kernel
theorem dL_law_565 : decode cL_law 565 = .ok (.iconst 1, 1) := by decide +kernel
theorem dL_law_566 : decode cL_law 566 = .ok (.iadd, 1) := by decide +kernel
theorem dL_law_567 : decode cL_law 567 = .ok (.iaload, 1) := by decide +kernel
theorem dL_law_568 : decode cL_law 568 = .ok (.invokevirtual 73, 3) := by decide +kernel
theorem dL_law_571 : decode cL_law 571 = .ok (.if_icmp .eq 100, 3) := by decide +kernel
theorem dL_law_574 : decode cL_law 574 = .ok (.iconst 0, 1) := by decide +kernel
theorem dL_law_575 : decode cL_law 575 = .ok (.ireturn, 1) := by decide +kernel
theorem dL_law_576 : decode cL_law 576 = .ok (.aload_n 1, 1) := by decide +kernel
theorem dL_law_577 : decode cL_law 577 = .ok (.aload_n 0, 1) := by decide +kernel
theorem dL_law_578 : decode cL_law 578 = .ok (.iload_n 3, 1) := by decide +kernel
theorem dL_law_579 : decode cL_law 579 = .ok (.iconst 1, 1) := by decide +kernel
theorem dL_law_580 : decode cL_law 580 = .ok (.iadd, 1) := by decide +kernel
theorem dL_law_581 : decode cL_law 581 = .ok (.iaload, 1) := by decide +kernel
theorem dL_law_582 : decode cL_law 582 = .ok (.invokevirtual 74, 3) := by decide +kernel
theorem dL_law_585 : decode cL_law 585 = .ok (.aload_n 2, 1) := by decide +kernel
theorem dL_law_586 : decode cL_law 586 = .ok (.aload_n 0, 1) := by decide +kernel
theorem dL_law_587 : decode cL_law 587 = .ok (.iload_n 3, 1) := by decide +kernel
theorem dL_law_588 : decode cL_law 588 = .ok (.iconst 1, 1) := by decide +kernel
theorem dL_law_589 : decode cL_law 589 = .ok (.iadd, 1) := by decide +kernel
theorem dL_law_590 : decode cL_law 590 = .ok (.iaload, 1) := by decide +kernel
theorem dL_law_591 : decode cL_law 591 = .ok (.invokevirtual 77, 3) := by decide +kernel
theorem dL_law_594 : decode cL_law 594 = .ok (.if_icmp .eq 77, 3) := by decide +kernel
theorem dL_law_597 : decode cL_law 597 = .ok (.iconst 0, 1) := by decide +kernel
theorem dL_law_598 : decode cL_law 598 = .ok (.ireturn, 1) := by decide +kernel
theorem dL_law_599 : decode cL_law 599 = .ok (.aload_n 1, 1) := by decide +kernel
theorem dL_law_600 : decode cL_law 600 = .ok (.aload_n 0, 1) := by decide +kernel
theorem dL_law_601 : decode cL_law 601 = .ok (.iload_n 3, 1) := by decide +kernel
theorem dL_law_602 : decode cL_law 602 = .ok (.iconst 1, 1) := by decide +kernel
theorem dL_law_603 : decode cL_law 603 = .ok (.iadd, 1) := by decide +kernel
theorem dL_law_604 : decode cL_law 604 = .ok (.iaload, 1) := by decide +kernel
theorem dL_law_605 : decode cL_law 605 = .ok (.invokevirtual 78, 3) := by decide +kernel
theorem dL_law_608 : decode cL_law 608 = .ok (.aload_n 2, 1) := by decide +kernel
theorem dL_law_609 : decode cL_law 609 = .ok (.aload_n 0, 1) := by decide +kernel
theorem dL_law_610 : decode cL_law 610 = .ok (.iload_n 3, 1) := by decide +kernel
theorem dL_law_611 : decode cL_law 611 = .ok (.iconst 1, 1) := by decide +kernel
theorem dL_law_612 : decode cL_law 612 = .ok (.iadd, 1) := by decide +kernel
theorem dL_law_613 : decode cL_law 613 = .ok (.iaload, 1) := by decide +kernel
end
section
set_option maxRecDepth 100000
theorem dL_law_614 : decode cL_law 614 = .ok (.invokevirtual 81, 3) := by decide +kernel
theorem dL_law_617 : decode cL_law 617 = .ok (.if_icmp .eq 54, 3) := by decide +kernel
theorem dL_law_620 : decode cL_law 620 = .ok (.iconst 0, 1) := by decide +kernel
theorem dL_law_621 : decode cL_law 621 = .ok (.ireturn, 1) := by decide +kernel
theorem dL_law_622 : decode cL_law 622 = .ok (.aload_n 1, 1) := by decide +kernel
theorem dL_law_623 : decode cL_law 623 = .ok (.aload_n 0, 1) := by decide +kernel
theorem dL_law_624 : decode cL_law 624 = .ok (.iload_n 3, 1) := by decide +kernel
theorem dL_law_625 : decode cL_law 625 = .ok (.iconst 1, 1) := by decide +kernel
theorem dL_law_626 : decode cL_law 626 = .ok (.iadd, 1) := by decide +kernel
theorem dL_law_627 : decode cL_law 627 = .ok (.iaload, 1) := by decide +kernel
theorem dL_law_628 : decode cL_law 628 = .ok (.invokevirtual 82, 3) := by decide +kernel
theorem dL_law_631 : decode cL_law 631 = .ok (.aload_n 2, 1) := by decide +kernel
theorem dL_law_632 : decode cL_law 632 = .ok (.aload_n 0, 1) := by decide +kernel
theorem dL_law_633 : decode cL_law 633 = .ok (.iload_n 3, 1) := by decide +kernel
theorem dL_law_634 : decode cL_law 634 = .ok (.iconst 1, 1) := by decide +kernel
theorem dL_law_635 : decode cL_law 635 = .ok (.iadd, 1) := by decide +kernel
theorem dL_law_636 : decode cL_law 636 = .ok (.iaload, 1) := by decide +kernel
theorem dL_law_637 : decode cL_law 637 = .ok (.invokevirtual 85, 3) := by decide +kernel
theorem dL_law_640 : decode cL_law 640 = .ok (.if_icmp .eq 31, 3) := by decide +kernel
theorem dL_law_643 : decode cL_law 643 = .ok (.iconst 0, 1) := by decide +kernel
theorem dL_law_644 : decode cL_law 644 = .ok (.ireturn, 1) := by decide +kernel
theorem dL_law_645 : decode cL_law 645 = .ok (.aload_n 1, 1) := by decide +kernel
theorem dL_law_646 : decode cL_law 646 = .ok (.invokevirtual 86, 3) := by decide +kernel
theorem dL_law_649 : decode cL_law 649 = .ok (.aload_n 2, 1) := by decide +kernel
theorem dL_law_650 : decode cL_law 650 = .ok (.invokevirtual 89, 3) := by decide +kernel
theorem dL_law_653 : decode cL_law 653 = .ok (.if_icmp .eq 18, 3) := by decide +kernel
theorem dL_law_656 : decode cL_law 656 = .ok (.iconst 0, 1) := by decide +kernel
theorem dL_law_657 : decode cL_law 657 = .ok (.ireturn, 1) := by decide +kernel
theorem dL_law_658 : decode cL_law 658 = .ok (.aload_n 1, 1) := by decide +kernel
theorem dL_law_659 : decode cL_law 659 = .ok (.invokevirtual 90, 3) := by decide +kernel
theorem dL_law_662 : decode cL_law 662 = .ok (.aload_n 2, 1) := by decide +kernel
theorem dL_law_663 : decode cL_law 663 = .ok (.invokevirtual 93, 3) := by decide +kernel
theorem dL_law_666 : decode cL_law 666 = .ok (.if_icmp .eq 5, 3) := by decide +kernel
theorem dL_law_669 : decode cL_law 669 = .ok (.iconst 0, 1) := by decide +kernel
theorem dL_law_670 : decode cL_law 670 = .ok (.ireturn, 1) := by decide +kernel
theorem dL_law_671 : decode cL_law 671 = .ok (.iinc 3 5, 3) := by decide +kernel
theorem dL_law_674 : decode cL_law 674 = .ok (.goto (-656), 3) := by decide +kernel
theorem dL_law_677 : decode cL_law 677 = .ok (.iconst 1, 1) := by decide +kernel
theorem dL_law_678 : decode cL_law 678 = .ok (.ireturn, 1) := by decide +kernel
theorem dJ0_init_0 : decode cJ0_init 0 = .ok (.return_, 1) := by decide +kernel
end
section
set_option maxRecDepth 100000
abbrev vwCl : List vw_C := [(RX0, TX0, 11), (RX1, TX1, 6)]
abbrev st_rm (f L : Nat) : Room := { frames := f, cells := 0, slots := 0, locals := L }
/-- the world: H holds the cells ws, they are apart and in A; outside A nothing changed since the start; the classes are known; what is new is in A -/
def wd (D : va_G) (A : Nat → Prop) (s : State) (ws : va_W) (tys : List (ClassId × FieldType)) (H : Heap) (locs : List Loc) : Prop :=
  va_P D vwCl ws H ∧ va_D A ws ∧ va_S A s.heap H locs ∧ va_K D vwCl tys s ∧ ∀ q : Nat, s.heap.size ≤ q → A q
def gP (D : va_G) (tys : List (ClassId × FieldType)) (ws : va_W) (sz : Nat) : State → Prop := fun U => U.heap.size = sz ∧ va_P D vwCl ws U.heap ∧ va_K D vwCl tys U ∧ va_D (fun _ => True) ws
def gB {S : Type} (D : va_G) (tys : List (ClassId × FieldType)) (wf : S → va_W) (A : Nat → Prop) : S → State → Prop := fun u t => va_P D vwCl (wf u) t.heap ∧ va_K D vwCl tys t ∧ va_D A (wf u)
/-- a contract over a world wf of states S, an int (or boolean) answer -/
def GMi {S : Type} (l : Launch) (y : MethodName) (b : ByteArray) (L : Nat) (rty : FieldType) (rm : Room) (a0 : Nat) (wf : S → va_W) (tys : List (ClassId × FieldType)) (D : va_G) (As : List Value) (σ : S) (post : Int32 → S → Prop) : Prop :=
  ∀ sz : Nat, Met l y (ws_ y b L (some rty)) rm (va_Pc (.ref a0 :: As) (gP D tys (wf σ) sz)) (va_Qi post (gB D tys wf (va_A (wf σ) sz)) (va_A (wf σ) sz)) 0 0 (va_A (wf σ) sz)
/-- the same, void -/
def GMv {S : Type} (l : Launch) (y : MethodName) (b : ByteArray) (L : Nat) (rm : Room) (a0 : Nat) (wf : S → va_W) (tys : List (ClassId × FieldType)) (D : va_G) (As : List Value) (σ : S) (post : S → Prop) : Prop :=
  ∀ sz : Nat, Met l y (ws_ y b L none) rm (va_Pc (.ref a0 :: As) (gP D tys (wf σ) sz)) (va_Qv post (gB D tys wf (va_A (wf σ) sz)) (va_A (wf σ) sz)) 0 0 (va_A (wf σ) sz)
set_option maxHeartbeats 4000000 in
theorem g_enter_i {S : Type} {l : Launch} {y : MethodName} {b : ByteArray} {L : Nat} {rty : FieldType} {rm : Room} {a0 : Nat} {wf : S → va_W} {tys : List (ClassId × FieldType)} {D : va_G} {As : List Value} {σ : S} {post : Int32 → S → Prop} (own : String) (hyc : y.cls = own) (hy : plainName y.cls = true) (hlen : (lg_sl (.ref a0 :: As)).length ≤ L)
    (walk : ∀ (p : Program) (e : Env) (s : State) (m : MethodId) (below : List Frame) (meth : Method) (c : Code) (A : Nat → Prop) (Q : State → Prop) (args : Array Value) (ls : Array Slot),
      CallFix p m c b L s args lw_all own → wd D A s (wf σ) tys s.heap [] → lv_has ls L (lv_args 0 (.ref a0 :: As)) →
      (∀ (H : Heap) (locs : List Loc) (pc : Nat) (ls : Array Slot) (r : Int32) (u : S), post r u → wd D A s (wf u) tys H locs → narrow rty (.int r) = .int r → decode b pc = .ok (.ireturn, 1) → W p l e rm s m args below meth c H locs 0 0 Q (F0 m pc ls [.int r])) →
      W p l e rm s m args below meth c s.heap [] 0 0 Q (F0 m 0 ls [])) : GMi l y b L rty rm a0 wf tys D As σ post := by
  intro sz
  refine Met.ofW (cc := b) (maxL := L) (ret := some rty) hy rfl ?_
  intro p e s m args below meth c s₁ B hml hv
  obtain ⟨rfl, hsz, hP, hK, hD0⟩ := hv
  have hx := B.exec
  have hb := B.bytes
  have hr := B.returns
  have hts := atoms_spec (ws := ws_ y b L (some rty)) B.pre
  have hts : ∀ w ∈ lw_all, w.before _ s = true := fun w h => hts w (List.mem_cons_of_mem _ h)
  have hown : s.vm.findClass own = some m.cls := by rw [← hyc]; exact findClass_of_methodNamed B.named
  have hlocks := B.notSynchronized
  subst hsz
  have hD := hD0.self (sz := s.heap.size)
  have hl := lv_entry (.ref a0 :: As) (n := L) hlen
  rw [lg_entry_eq]
  exact walk p e s m below meth c (va_A (wf σ) s.heap.size) _ _ _ ⟨hx, hb, hml, hown, hts⟩ ⟨hP, hD, va_S.rf, hK, fun q h => Or.inr h⟩ hl (fun H locs pc ls r u hp hw hn hdg => W.zret hx hb hr hn (fun t ht hW => ⟨⟨r, u, rfl, hp, by rw [ht]; exact hw.1, va_K.moved hW.alike hw.2.2.2.1, hw.2.1⟩, hw.2.2.1.F ht⟩) hw.2.2.1.2.2 hdg)
set_option maxHeartbeats 4000000 in
theorem g_enter_v {S : Type} {l : Launch} {y : MethodName} {b : ByteArray} {L : Nat} {rm : Room} {a0 : Nat} {wf : S → va_W} {tys : List (ClassId × FieldType)} {D : va_G} {As : List Value} {σ : S} {post : S → Prop} (own : String) (hyc : y.cls = own) (hy : plainName y.cls = true) (hlen : (lg_sl (.ref a0 :: As)).length ≤ L)
    (walk : ∀ (p : Program) (e : Env) (s : State) (m : MethodId) (below : List Frame) (meth : Method) (c : Code) (A : Nat → Prop) (Q : State → Prop) (args : Array Value) (ls : Array Slot),
      CallFix p m c b L s args lw_all own → wd D A s (wf σ) tys s.heap [] → lv_has ls L (lv_args 0 (.ref a0 :: As)) →
      (∀ (H : Heap) (locs : List Loc) (pc : Nat) (ls : Array Slot) (u : S), post u → wd D A s (wf u) tys H locs → decode b pc = .ok (.return_, 1) → W p l e rm s m args below meth c H locs 0 0 Q (F0 m pc ls [])) →
      W p l e rm s m args below meth c s.heap [] 0 0 Q (F0 m 0 ls [])) : GMv l y b L rm a0 wf tys D As σ post := by
  intro sz
  refine Met.ofW (cc := b) (maxL := L) (ret := none) hy rfl ?_
  intro p e s m args below meth c s₁ B hml hv
  obtain ⟨rfl, hsz, hP, hK, hD0⟩ := hv
  have hx := B.exec
  have hb := B.bytes
  have hr := B.returns
  have hts := atoms_spec (ws := ws_ y b L none) B.pre
  have hts : ∀ w ∈ lw_all, w.before _ s = true := fun w h => hts w (List.mem_cons_of_mem _ h)
  have hown : s.vm.findClass own = some m.cls := by rw [← hyc]; exact findClass_of_methodNamed B.named
  have hlocks := B.notSynchronized
  subst hsz
  have hD := hD0.self (sz := s.heap.size)
  have hl := lv_entry (.ref a0 :: As) (n := L) hlen
  rw [lg_entry_eq]
  exact walk p e s m below meth c (va_A (wf σ) s.heap.size) _ _ _ ⟨hx, hb, hml, hown, hts⟩ ⟨hP, hD, va_S.rf, hK, fun q h => Or.inr h⟩ hl (fun H locs pc ls u hp hw hdg => W.vret hx hb hr (fun t ht hW => ⟨⟨u, rfl, hp, by rw [ht]; exact hw.1, va_K.moved hW.alike hw.2.2.2.1, hw.2.1⟩, hw.2.2.1.F ht⟩) hw.2.2.1.2.2 hdg)
theorem wd_free {D : va_G} {A : Nat → Prop} {s : State} {ws : va_W} {tys : List (ClassId × FieldType)} {H : Heap} {locs : List Loc} (w : wd D A s ws tys H locs) : ∀ q : Nat, va_A ws H.size q → A q := by
  intro q h
  rcases h with ⟨k, e, hk⟩ | h
  · exact w.2.1.2 k (q, e) hk
  · exact w.2.2.2.2 q (Nat.le_trans w.2.2.1.1 h)
theorem gP_blind {D : va_G} {tys : List (ClassId × FieldType)} {ws : va_W} {sz : Nat} {av : List Value} : FrameBlind (va_Pc av (gP D tys ws sz)) := by
  intro a U g mk q
  obtain ⟨q0, q1, qP, qK, qD⟩ := q
  exact ⟨q0, q1, qP, va_K.moved (u := U) (U := U.calling g mk a) (Vm.Alike.refl U.vm) qK, qD⟩
section FR
variable {p : Program} {l : Launch} {e : Env} {R : Room} {s : State} {m : MethodId} {args : Array Value} {below : List Frame} {meth : Method} {c : Code} {H : Heap} {locs : List Loc} {cells slots : Nat} {Q : State → Prop}
variable {cc : ByteArray} {pc nL : Nat} {ls : Array Slot} {rest st : List Value} {own Cn : String}
set_option maxHeartbeats 4000000 in
theorem g_calli {S : Type} {wf : S → va_W} {tys : List (ClassId × FieldType)} {D : va_G} {A : Nat → Prop} {As : List Value} {σ : S} {post : Int32 → S → Prop} {y : MethodName} {b : ByteArray} {L a0 ci index n : Nat} {rty : FieldType} {rm : Room} {q : vw_C} {fs : List Value}
    (C : CallFix p m c cc nL s args lw_all own) (w : wd D A s (wf σ) tys H locs) (hM : GMi l y b L rty rm a0 wf tys D As σ post) (hc : vwCl[ci]? = some q) (hq : q.1 = Cn) (he : (wf σ)[0]? = some (a0, .inr (ci, fs)))
    (hlk : Cond.methodLink own index y ∈ lw_all) (hin : Cond.instanceMethod y ∈ lw_all) (hsel : Cond.selects Cn y y ∈ lw_all) (hini : Cond.initialized Cn ∈ lw_all) (hcode : Cond.code y b L (some rty) ∈ lw_all)
    (hd : y.cls = Cn ∧ y.cls ≠ "java/lang/invoke/MethodHandle" ∧ y.cls ≠ "java/lang/invoke/VarHandle" ∧ (parseMethodDescriptor y.desc).map (fun d => d.parameters.length) = some n) (hn : As.length = n)
    (hrm : rm.cells = 0 ∧ rm.slots = 0) (hR : rm.frames + 1 ≤ R.frames ∧ 8 + (L + 11) + rm.locals ≤ R.locals) (hcs : cells ≤ R.cells ∧ slots ≤ R.slots)
    (hst : st = As.reverse ++ .ref a0 :: rest) (hls : ls.size = nL) (hW : (rest.map fun v => v.category).sum ≤ 8) (hdg : decode cc pc = .ok (.invokevirtual index, 3))
    (kk : ∀ (r : Int32) (u : S) (H1 : Heap) (locs1 : List Loc), post r u → wd D A s (wf u) tys H1 locs1 → W p l e R s m args below meth c H1 locs1 cells slots Q (F0 m (pc + 3) ls (.int r :: rest))) :
    W p l e R s m args below meth c H locs cells slots Q (F0 m pc ls st) := by
  have hFc := wd_free w
  subst hst
  subst hq
  refine va_calli (va_runV (As := As) (rest := rest) C (hM H.size) (cwV n C.2.2.2.2 (lw_V hlk hin hsel hini hcode) rfl hrm.1 hrm.2 hd hR) ⟨gP_blind, va_recv w.2.2.2.1 w.1 (ci := ci) (q0 := 0) hc he, fun U hU hW => ⟨rfl, by rw [hU], by rw [hU]; exact w.1, va_K.moved hW.alike w.2.2.2.1, w.2.1.weaken (fun _ _ _ _ => trivial)⟩⟩ rfl hn hls rfl (lv_room hW) hdg ⟨hcs.1, hcs.2⟩) w.2.2.1 (fun q _ h => hFc q h) hFc (fun r u t H1 locs1 ht hvm hw1 hB hz1 hk1 hS => ?_)
  obtain ⟨hP1, hK1, hD1⟩ := hB
  rw [ht] at hP1
  exact kk r u H1 locs1 hw1 ⟨hP1, hD1.weaken (fun _ q _ h => hFc q.1 h), hS, w.2.2.2.1, w.2.2.2.2⟩
set_option maxHeartbeats 4000000 in
theorem g_callv {S : Type} {wf : S → va_W} {tys : List (ClassId × FieldType)} {D : va_G} {A : Nat → Prop} {As : List Value} {σ : S} {post : S → Prop} {y : MethodName} {b : ByteArray} {L a0 ci index n : Nat} {rm : Room} {q : vw_C} {fs : List Value}
    (C : CallFix p m c cc nL s args lw_all own) (w : wd D A s (wf σ) tys H locs) (hM : GMv l y b L rm a0 wf tys D As σ post) (hc : vwCl[ci]? = some q) (hq : q.1 = Cn) (he : (wf σ)[0]? = some (a0, .inr (ci, fs)))
    (hlk : Cond.methodLink own index y ∈ lw_all) (hin : Cond.instanceMethod y ∈ lw_all) (hsel : Cond.selects Cn y y ∈ lw_all) (hini : Cond.initialized Cn ∈ lw_all) (hcode : Cond.code y b L none ∈ lw_all)
    (hd : y.cls = Cn ∧ y.cls ≠ "java/lang/invoke/MethodHandle" ∧ y.cls ≠ "java/lang/invoke/VarHandle" ∧ (parseMethodDescriptor y.desc).map (fun d => d.parameters.length) = some n) (hn : As.length = n)
    (hrm : rm.cells = 0 ∧ rm.slots = 0) (hR : rm.frames + 1 ≤ R.frames ∧ 8 + (L + 11) + rm.locals ≤ R.locals) (hcs : cells ≤ R.cells ∧ slots ≤ R.slots)
    (hst : st = As.reverse ++ .ref a0 :: rest) (hls : ls.size = nL) (hW : (rest.map fun v => v.category).sum ≤ 8) (hdg : decode cc pc = .ok (.invokevirtual index, 3))
    (kk : ∀ (u : S) (H1 : Heap) (locs1 : List Loc), post u → wd D A s (wf u) tys H1 locs1 → W p l e R s m args below meth c H1 locs1 cells slots Q (F0 m (pc + 3) ls rest)) :
    W p l e R s m args below meth c H locs cells slots Q (F0 m pc ls st) := by
  have hFc := wd_free w
  subst hst
  subst hq
  refine va_callv (va_runV (As := As) (rest := rest) C (hM H.size) (cwV n C.2.2.2.2 (lw_V hlk hin hsel hini hcode) rfl hrm.1 hrm.2 hd hR) ⟨gP_blind, va_recv w.2.2.2.1 w.1 (ci := ci) (q0 := 0) hc he, fun U hU hW => ⟨rfl, by rw [hU], by rw [hU]; exact w.1, va_K.moved hW.alike w.2.2.2.1, w.2.1.weaken (fun _ _ _ _ => trivial)⟩⟩ rfl hn hls rfl (lv_room hW) hdg ⟨hcs.1, hcs.2⟩) w.2.2.1 (fun q _ h => hFc q h) hFc (fun u t H1 locs1 ht hvm hw1 hB hz1 hk1 hS => ?_)
  obtain ⟨hP1, hK1, hD1⟩ := hB
  rw [ht] at hP1
  exact kk u H1 locs1 hw1 ⟨hP1, hD1.weaken (fun _ q _ h => hFc q.1 h), hS, w.2.2.2.1, w.2.2.2.2⟩
/-- the top int under another name -/
theorem n_top {x y : Int32} (h : x = y) (k : W p l e R s m args below meth c H locs cells slots Q (F0 m pc ls (.int y :: rest))) : W p l e R s m args below meth c H locs cells slots Q (F0 m pc ls (.int x :: rest)) := by
  rw [h]; exact k
theorem n_iadd (hx : p.tables.exec = Jvm.exec) (hb : c.code = cc) {a b : Nat} (hdg : decode cc pc = .ok (.iadd, 1)) (k : W p l e R s m args below meth c H locs cells slots Q (F0 m (pc + 1) ls (.int (nI (a + b)) :: rest))) : W p l e R s m args below meth c H locs cells slots Q (F0 m pc ls (.int (nI b) :: .int (nI a) :: rest)) :=
  lv_iadd hx hb hdg (n_top (nI_add a b) k)
theorem n_isub (hx : p.tables.exec = Jvm.exec) (hb : c.code = cc) {a b : Nat} (h : b ≤ a) (hdg : decode cc pc = .ok (.isub, 1)) (k : W p l e R s m args below meth c H locs cells slots Q (F0 m (pc + 1) ls (.int (nI (a - b)) :: rest))) : W p l e R s m args below meth c H locs cells slots Q (F0 m pc ls (.int (nI b) :: .int (nI a) :: rest)) :=
  lv_isub hx hb hdg (n_top (pk_sub h) k)
theorem n_icmp_ge (hx : p.tables.exec = Jvm.exec) (hb : c.code = cc) {a b : Nat} {off : Int} {tgt : Nat} (hdg : decode cc pc = .ok (.if_icmp .ge off, 3)) (ht : (pc : Int) + off = (tgt : Int)) (h1 : a < 2147483648) (h2 : b < 2147483648) (kt : b ≤ a → W p l e R s m args below meth c H locs cells slots Q (F0 m tgt ls rest)) (kf : a < b → W p l e R s m args below meth c H locs cells slots Q (F0 m (pc + 3) ls rest)) : W p l e R s m args below meth c H locs cells slots Q (F0 m pc ls (.int (nI b) :: .int (nI a) :: rest)) :=
  lv_icmp_ge hx hb hdg ht (fun q => kt ((nI_leI h2 h1).mp q)) (fun q => kf (Nat.lt_of_not_le fun z => q ((nI_leI h2 h1).mpr z)))
theorem n_icmp_lt (hx : p.tables.exec = Jvm.exec) (hb : c.code = cc) {a b : Nat} {off : Int} {tgt : Nat} (hdg : decode cc pc = .ok (.if_icmp .lt off, 3)) (ht : (pc : Int) + off = (tgt : Int)) (h1 : a < 2147483648) (h2 : b < 2147483648) (kt : a < b → W p l e R s m args below meth c H locs cells slots Q (F0 m tgt ls rest)) (kf : b ≤ a → W p l e R s m args below meth c H locs cells slots Q (F0 m (pc + 3) ls rest)) : W p l e R s m args below meth c H locs cells slots Q (F0 m pc ls (.int (nI b) :: .int (nI a) :: rest)) :=
  lv_icmp_lt hx hb hdg ht (fun q => kt ((nI_ltI h1 h2).mp q)) (fun q => kf (Nat.le_of_not_lt fun z => q ((nI_ltI h1 h2).mpr z)))
theorem n_icmp_gt (hx : p.tables.exec = Jvm.exec) (hb : c.code = cc) {a b : Nat} {off : Int} {tgt : Nat} (hdg : decode cc pc = .ok (.if_icmp .gt off, 3)) (ht : (pc : Int) + off = (tgt : Int)) (h1 : a < 2147483648) (h2 : b < 2147483648) (kt : b < a → W p l e R s m args below meth c H locs cells slots Q (F0 m tgt ls rest)) (kf : a ≤ b → W p l e R s m args below meth c H locs cells slots Q (F0 m (pc + 3) ls rest)) : W p l e R s m args below meth c H locs cells slots Q (F0 m pc ls (.int (nI b) :: .int (nI a) :: rest)) :=
  lv_icmp_gt hx hb hdg ht (fun q => kt ((nI_ltI h2 h1).mp q)) (fun q => kf (Nat.le_of_not_lt fun z => q ((nI_ltI h2 h1).mpr z)))
theorem n_icmp_le (hx : p.tables.exec = Jvm.exec) (hb : c.code = cc) {a b : Nat} {off : Int} {tgt : Nat} (hdg : decode cc pc = .ok (.if_icmp .le off, 3)) (ht : (pc : Int) + off = (tgt : Int)) (h1 : a < 2147483648) (h2 : b < 2147483648) (kt : a ≤ b → W p l e R s m args below meth c H locs cells slots Q (F0 m tgt ls rest)) (kf : b < a → W p l e R s m args below meth c H locs cells slots Q (F0 m (pc + 3) ls rest)) : W p l e R s m args below meth c H locs cells slots Q (F0 m pc ls (.int (nI b) :: .int (nI a) :: rest)) :=
  lv_icmp_le hx hb hdg ht (fun q => kt ((nI_leI h1 h2).mp q)) (fun q => kf (Nat.lt_of_not_le fun z => q ((nI_leI h1 h2).mpr z)))
theorem n_icmp_ne (hx : p.tables.exec = Jvm.exec) (hb : c.code = cc) {a b : Nat} {off : Int} {tgt : Nat} (hdg : decode cc pc = .ok (.if_icmp .ne off, 3)) (ht : (pc : Int) + off = (tgt : Int)) (h1 : a < 2147483648) (h2 : b < 2147483648) (kt : a ≠ b → W p l e R s m args below meth c H locs cells slots Q (F0 m tgt ls rest)) (kf : a = b → W p l e R s m args below meth c H locs cells slots Q (F0 m (pc + 3) ls rest)) : W p l e R s m args below meth c H locs cells slots Q (F0 m pc ls (.int (nI b) :: .int (nI a) :: rest)) :=
  lv_icmp_ne hx hb hdg ht (fun q => kt (fun z => q ((nI_eq h1 h2).mpr z))) (fun q => kf ((nI_eq h1 h2).mp q))
theorem n_icmp_eq (hx : p.tables.exec = Jvm.exec) (hb : c.code = cc) {a b : Nat} {off : Int} {tgt : Nat} (hdg : decode cc pc = .ok (.if_icmp .eq off, 3)) (ht : (pc : Int) + off = (tgt : Int)) (h1 : a < 2147483648) (h2 : b < 2147483648) (kt : a = b → W p l e R s m args below meth c H locs cells slots Q (F0 m tgt ls rest)) (kf : a ≠ b → W p l e R s m args below meth c H locs cells slots Q (F0 m (pc + 3) ls rest)) : W p l e R s m args below meth c H locs cells slots Q (F0 m pc ls (.int (nI b) :: .int (nI a) :: rest)) :=
  lv_icmp_eq hx hb hdg ht (fun q => kt ((nI_eq h1 h2).mp q)) (fun q => kf (fun z => q ((nI_eq h1 h2).mpr z)))
theorem n_if_ne (hx : p.tables.exec = Jvm.exec) (hb : c.code = cc) {a : Nat} {off : Int} {tgt : Nat} (hdg : decode cc pc = .ok (.ifCond .ne off, 3)) (ht : (pc : Int) + off = (tgt : Int)) (h1 : a < 2147483648) (kt : a ≠ 0 → W p l e R s m args below meth c H locs cells slots Q (F0 m tgt ls rest)) (kf : a = 0 → W p l e R s m args below meth c H locs cells slots Q (F0 m (pc + 3) ls rest)) : W p l e R s m args below meth c H locs cells slots Q (F0 m pc ls (.int (nI a) :: rest)) :=
  lv_if_ne hx hb hdg ht (fun q => kt (fun z => q ((nI_eq h1 (by decide)).mpr z))) (fun q => kf ((nI_eq h1 (by decide)).mp q))
theorem n_if_eq (hx : p.tables.exec = Jvm.exec) (hb : c.code = cc) {a : Nat} {off : Int} {tgt : Nat} (hdg : decode cc pc = .ok (.ifCond .eq off, 3)) (ht : (pc : Int) + off = (tgt : Int)) (h1 : a < 2147483648) (kt : a = 0 → W p l e R s m args below meth c H locs cells slots Q (F0 m tgt ls rest)) (kf : a ≠ 0 → W p l e R s m args below meth c H locs cells slots Q (F0 m (pc + 3) ls rest)) : W p l e R s m args below meth c H locs cells slots Q (F0 m pc ls (.int (nI a) :: rest)) :=
  lv_if_eq hx hb hdg ht (fun q => kt ((nI_eq h1 (by decide)).mp q)) (fun q => kf (fun z => q ((nI_eq h1 (by decide)).mpr z)))
theorem n_if_le (hx : p.tables.exec = Jvm.exec) (hb : c.code = cc) {a : Nat} {off : Int} {tgt : Nat} (hdg : decode cc pc = .ok (.ifCond .le off, 3)) (ht : (pc : Int) + off = (tgt : Int)) (h1 : a < 2147483648) (kt : a = 0 → W p l e R s m args below meth c H locs cells slots Q (F0 m tgt ls rest)) (kf : 0 < a → W p l e R s m args below meth c H locs cells slots Q (F0 m (pc + 3) ls rest)) : W p l e R s m args below meth c H locs cells slots Q (F0 m pc ls (.int (nI a) :: rest)) :=
  lv_if_le hx hb hdg ht (fun q => kt (Nat.le_zero.mp ((nI_leI h1 (b := 0) (by decide)).mp q))) (fun q => kf (Nat.lt_of_not_le fun z => q ((nI_leI h1 (b := 0) (by decide)).mpr z)))
theorem n_inc (a : Nat) : nI a + Int32.ofInt 1 = nI (a + 1) := nI_1 a
theorem n_dec (a : Nat) : nI a + Int32.ofInt (-1) = nI a - nI 1 := by
  rw [Int32.sub_eq_add_neg]; rfl
theorem n_decn {a : Nat} (h : 0 < a) : nI a + Int32.ofInt (-1) = nI (a - 1) := by
  rw [← sb_m1 h]; rfl
theorem dn_succ (a : Nat) : nI (a + 1) - nI 1 = nI a := pk_sub (a := a + 1) (b := 1) (by omega)
theorem dn_toInt {j : Nat} (hj : j < 2147483648) : (nI j - nI 1).toInt = (j : Int) - 1 := by
  rcases j with _ | j
  · decide
  · rw [dn_succ, nI_toInt (by omega)]; omega
theorem dn_ltI {j q : Nat} (hj : j < 2147483648) (hq : q < 2147483648) : (nI j - nI 1 < nI q) ↔ j ≤ q := by
  rw [Int32.lt_iff_toInt_lt, dn_toInt hj, nI_toInt hq]; omega
theorem dn_leI {j : Nat} (hj : j < 2147483648) : (nI j - nI 1 ≤ 0) ↔ j ≤ 1 := by
  rw [Int32.le_iff_toInt_le, dn_toInt hj]
  show (j : Int) - 1 ≤ 0 ↔ j ≤ 1
  omega
theorem d_icmp_lt (hx : p.tables.exec = Jvm.exec) (hb : c.code = cc) {a b : Nat} {off : Int} {tgt : Nat} (hdg : decode cc pc = .ok (.if_icmp .lt off, 3)) (ht : (pc : Int) + off = (tgt : Int)) (h1 : a < 2147483648) (h2 : b < 2147483648) (kt : a ≤ b → W p l e R s m args below meth c H locs cells slots Q (F0 m tgt ls rest)) (kf : b < a → W p l e R s m args below meth c H locs cells slots Q (F0 m (pc + 3) ls rest)) : W p l e R s m args below meth c H locs cells slots Q (F0 m pc ls (.int (nI b) :: .int (nI a - nI 1) :: rest)) :=
  lv_icmp_lt hx hb hdg ht (fun q => kt ((dn_ltI h1 h2).mp q)) (fun q => kf (Nat.lt_of_not_le fun z => q ((dn_ltI h1 h2).mpr z)))
theorem d_if_le (hx : p.tables.exec = Jvm.exec) (hb : c.code = cc) {a : Nat} {off : Int} {tgt : Nat} (hdg : decode cc pc = .ok (.ifCond .le off, 3)) (ht : (pc : Int) + off = (tgt : Int)) (h1 : a < 2147483648) (kt : a ≤ 1 → W p l e R s m args below meth c H locs cells slots Q (F0 m tgt ls rest)) (kf : 1 < a → W p l e R s m args below meth c H locs cells slots Q (F0 m (pc + 3) ls rest)) : W p l e R s m args below meth c H locs cells slots Q (F0 m pc ls (.int (nI a - nI 1) :: rest)) :=
  lv_if_le hx hb hdg ht (fun q => kt ((dn_leI h1).mp q)) (fun q => kf (Nat.lt_of_not_le fun z => q ((dn_leI h1).mpr z)))
end FR
def updN (f : Nat → Nat) (k x : Nat) : Nat → Nat := fun j => if j = k then x else f j
theorem updN_nI (f : Nat → Nat) (k x : Nat) : upd (fun j => nI (f j)) k (nI x) = fun j => nI (updN f k x j) := by
  funext j
  unfold upd updN
  split <;> rfl
end
section
set_option maxRecDepth 100000
/-- StyledText: n, gap, count, flagAt, held, begun; cell, size, look, heldLetter, heldStyle -/
abbrev XS : Type := Nat × Nat × Nat × Nat × Nat × Nat × (Nat → Int32) × (Nat → Nat) × (Nat → Int32) × (Nat → Int32) × (Nat → Int32)
def xf (ad : Nat → Nat) (σ : XS) : List Value := [.int (nI σ.1), .int (nI σ.2.1), .ref (ad 1), .int (nI σ.2.2.1), .ref (ad 2), .ref (ad 3), .int (nI σ.2.2.2.1), .int (nI σ.2.2.2.2.1), .ref (ad 4), .ref (ad 5), .int (nI σ.2.2.2.2.2.1)]
def xw (ad : Nat → Nat) (ca : Nat → ClassId) (σ : XS) : va_W := [(ad 0, .inr (0, xf ad σ)), (ad 1, .inl (ca 0, 64, .inl σ.2.2.2.2.2.2.1)), (ad 2, .inl (ca 1, 68, .inl (fun j => nI (σ.2.2.2.2.2.2.2.1 j)))), (ad 3, .inl (ca 2, 68, .inl σ.2.2.2.2.2.2.2.2.1)), (ad 4, .inl (ca 3, 64, .inl σ.2.2.2.2.2.2.2.2.2.1)), (ad 5, .inl (ca 4, 64, .inl σ.2.2.2.2.2.2.2.2.2.2))]
def xt (ca : Nat → ClassId) : List (ClassId × FieldType) := [(ca 0, .int), (ca 1, .int), (ca 2, .int), (ca 3, .int), (ca 4, .int)]
/-- StyledTextModel: n, flag; letters, styles, keptLetters, keptStyles -/
abbrev MS : Type := Nat × Nat × (Nat → Int32) × (Nat → Int32) × (Nat → Int32) × (Nat → Int32)
def mf (ad : Nat → Nat) (τ : MS) : List Value := [.ref (ad 1), .ref (ad 2), .int (nI τ.1), .int (nI τ.2.1), .ref (ad 3), .ref (ad 4)]
def mw (ad : Nat → Nat) (ca : Nat → ClassId) (τ : MS) : va_W := [(ad 0, .inr (1, mf ad τ)), (ad 1, .inl (ca 0, 64, .inl τ.2.2.1)), (ad 2, .inl (ca 1, 64, .inl τ.2.2.2.1)), (ad 3, .inl (ca 2, 64, .inl τ.2.2.2.2.1)), (ad 4, .inl (ca 3, 64, .inl τ.2.2.2.2.2))]
def mt (ca : Nat → ClassId) : List (ClassId × FieldType) := [(ca 0, .int), (ca 1, .int), (ca 2, .int), (ca 3, .int)]
def XMi (l : Launch) (y : MethodName) (b : ByteArray) (L : Nat) (rty : FieldType) (rm : Room) (As : List Value) (σ : XS) (post : Int32 → XS → Prop) : Prop := ∀ (D : va_G) (ad : Nat → Nat) (ca : Nat → ClassId), GMi l y b L rty rm (ad 0) (xw ad ca) (xt ca) D As σ post
def XMv (l : Launch) (y : MethodName) (b : ByteArray) (L : Nat) (rm : Room) (As : List Value) (σ : XS) (post : XS → Prop) : Prop := ∀ (D : va_G) (ad : Nat → Nat) (ca : Nat → ClassId), GMv l y b L rm (ad 0) (xw ad ca) (xt ca) D As σ post
def MMi (l : Launch) (y : MethodName) (b : ByteArray) (L : Nat) (rty : FieldType) (rm : Room) (As : List Value) (σ : MS) (post : Int32 → MS → Prop) : Prop := ∀ (D : va_G) (ad : Nat → Nat) (ca : Nat → ClassId), GMi l y b L rty rm (ad 0) (mw ad ca) (mt ca) D As σ post
def MMv (l : Launch) (y : MethodName) (b : ByteArray) (L : Nat) (rm : Room) (As : List Value) (σ : MS) (post : MS → Prop) : Prop := ∀ (D : va_G) (ad : Nat → Nat) (ca : Nat → ClassId), GMv l y b L rm (ad 0) (mw ad ca) (mt ca) D As σ post
section WR
variable {p : Program} {l : Launch} {e : Env} {R : Room} {s : State} {m : MethodId} {args : Array Value} {below : List Frame} {meth : Method} {c : Code} {H : Heap} {locs : List Loc} {cells slots : Nat} {Q : State → Prop}
variable {cc : ByteArray} {pc nL : Nat} {ls : Array Slot} {rest st : List Value} {D : va_G} {A : Nat → Prop} {ad : Nat → Nat} {ca : Nat → ClassId}
theorem x_get {σ : XS} (C : CallFix p m c cc nL s args lw_all RX0) (w : wd D A s (xw ad ca σ) (xt ca) H locs) {index : Nat} (k : Nat) {v : Value} (hlink : Cond.fieldLink RX0 index (TX0 k).1 (TX0 k).2.1 (TX0 k).2.2.1 ∈ lw_all) (hk : k < 11) (hv : (xf ad σ)[k]? = some v) (hdg : decode cc pc = .ok (.getfield index, 3)) (kk : W p l e R s m args below meth c H locs cells slots Q (F0 m (pc + 3) ls (v :: rest))) : W p l e R s m args below meth c H locs cells slots Q (F0 m pc ls (.ref (ad 0) :: rest)) :=
  va_get (D := D) (ci := 0) (C := RX0) (T := TX0) (N := 11) (ref := (TX0 k).1) C.1 C.2.1 C.2.2.2.2 in_X0 C.2.2.2.1 w.2.2.2.1 w.1 0 rfl rfl k hk (C.2.2.2.2 _ hlink) (fun _ h9 => h9) hv hdg kk
theorem x_put {σ : XS} (C : CallFix p m c cc nL s args lw_all RX0) (w : wd D A s (xw ad ca σ) (xt ca) H locs) {index : Nat} (k : Nat) {v : Nat} (σ' : XS) (hlink : Cond.fieldLink RX0 index (TX0 k).1 (TX0 k).2.1 (TX0 k).2.2.1 ∈ lw_all) (hk : k < 11) (hfin : (TX0 k).2.2.2 = false) (hty : tyX0 k = .int) (he : xw ad ca σ' = (xw ad ca σ).set 0 (ad 0, .inr (0, (xf ad σ).set k (.int (nI v))))) (hdg : decode cc pc = .ok (.putfield index, 3)) (kk : ∀ (H1 : Heap) (locs1 : List Loc), wd D A s (xw ad ca σ') (xt ca) H1 locs1 → W p l e R s m args below meth c H1 locs1 cells slots Q (F0 m (pc + 3) ls rest)) : W p l e R s m args below meth c H locs cells slots Q (F0 m pc ls (.int (nI v) :: .ref (ad 0) :: rest)) := by
  refine va_put (D := D) (ci := 0) (v := .int (nI v)) (ty := .int) (C := RX0) (T := TX0) (N := 11) (ref := (TX0 k).1) C.1 C.2.1 C.2.2.2.2 in_X0 tyX0 tyX0_ok nmX0 C.2.2.2.1 w.2.2.2.1 w.1 w.2.1 w.2.2.1 0 rfl rfl k hk (C.2.2.2.2 _ hlink) (fun _ h9 => h9) hfin ((tyX0_ok k hk).trans (congrArg some hty)) rfl rfl hk hdg (fun H1 locs1 hP hD hS => ?_)
  exact kk H1 locs1 ⟨by rw [he]; exact hP, by rw [he]; exact hD, hS, w.2.2.2.1, w.2.2.2.2⟩
theorem x_ld {σ : XS} (C : CallFix p m c cc nL s args lw_all RX0) (w : wd D A s (xw ad ca σ) (xt ca) H locs) (j : Nat) {n : Nat} {f : Nat → Int32} {i : Nat} (hj : (xw ad ca σ)[j + 1]? = some (ad (j + 1), .inl (ca j, n, .inl f))) (ht : (xt ca)[j]? = some (ca j, .int)) (hi : i < n) (hn : n < 2147483648) (hdg : decode cc pc = .ok (.iaload, 1)) (kk : W p l e R s m args below meth c H locs cells slots Q (F0 m (pc + 1) ls (.int (f i) :: rest))) : W p l e R s m args below meth c H locs cells slots Q (F0 m pc ls (.int (nI i) :: .ref (ad (j + 1)) :: rest)) := by
  refine va_iald (n := n) (f := f) C.1 C.2.1 w.2.2.2.1 w.1 (j + 1) j hj ht (vp_in_nI hi hn) hdg ?_
  rw [nI_clamp (Nat.lt_trans hi hn)]
  exact kk
theorem x_st {σ : XS} (C : CallFix p m c cc nL s args lw_all RX0) (w : wd D A s (xw ad ca σ) (xt ca) H locs) (j : Nat) {n : Nat} {f : Nat → Int32} {i : Nat} {x : Int32} (σ' : XS) (hj : (xw ad ca σ)[j + 1]? = some (ad (j + 1), .inl (ca j, n, .inl f))) (ht : (xt ca)[j]? = some (ca j, .int)) (hi : i < n) (hn : n < 2147483648) (he : xw ad ca σ' = (xw ad ca σ).set (j + 1) (ad (j + 1), .inl (ca j, n, .inl (upd f i x)))) (hdg : decode cc pc = .ok (.iastore, 1)) (kk : ∀ (H1 : Heap) (locs1 : List Loc), wd D A s (xw ad ca σ') (xt ca) H1 locs1 → W p l e R s m args below meth c H1 locs1 cells slots Q (F0 m (pc + 1) ls rest)) : W p l e R s m args below meth c H locs cells slots Q (F0 m pc ls (.int x :: .int (nI i) :: .ref (ad (j + 1)) :: rest)) := by
  refine va_iast (n := n) (f := f) C.1 C.2.1 w.2.2.2.1 w.1 w.2.1 w.2.2.1 (j + 1) j hj ht (vp_in_nI hi hn) hdg (fun H1 locs1 hP hD hS => ?_)
  rw [nI_clamp (Nat.lt_trans hi hn)] at hP hD
  exact kk H1 locs1 ⟨by rw [he]; exact hP, by rw [he]; exact hD, hS, w.2.2.2.1, w.2.2.2.2⟩
theorem x_stN {σ : XS} (C : CallFix p m c cc nL s args lw_all RX0) (w : wd D A s (xw ad ca σ) (xt ca) H locs) {i v : Nat} (σ' : XS) {f : Nat → Nat} (hf : (xw ad ca σ)[2]? = some (ad 2, .inl (ca 1, 68, .inl (fun j => nI (f j))))) (hi : i < 68) (he : xw ad ca σ' = (xw ad ca σ).set 2 (ad 2, .inl (ca 1, 68, .inl (fun j => nI (updN f i v j))))) (hdg : decode cc pc = .ok (.iastore, 1)) (kk : ∀ (H1 : Heap) (locs1 : List Loc), wd D A s (xw ad ca σ') (xt ca) H1 locs1 → W p l e R s m args below meth c H1 locs1 cells slots Q (F0 m (pc + 1) ls rest)) : W p l e R s m args below meth c H locs cells slots Q (F0 m pc ls (.int (nI v) :: .int (nI i) :: .ref (ad 2) :: rest)) :=
  x_st C w 1 (f := fun j => nI (f j)) σ' hf rfl hi (by decide) (by rw [updN_nI]; exact he) hdg kk
theorem x_calli {σ : XS} {y : MethodName} {b : ByteArray} {L index n : Nat} {rty : FieldType} {rm : Room} {As : List Value} {post : Int32 → XS → Prop} (C : CallFix p m c cc nL s args lw_all RX0) (w : wd D A s (xw ad ca σ) (xt ca) H locs) (hM : XMi l y b L rty rm As σ post) (hlk : Cond.methodLink RX0 index y ∈ lw_all) (hin : Cond.instanceMethod y ∈ lw_all) (hsel : Cond.selects RX0 y y ∈ lw_all) (hcode : Cond.code y b L (some rty) ∈ lw_all) (hyc : y.cls = RX0) (hd : (parseMethodDescriptor y.desc).map (fun d => d.parameters.length) = some n) (hn : As.length = n) (hrm : rm.cells = 0 ∧ rm.slots = 0) (hR : rm.frames + 1 ≤ R.frames ∧ 8 + (L + 11) + rm.locals ≤ R.locals) (hcs : cells ≤ R.cells ∧ slots ≤ R.slots) (hst : st = As.reverse ++ .ref (ad 0) :: rest) (hls : ls.size = nL) (hW : (rest.map fun v => v.category).sum ≤ 8) (hdg : decode cc pc = .ok (.invokevirtual index, 3)) (kk : ∀ (r : Int32) (u : XS) (H1 : Heap) (locs1 : List Loc), post r u → wd D A s (xw ad ca u) (xt ca) H1 locs1 → W p l e R s m args below meth c H1 locs1 cells slots Q (F0 m (pc + 3) ls (.int r :: rest))) : W p l e R s m args below meth c H locs cells slots Q (F0 m pc ls st) :=
  g_calli C w (hM D ad ca) (ci := 0) (q := (RX0, TX0, 11)) rfl rfl rfl hlk hin hsel q29 hcode ⟨hyc, by rw [hyc]; decide +kernel, by rw [hyc]; decide +kernel, hd⟩ hn hrm hR hcs hst hls hW hdg kk
theorem x_callv {σ : XS} {y : MethodName} {b : ByteArray} {L index n : Nat} {rm : Room} {As : List Value} {post : XS → Prop} (C : CallFix p m c cc nL s args lw_all RX0) (w : wd D A s (xw ad ca σ) (xt ca) H locs) (hM : XMv l y b L rm As σ post) (hlk : Cond.methodLink RX0 index y ∈ lw_all) (hin : Cond.instanceMethod y ∈ lw_all) (hsel : Cond.selects RX0 y y ∈ lw_all) (hcode : Cond.code y b L none ∈ lw_all) (hyc : y.cls = RX0) (hd : (parseMethodDescriptor y.desc).map (fun d => d.parameters.length) = some n) (hn : As.length = n) (hrm : rm.cells = 0 ∧ rm.slots = 0) (hR : rm.frames + 1 ≤ R.frames ∧ 8 + (L + 11) + rm.locals ≤ R.locals) (hcs : cells ≤ R.cells ∧ slots ≤ R.slots) (hst : st = As.reverse ++ .ref (ad 0) :: rest) (hls : ls.size = nL) (hW : (rest.map fun v => v.category).sum ≤ 8) (hdg : decode cc pc = .ok (.invokevirtual index, 3)) (kk : ∀ (u : XS) (H1 : Heap) (locs1 : List Loc), post u → wd D A s (xw ad ca u) (xt ca) H1 locs1 → W p l e R s m args below meth c H1 locs1 cells slots Q (F0 m (pc + 3) ls rest)) : W p l e R s m args below meth c H locs cells slots Q (F0 m pc ls st) :=
  g_callv C w (hM D ad ca) (ci := 0) (q := (RX0, TX0, 11)) rfl rfl rfl hlk hin hsel q29 hcode ⟨hyc, by rw [hyc]; decide +kernel, by rw [hyc]; decide +kernel, hd⟩ hn hrm hR hcs hst hls hW hdg kk
theorem m_get {σ : MS} (C : CallFix p m c cc nL s args lw_all RX1) (w : wd D A s (mw ad ca σ) (mt ca) H locs) {index : Nat} (k : Nat) {v : Value} (hlink : Cond.fieldLink RX1 index (TX1 k).1 (TX1 k).2.1 (TX1 k).2.2.1 ∈ lw_all) (hk : k < 6) (hv : (mf ad σ)[k]? = some v) (hdg : decode cc pc = .ok (.getfield index, 3)) (kk : W p l e R s m args below meth c H locs cells slots Q (F0 m (pc + 3) ls (v :: rest))) : W p l e R s m args below meth c H locs cells slots Q (F0 m pc ls (.ref (ad 0) :: rest)) :=
  va_get (D := D) (ci := 1) (C := RX1) (T := TX1) (N := 6) (ref := (TX1 k).1) C.1 C.2.1 C.2.2.2.2 in_X1 C.2.2.2.1 w.2.2.2.1 w.1 0 rfl rfl k hk (C.2.2.2.2 _ hlink) (fun _ h9 => h9) hv hdg kk
theorem m_put {σ : MS} (C : CallFix p m c cc nL s args lw_all RX1) (w : wd D A s (mw ad ca σ) (mt ca) H locs) {index : Nat} (k : Nat) {v : Nat} (σ' : MS) (hlink : Cond.fieldLink RX1 index (TX1 k).1 (TX1 k).2.1 (TX1 k).2.2.1 ∈ lw_all) (hk : k < 6) (hfin : (TX1 k).2.2.2 = false) (hty : tyX1 k = .int) (he : mw ad ca σ' = (mw ad ca σ).set 0 (ad 0, .inr (1, (mf ad σ).set k (.int (nI v))))) (hdg : decode cc pc = .ok (.putfield index, 3)) (kk : ∀ (H1 : Heap) (locs1 : List Loc), wd D A s (mw ad ca σ') (mt ca) H1 locs1 → W p l e R s m args below meth c H1 locs1 cells slots Q (F0 m (pc + 3) ls rest)) : W p l e R s m args below meth c H locs cells slots Q (F0 m pc ls (.int (nI v) :: .ref (ad 0) :: rest)) := by
  refine va_put (D := D) (ci := 1) (v := .int (nI v)) (ty := .int) (C := RX1) (T := TX1) (N := 6) (ref := (TX1 k).1) C.1 C.2.1 C.2.2.2.2 in_X1 tyX1 tyX1_ok nmX1 C.2.2.2.1 w.2.2.2.1 w.1 w.2.1 w.2.2.1 0 rfl rfl k hk (C.2.2.2.2 _ hlink) (fun _ h9 => h9) hfin ((tyX1_ok k hk).trans (congrArg some hty)) rfl rfl hk hdg (fun H1 locs1 hP hD hS => ?_)
  exact kk H1 locs1 ⟨by rw [he]; exact hP, by rw [he]; exact hD, hS, w.2.2.2.1, w.2.2.2.2⟩
theorem m_ld {σ : MS} (C : CallFix p m c cc nL s args lw_all RX1) (w : wd D A s (mw ad ca σ) (mt ca) H locs) (j : Nat) {n : Nat} {f : Nat → Int32} {i : Nat} (hj : (mw ad ca σ)[j + 1]? = some (ad (j + 1), .inl (ca j, n, .inl f))) (ht : (mt ca)[j]? = some (ca j, .int)) (hi : i < n) (hn : n < 2147483648) (hdg : decode cc pc = .ok (.iaload, 1)) (kk : W p l e R s m args below meth c H locs cells slots Q (F0 m (pc + 1) ls (.int (f i) :: rest))) : W p l e R s m args below meth c H locs cells slots Q (F0 m pc ls (.int (nI i) :: .ref (ad (j + 1)) :: rest)) := by
  refine va_iald (n := n) (f := f) C.1 C.2.1 w.2.2.2.1 w.1 (j + 1) j hj ht (vp_in_nI hi hn) hdg ?_
  rw [nI_clamp (Nat.lt_trans hi hn)]
  exact kk
theorem m_st {σ : MS} (C : CallFix p m c cc nL s args lw_all RX1) (w : wd D A s (mw ad ca σ) (mt ca) H locs) (j : Nat) {n : Nat} {f : Nat → Int32} {i : Nat} {x : Int32} (σ' : MS) (hj : (mw ad ca σ)[j + 1]? = some (ad (j + 1), .inl (ca j, n, .inl f))) (ht : (mt ca)[j]? = some (ca j, .int)) (hi : i < n) (hn : n < 2147483648) (he : mw ad ca σ' = (mw ad ca σ).set (j + 1) (ad (j + 1), .inl (ca j, n, .inl (upd f i x)))) (hdg : decode cc pc = .ok (.iastore, 1)) (kk : ∀ (H1 : Heap) (locs1 : List Loc), wd D A s (mw ad ca σ') (mt ca) H1 locs1 → W p l e R s m args below meth c H1 locs1 cells slots Q (F0 m (pc + 1) ls rest)) : W p l e R s m args below meth c H locs cells slots Q (F0 m pc ls (.int x :: .int (nI i) :: .ref (ad (j + 1)) :: rest)) := by
  refine va_iast (n := n) (f := f) C.1 C.2.1 w.2.2.2.1 w.1 w.2.1 w.2.2.1 (j + 1) j hj ht (vp_in_nI hi hn) hdg (fun H1 locs1 hP hD hS => ?_)
  rw [nI_clamp (Nat.lt_trans hi hn)] at hP hD
  exact kk H1 locs1 ⟨by rw [he]; exact hP, by rw [he]; exact hD, hS, w.2.2.2.1, w.2.2.2.2⟩
theorem m_calli {σ : MS} {y : MethodName} {b : ByteArray} {L index n : Nat} {rty : FieldType} {rm : Room} {As : List Value} {post : Int32 → MS → Prop} (C : CallFix p m c cc nL s args lw_all RX1) (w : wd D A s (mw ad ca σ) (mt ca) H locs) (hM : MMi l y b L rty rm As σ post) (hlk : Cond.methodLink RX1 index y ∈ lw_all) (hin : Cond.instanceMethod y ∈ lw_all) (hsel : Cond.selects RX1 y y ∈ lw_all) (hcode : Cond.code y b L (some rty) ∈ lw_all) (hyc : y.cls = RX1) (hd : (parseMethodDescriptor y.desc).map (fun d => d.parameters.length) = some n) (hn : As.length = n) (hrm : rm.cells = 0 ∧ rm.slots = 0) (hR : rm.frames + 1 ≤ R.frames ∧ 8 + (L + 11) + rm.locals ≤ R.locals) (hcs : cells ≤ R.cells ∧ slots ≤ R.slots) (hst : st = As.reverse ++ .ref (ad 0) :: rest) (hls : ls.size = nL) (hW : (rest.map fun v => v.category).sum ≤ 8) (hdg : decode cc pc = .ok (.invokevirtual index, 3)) (kk : ∀ (r : Int32) (u : MS) (H1 : Heap) (locs1 : List Loc), post r u → wd D A s (mw ad ca u) (mt ca) H1 locs1 → W p l e R s m args below meth c H1 locs1 cells slots Q (F0 m (pc + 3) ls (.int r :: rest))) : W p l e R s m args below meth c H locs cells slots Q (F0 m pc ls st) :=
  g_calli C w (hM D ad ca) (ci := 1) (q := (RX1, TX1, 6)) rfl rfl rfl hlk hin hsel q30 hcode ⟨hyc, by rw [hyc]; decide +kernel, by rw [hyc]; decide +kernel, hd⟩ hn hrm hR hcs hst hls hW hdg kk
theorem m_callv {σ : MS} {y : MethodName} {b : ByteArray} {L index n : Nat} {rm : Room} {As : List Value} {post : MS → Prop} (C : CallFix p m c cc nL s args lw_all RX1) (w : wd D A s (mw ad ca σ) (mt ca) H locs) (hM : MMv l y b L rm As σ post) (hlk : Cond.methodLink RX1 index y ∈ lw_all) (hin : Cond.instanceMethod y ∈ lw_all) (hsel : Cond.selects RX1 y y ∈ lw_all) (hcode : Cond.code y b L none ∈ lw_all) (hyc : y.cls = RX1) (hd : (parseMethodDescriptor y.desc).map (fun d => d.parameters.length) = some n) (hn : As.length = n) (hrm : rm.cells = 0 ∧ rm.slots = 0) (hR : rm.frames + 1 ≤ R.frames ∧ 8 + (L + 11) + rm.locals ≤ R.locals) (hcs : cells ≤ R.cells ∧ slots ≤ R.slots) (hst : st = As.reverse ++ .ref (ad 0) :: rest) (hls : ls.size = nL) (hW : (rest.map fun v => v.category).sum ≤ 8) (hdg : decode cc pc = .ok (.invokevirtual index, 3)) (kk : ∀ (u : MS) (H1 : Heap) (locs1 : List Loc), post u → wd D A s (mw ad ca u) (mt ca) H1 locs1 → W p l e R s m args below meth c H1 locs1 cells slots Q (F0 m (pc + 3) ls rest)) : W p l e R s m args below meth c H locs cells slots Q (F0 m pc ls st) :=
  g_callv C w (hM D ad ca) (ci := 1) (q := (RX1, TX1, 6)) rfl rfl rfl hlk hin hsel q30 hcode ⟨hyc, by rw [hyc]; decide +kernel, by rw [hyc]; decide +kernel, hd⟩ hn hrm hR hcs hst hls hW hdg kk
end WR
end
section
set_option maxRecDepth 100000
/-- the cell of place q in a buffer of n letters with its gap at g -/
def st_ci (n g q : Nat) : Nat := if q < g then q else q + 64 - n
/-- moveGap's second loop at i -/
def st_c2 (n g q i : Nat) (cell : Nat → Int32) : Nat → Int32 := fun x => if q + (64 - n) ≤ x ∧ x < g + (64 - n) then cell (x - (64 - n)) else if g ≤ x ∧ x < i then cell (x + (64 - n)) else cell x
def st_mg (n g q : Nat) (cell : Nat → Int32) : Nat → Int32 := st_c2 n g q q cell
/-- moveGap's first loop at j -/
def st_c1 (n g j : Nat) (cell : Nat → Int32) : Nat → Int32 := fun x => if j + (64 - n) ≤ x ∧ x < g + (64 - n) then cell (x - (64 - n)) else cell x
theorem st_c1_0 (n g : Nat) (cell : Nat → Int32) : cell = st_c1 n g g cell := by
  funext x; dsimp only [st_c1]; split
  · exfalso; omega
  · rfl
theorem st_c1_s {n g j : Nat} {cell : Nat → Int32} (hj : j + 1 ≤ g) : upd (st_c1 n g (j + 1) cell) (j + (64 - n)) (st_c1 n g (j + 1) cell j) = st_c1 n g j cell := by
  funext x; dsimp only [upd, st_c1]
  repeat' split
  all_goals first | rfl | (exfalso; omega) | (congr 1; omega)
theorem st_c1_e {n g q j : Nat} {cell : Nat → Int32} (h1 : j ≤ q) (h2 : q ≤ j ∨ j = g) : st_c1 n g j cell = st_c2 n g q g cell := by
  funext x; dsimp only [st_c1, st_c2]
  repeat' split
  all_goals first | rfl | (exfalso; omega) | (congr 1; omega)
theorem st_c2_s {n g q i : Nat} {cell : Nat → Int32} (h1 : g ≤ i) (h2 : i < q) : upd (st_c2 n g q i cell) i (st_c2 n g q i cell (i + (64 - n))) = st_c2 n g q (i + 1) cell := by
  funext x; dsimp only [upd, st_c2]
  repeat' split
  all_goals first | rfl | (exfalso; omega) | (congr 1; omega)
theorem st_c2_e {n g q i : Nat} {cell : Nat → Int32} (h1 : q ≤ i) (h2 : i ≤ q ∨ i = g) : st_c2 n g q i cell = st_mg n g q cell := by
  funext x; dsimp only [st_mg, st_c2]
  repeat' split
  all_goals first | rfl | (exfalso; omega) | (congr 1; omega)
/-- openRun's loop at i, and its end; closeRun's -/
def st_opn {α : Type} (f : Nat → α) (k i : Nat) : Nat → α := fun x => if i < x ∧ x ≤ k then f (x - 1) else f x
def st_cls {α : Type} (f : Nat → α) (r i : Nat) : Nat → α := fun x => if r ≤ x ∧ x < i then f (x + 1) else f x
theorem st_opn_0 {α : Type} (f : Nat → α) (k : Nat) : f = st_opn f k k := by
  funext x; dsimp only [st_opn]; split
  · exfalso; omega
  · rfl
theorem st_opn_s {f : Nat → Int32} {k i : Nat} (h0 : 0 < i) (h : i ≤ k) : upd (st_opn f k i) i (st_opn f k i (i - 1)) = st_opn f k (i - 1) := by
  funext x; dsimp only [upd, st_opn]
  repeat' split
  all_goals first | rfl | (exfalso; omega) | (congr 1; omega)
theorem st_opn_sN {f : Nat → Nat} {k i : Nat} (h0 : 0 < i) (h : i ≤ k) : updN (st_opn f k i) i (st_opn f k i (i - 1)) = st_opn f k (i - 1) := by
  funext x; dsimp only [updN, st_opn]
  repeat' split
  all_goals first | rfl | (exfalso; omega) | (congr 1; omega)
theorem st_cls_0 {α : Type} (f : Nat → α) (r : Nat) : f = st_cls f r r := by
  funext x; dsimp only [st_cls]; split
  · exfalso; omega
  · rfl
theorem st_cls_s {f : Nat → Int32} {r i : Nat} (h : r ≤ i) : upd (st_cls f r i) i (st_cls f r i (i + 1)) = st_cls f r (i + 1) := by
  funext x; dsimp only [upd, st_cls]
  repeat' split
  all_goals first | rfl | (exfalso; omega) | (congr 1; omega)
theorem st_cls_sN {f : Nat → Nat} {r i : Nat} (h : r ≤ i) : updN (st_cls f r i) i (st_cls f r i (i + 1)) = st_cls f r (i + 1) := by
  funext x; dsimp only [updN, st_cls]
  repeat' split
  all_goals first | rfl | (exfalso; omega) | (congr 1; omega)
/-- the first place of run r -/
def st_ps (size : Nat → Nat) : Nat → Nat
  | 0 => 0
  | r + 1 => st_ps size r + size r
theorem st_ps_s (size : Nat → Nat) (r : Nat) : st_ps size (r + 1) = st_ps size r + size r := rfl
theorem st_ps_le (size : Nat → Nat) {a b : Nat} (h : a ≤ b) : st_ps size a ≤ st_ps size b := by
  induction b with
  | zero => rw [Nat.le_zero.mp h]; exact Nat.le_refl _
  | succ b ih =>
    rcases Nat.lt_or_ge b a with q | q
    · rw [show a = b + 1 by omega]; exact Nat.le_refl _
    · rw [st_ps_s]; exact Nat.le_trans (ih q) (Nat.le_add_right _ _)
theorem st_ps_k {size : Nat → Nat} {k : Nat} (h : ∀ i, i < k → 0 < size i) : k ≤ st_ps size k := by
  induction k with
  | zero => exact Nat.zero_le _
  | succ k ih =>
    have h1 := ih (fun i hi => h i (by omega))
    have h2 := h k (by omega)
    rw [st_ps_s]; omega
/-! lists -/
def st_ins (L : List Int32) (p : Nat) (X : List Int32) : List Int32 := L.take p ++ (X ++ L.drop p)
def st_del (L : List Int32) (i j : Nat) : List Int32 := L.take i ++ L.drop j
theorem st_ins_len {L : List Int32} {p : Nat} {X : List Int32} (h : p ≤ L.length) : (st_ins L p X).length = L.length + X.length := by
  simp [st_ins]; omega
theorem st_del_len {L : List Int32} {i j : Nat} (h : i ≤ j) (hj : j ≤ L.length) : (st_del L i j).length = L.length - (j - i) := by
  simp [st_del]; omega
theorem st_ins_get {L : List Int32} {p : Nat} {X : List Int32} (h : p ≤ L.length) (q : Nat) : (st_ins L p X)[q]? = if q < p then L[q]? else if q < p + X.length then X[q - p]? else L[q - X.length]? := by
  unfold st_ins
  rw [List.getElem?_append, List.length_take, Nat.min_eq_left h]
  split
  · rw [List.getElem?_take, if_pos (by assumption)]
  · rw [List.getElem?_append]
    split
    · rw [if_pos (by omega)]
    · rw [if_neg (by omega), List.getElem?_drop]
      congr 1; omega
theorem st_del_get {L : List Int32} {i j : Nat} (h : i ≤ j) (hj : j ≤ L.length) (q : Nat) : (st_del L i j)[q]? = if q < i then L[q]? else L[q + (j - i)]? := by
  unfold st_del
  rw [List.getElem?_append, List.length_take, Nat.min_eq_left (by omega)]
  split
  · rw [List.getElem?_take, if_pos (by assumption)]
  · rw [List.getElem?_drop]; congr 1; omega
/-- inserting again: behind what was put in, or ahead of it -/
theorem st_ins_b {L : List Int32} {p : Nat} {X Y : List Int32} (h : p ≤ L.length) : st_ins (st_ins L p X) (p + X.length) Y = st_ins L p (X ++ Y) := by
  apply List.ext_getElem?
  intro q
  rw [st_ins_get (by rw [st_ins_len h]; omega), st_ins_get h, st_ins_get h, st_ins_get h, List.getElem?_append, List.length_append]
  repeat' split
  all_goals first | rfl | (exfalso; omega) | (congr 1; omega)
theorem st_ins_a {L : List Int32} {p : Nat} {X Y : List Int32} (h : p ≤ L.length) : st_ins (st_ins L p X) p Y = st_ins L p (Y ++ X) := by
  apply List.ext_getElem?
  intro q
  rw [st_ins_get (by rw [st_ins_len h]; omega), st_ins_get h, st_ins_get h, st_ins_get h, List.getElem?_append, List.length_append]
  repeat' split
  all_goals first | rfl | (exfalso; omega) | (congr 1; omega)
theorem st_ins_nil (L : List Int32) (p : Nat) : st_ins L p [] = L := by
  simp [st_ins]
/-- the buffer with a gap holds the letters L -/
def st_XL (n g : Nat) (cell : Nat → Int32) (L : List Int32) : Prop := L.length = n ∧ n ≤ 64 ∧ g ≤ n ∧ ∀ q, q < n → L[q]? = some (cell (st_ci n g q))
theorem st_mg_ci {n g p q : Nat} {cell : Nat → Int32} (hn : n ≤ 64) (hg : g ≤ n) (hp : p ≤ n) (hq : q < n) : st_mg n g p cell (st_ci n p q) = cell (st_ci n g q) := by
  unfold st_mg st_c2 st_ci
  repeat' split
  all_goals first | rfl | (exfalso; omega) | (congr 1; omega)
theorem st_XL_mg {n g p : Nat} {cell : Nat → Int32} {L : List Int32} (h : st_XL n g cell L) (hp : p ≤ n) : st_XL n p (st_mg n g p cell) L := by
  obtain ⟨h1, h2, h3, h4⟩ := h
  exact ⟨h1, h2, hp, fun q hq => by rw [st_mg_ci h2 h3 hp hq]; exact h4 q hq⟩
theorem st_XL_put {n p : Nat} {cell : Nat → Int32} {L : List Int32} {c : Int32} (h : st_XL n p cell L) (hn : n < 64) : st_XL (n + 1) (p + 1) (upd cell p c) (st_ins L p [c]) := by
  obtain ⟨h1, h2, h3, h4⟩ := h
  refine ⟨by rw [st_ins_len (by omega), h1]; rfl, by omega, by omega, fun q hq => ?_⟩
  rw [st_ins_get (by omega)]
  split
  · rename_i hlt
    rw [h4 q (by omega)]
    unfold upd st_ci
    rw [if_pos hlt, if_pos (show q < p + 1 by omega), if_neg (by omega)]
  · split
    · rename_i h5 h6
      have h6 : q < p + 1 := h6
      have : q = p := by omega
      subst this
      unfold upd st_ci
      simp
    · rename_i h5 h6
      have h6 : ¬ q < p + 1 := h6
      rw [show q - [c].length = q - 1 from rfl, h4 (q - 1) (by omega)]
      unfold upd st_ci
      rw [if_neg (show ¬ q - 1 < p by omega), if_neg (show ¬ q < p + 1 by omega), if_neg (show ¬ q + 64 - (n + 1) = p by omega)]
      congr 2; omega
theorem st_XL_drop {n i j : Nat} {cell : Nat → Int32} {L : List Int32} (h : st_XL n j cell L) (hij : i ≤ j) (hj : j ≤ n) : st_XL (n - (j - i)) i cell (st_del L i j) := by
  obtain ⟨h1, h2, h3, h4⟩ := h
  refine ⟨by rw [st_del_len hij (by omega), h1], by omega, by omega, fun q hq => ?_⟩
  rw [st_del_get hij (by omega)]
  split
  · rename_i hlt
    rw [h4 q (by omega)]
    unfold st_ci
    rw [if_pos hlt, if_pos (show q < j by omega)]
  · rename_i hlt
    rw [h4 (q + (j - i)) (by omega)]
    unfold st_ci
    rw [if_neg (show ¬ q + (j - i) < j by omega), if_neg hlt]
    congr 2; omega
end
section
set_option maxRecDepth 100000
/-- the runs as a list: length and style -/
def st_rl (k : Nat) (size : Nat → Nat) (look : Nat → Int32) : List (Nat × Int32) := (List.range k).map (fun i => (size i, look i))
theorem st_rl_len (k : Nat) (size : Nat → Nat) (look : Nat → Int32) : (st_rl k size look).length = k := by simp [st_rl]
theorem st_rl_get (k : Nat) (size : Nat → Nat) (look : Nat → Int32) (i : Nat) : (st_rl k size look)[i]? = if i < k then some (size i, look i) else none := by
  unfold st_rl
  rw [List.getElem?_map]
  split
  · rename_i h
    rw [List.getElem?_range h]; rfl
  · rename_i h
    rw [List.getElem?_eq_none (by simp; omega)]; rfl
theorem st_rl_s (k : Nat) (size : Nat → Nat) (look : Nat → Int32) : st_rl (k + 1) size look = st_rl k size look ++ [(size k, look k)] := by
  simp [st_rl, List.range_succ]
theorem st_rl_take {k r : Nat} (size : Nat → Nat) (look : Nat → Int32) (h : r ≤ k) : (st_rl k size look).take r = st_rl r size look := by
  apply List.ext_getElem?
  intro i
  rw [List.getElem?_take, st_rl_get, st_rl_get]
  repeat' split
  all_goals first | rfl | (exfalso; omega)
theorem st_rl_drop {k r : Nat} (size : Nat → Nat) (look : Nat → Int32) (h : r < k) : (st_rl k size look).drop r = (size r, look r) :: (st_rl k size look).drop (r + 1) := by
  apply List.ext_getElem?
  intro i
  rcases i with _ | i
  · rw [List.getElem?_drop, st_rl_get, if_pos (by omega)]; rfl
  · rw [List.getElem?_drop, List.getElem?_cons_succ, List.getElem?_drop]
    congr 1; omega
theorem st_rl_split {k r : Nat} (size : Nat → Nat) (look : Nat → Int32) (h : r < k) : st_rl k size look = st_rl r size look ++ (size r, look r) :: (st_rl k size look).drop (r + 1) := by
  rw [← st_rl_drop size look h, ← st_rl_take size look (Nat.le_of_lt h), List.take_append_drop]
theorem st_rl_ext {K : Nat} {F : Nat → Nat} {G : Nat → Int32} {rs : List (Nat × Int32)} (hl : rs.length = K) (h : ∀ i, i < K → rs[i]? = some (F i, G i)) : st_rl K F G = rs := by
  apply List.ext_getElem?
  intro i
  rw [st_rl_get]
  split
  · rename_i hi
    exact (h i hi).symm
  · rw [List.getElem?_eq_none (by omega)]
/-- a front of the runs, something, a back of the runs -/
theorem st_spl_get {k r t : Nat} {size : Nat → Nat} {look : Nat → Int32} {X : List (Nat × Int32)} (h : r ≤ k) (i : Nat) : ((st_rl k size look).take r ++ (X ++ (st_rl k size look).drop t))[i]? = if i < r then some (size i, look i) else if i < r + X.length then X[i - r]? else if i - r - X.length + t < k then some (size (i - r - X.length + t), look (i - r - X.length + t)) else none := by
  rw [List.getElem?_append, List.length_take, st_rl_len, Nat.min_eq_left h]
  split
  · rename_i h1
    rw [List.getElem?_take, if_pos h1, st_rl_get, if_pos (by omega)]
  · rw [List.getElem?_append]
    split
    · rw [if_pos (by omega)]
    · rw [if_neg (by omega), List.getElem?_drop, st_rl_get, Nat.add_comm t]
theorem st_spl_len {k r t : Nat} {size : Nat → Nat} {look : Nat → Int32} {X : List (Nat × Int32)} (h : r ≤ k) : ((st_rl k size look).take r ++ (X ++ (st_rl k size look).drop t)).length = r + (X.length + (k - t)) := by
  simp [st_rl_len, h]
/-- openRun(r), then the new run written -/
theorem st_rl_open {k r c : Nat} {size : Nat → Nat} {look : Nat → Int32} {v : Int32} (h : r ≤ k) : st_rl (k + 1) (updN (st_opn size k r) r c) (upd (st_opn look k r) r v) = (st_rl k size look).take r ++ ([(c, v)] ++ (st_rl k size look).drop r) := by
  refine st_rl_ext (by rw [st_spl_len h]; simp; omega) (fun i hi => ?_)
  rw [st_spl_get h]
  rcases Nat.lt_trichotomy i r with q | q | q
  · rw [if_pos q]; simp [updN, upd, st_opn, show ¬ i = r by omega, show ¬ r < i by omega]
  · subst q; simp [updN, upd]
  · rw [if_neg (by omega), if_neg (by simp; omega), if_pos (by simp; omega)]
    simp [updN, upd, st_opn, show ¬ i = r by omega, show r < i ∧ i ≤ k by omega, show i - r - 1 + r = i - 1 by omega]
/-- cutAt: openRun(r), then the two halves written -/
theorem st_rl_cut {k r a : Nat} {size : Nat → Nat} {look : Nat → Int32} (h : r < k) : st_rl (k + 1) (updN (updN (st_opn size k r) r a) (r + 1) (updN (st_opn size k r) r a (r + 1) - updN (st_opn size k r) r a r)) (st_opn look k r) = (st_rl k size look).take r ++ ([(a, look r), (size r - a, look r)] ++ (st_rl k size look).drop (r + 1)) := by
  refine st_rl_ext (by rw [st_spl_len (by omega)]; simp; omega) (fun i hi => ?_)
  rw [st_spl_get (by omega)]
  rcases Nat.lt_trichotomy i r with q | q | q
  · rw [if_pos q]; simp [updN, st_opn, show ¬ i = r by omega, show ¬ i = r + 1 by omega, show ¬ r < i by omega]
  · subst q; simp [updN, st_opn]
  · rcases Nat.lt_or_ge (r + 1) i with q2 | q2
    · rw [if_neg (by omega), if_neg (by simp; omega), if_pos (by simp; omega)]
      simp [updN, st_opn, show ¬ i = r by omega, show ¬ i = r + 1 by omega, show r < i ∧ i ≤ k by omega, show i - r - 2 + (r + 1) = i - 1 by omega]
    · have : i = r + 1 := by omega
      subst this
      simp [updN, st_opn, show r + 1 ≤ k by omega]
      intro q3; exfalso; omega
theorem st_cut_sub {k r a : Nat} {size : Nat → Nat} (h : r < k) (ha : a ≤ size r) : updN (st_opn size k r) r a r ≤ updN (st_opn size k r) r a (r + 1) := by
  simp [updN, st_opn, show r + 1 ≤ k by omega, ha]
/-- closeRun(r) -/
theorem st_rl_close {k r : Nat} {size : Nat → Nat} {look : Nat → Int32} (h : r < k) : st_rl (k - 1) (st_cls size r (k - 1)) (st_cls look r (k - 1)) = (st_rl k size look).take r ++ ([] ++ (st_rl k size look).drop (r + 1)) := by
  refine st_rl_ext (by rw [st_spl_len (by omega)]; simp; omega) (fun i hi => ?_)
  rw [st_spl_get (by omega)]
  rcases Nat.lt_or_ge i r with q | q
  · rw [if_pos q]; simp [st_cls, show ¬ r ≤ i by omega]
  · rw [if_neg (by omega), if_neg (by simp; omega), if_pos (by simp; omega)]
    simp [st_cls, show r ≤ i ∧ i < k - 1 by omega, show i - r + (r + 1) = i + 1 by omega]
/-- joinRuns: run r goes into the one before it -/
theorem st_rl_join {k r : Nat} {size : Nat → Nat} {look : Nat → Int32} (h : r + 1 < k) : st_rl (k - 1) (st_cls (updN size r (size r + size (r + 1))) (r + 1) (k - 1)) (st_cls look (r + 1) (k - 1)) = (st_rl k size look).take r ++ ([(size r + size (r + 1), look r)] ++ (st_rl k size look).drop (r + 2)) := by
  refine st_rl_ext (by rw [st_spl_len (by omega)]; simp; omega) (fun i hi => ?_)
  rw [st_spl_get (by omega)]
  rcases Nat.lt_trichotomy i r with q | q | q
  · rw [if_pos q]; simp [st_cls, updN, show ¬ r + 1 ≤ i by omega, show ¬ i = r by omega]
  · subst q; simp [st_cls, updN]; exact ⟨fun q => by omega, fun q => by omega⟩
  · rw [if_neg (by omega), if_neg (by simp; omega), if_pos (by simp; omega)]
    simp [st_cls, updN, show r + 1 ≤ i ∧ i < k - 1 by omega, show ¬ i + 1 = r by omega, show i - r - 1 + (r + 2) = i + 1 by omega]
/-- the styles of the runs, place by place -/
def st_ex : List (Nat × Int32) → List Int32
  | [] => []
  | a :: t => List.replicate a.1 a.2 ++ st_ex t
theorem st_ex_app (A B : List (Nat × Int32)) : st_ex (A ++ B) = st_ex A ++ st_ex B := by
  induction A with
  | nil => rfl
  | cons a t ih => simp [st_ex, ih]
theorem st_ex_c (a : Nat × Int32) (t : List (Nat × Int32)) : st_ex (a :: t) = List.replicate a.1 a.2 ++ st_ex t := rfl
theorem st_ex_cl (a : Nat × Int32) (t : List (Nat × Int32)) : (st_ex (a :: t)).length = a.1 + (st_ex t).length := by simp [st_ex]
theorem st_ex_rl (k : Nat) (size : Nat → Nat) (look : Nat → Int32) : (st_ex (st_rl k size look)).length = st_ps size k := by
  induction k with
  | zero => rfl
  | succ k ih => rw [st_rl_s, st_ex_app, List.length_append, ih, st_ps_s, st_ex_cl]; rfl
/-- what is at a place of run r -/
theorem st_ex_at {k r q : Nat} {size : Nat → Nat} {look : Nat → Int32} (hr : r < k) (h1 : st_ps size r ≤ q) (h2 : q < st_ps size r + size r) : (st_ex (st_rl k size look))[q]? = some (look r) := by
  rw [st_rl_split size look hr, st_ex_app, st_ex_c, List.getElem?_append, st_ex_rl, if_neg (by omega), List.getElem?_append, List.length_replicate, if_pos (by show q - st_ps size r < size r; omega), List.getElem?_replicate, if_pos (by show q - st_ps size r < size r; omega)]
def st_Pos (rs : List (Nat × Int32)) : Prop := ∀ a ∈ rs, 0 < a.1
theorem st_Pos_app {A B : List (Nat × Int32)} (hA : st_Pos A) (hB : st_Pos B) : st_Pos (A ++ B) := fun a h => (List.mem_append.mp h).elim (hA a) (hB a)
theorem st_Pos_l {A B : List (Nat × Int32)} (h : st_Pos (A ++ B)) : st_Pos A := fun a q => h a (List.mem_append_left _ q)
theorem st_Pos_r {A B : List (Nat × Int32)} (h : st_Pos (A ++ B)) : st_Pos B := fun a q => h a (List.mem_append_right _ q)
theorem st_Pos_len {A : List (Nat × Int32)} (h : st_Pos A) : A.length ≤ (st_ex A).length := by
  induction A with
  | nil => exact Nat.le_refl _
  | cons a t ih =>
    rw [st_ex_cl, List.length_cons]
    have h1 := ih (fun b q => h b (List.mem_cons_of_mem _ q))
    have h2 := h a List.mem_cons_self
    omega
theorem st_Pos_rl {k : Nat} {size : Nat → Nat} {look : Nat → Int32} (h : st_Pos (st_rl k size look)) : ∀ i, i < k → 0 < size i := by
  intro i hi
  exact h (size i, look i) (List.mem_of_getElem? (i := i) (by rw [st_rl_get, if_pos hi]))
/-- the runs cut at place p -/
def st_cut : List (Nat × Int32) → Nat → List (Nat × Int32) × List (Nat × Int32)
  | [], _ => ([], [])
  | a :: t, p => if a.1 ≤ p then (a :: (st_cut t (p - a.1)).1, (st_cut t (p - a.1)).2) else if p = 0 then ([], a :: t) else ([(p, a.2)], (a.1 - p, a.2) :: t)
theorem st_cut_app {A B : List (Nat × Int32)} {p : Nat} (h : (st_ex A).length ≤ p) : st_cut (A ++ B) p = (A ++ (st_cut B (p - (st_ex A).length)).1, (st_cut B (p - (st_ex A).length)).2) := by
  induction A generalizing p with
  | nil => rfl
  | cons a t ih =>
    rw [st_ex_cl] at h
    rw [List.cons_append, st_cut, if_pos (by omega), ih (by omega), st_ex_cl, show p - a.1 - (st_ex t).length = p - (a.1 + (st_ex t).length) by omega]
    rfl
theorem st_cut_in {A B : List (Nat × Int32)} {p : Nat} (h : p < (st_ex A).length) : st_cut (A ++ B) p = ((st_cut A p).1, (st_cut A p).2 ++ B) := by
  induction A generalizing p with
  | nil => exact absurd h (Nat.not_lt_zero _)
  | cons a t ih =>
    rw [st_ex_cl] at h
    rw [List.cons_append, st_cut, st_cut]
    split
    · rw [ih (by omega)]
    · split <;> rfl
theorem st_cut_ex1 (rs : List (Nat × Int32)) (p : Nat) : st_ex (st_cut rs p).1 = (st_ex rs).take p := by
  induction rs generalizing p with
  | nil => simp [st_cut, st_ex]
  | cons a t ih =>
    rw [st_cut, st_ex_c, List.take_append, List.length_replicate]
    split
    · rename_i h
      rw [st_ex_c, ih, List.take_replicate, Nat.min_eq_right h]
    · rename_i h
      rw [show p - a.1 = 0 by omega, List.take_zero, List.append_nil, List.take_replicate, Nat.min_eq_left (by omega)]
      split
      · rename_i h2
        rw [h2]; rfl
      · simp [st_ex]
theorem st_cut_ex2 (rs : List (Nat × Int32)) (p : Nat) : st_ex (st_cut rs p).2 = (st_ex rs).drop p := by
  induction rs generalizing p with
  | nil => simp [st_cut, st_ex]
  | cons a t ih =>
    rw [st_cut, st_ex_c, List.drop_append, List.length_replicate]
    split
    · rename_i h
      rw [ih, List.drop_replicate, show a.1 - p = 0 by omega]; rfl
    · rename_i h
      rw [show p - a.1 = 0 by omega, List.drop_zero, List.drop_replicate]
      split
      · rename_i h2
        rw [h2]; rfl
      · rfl
theorem st_cut_pos {rs : List (Nat × Int32)} {p : Nat} (h : st_Pos rs) : st_Pos (st_cut rs p).1 ∧ st_Pos (st_cut rs p).2 := by
  induction rs generalizing p with
  | nil => exact ⟨fun a q => absurd q List.not_mem_nil, fun a q => absurd q List.not_mem_nil⟩
  | cons a t ih =>
    have ha := h a List.mem_cons_self
    have ht : st_Pos t := fun b q => h b (List.mem_cons_of_mem _ q)
    rw [st_cut]
    split
    · refine ⟨fun b q => ?_, (ih ht).2⟩
      rcases List.mem_cons.mp q with q | q
      · rw [q]; exact ha
      · exact (ih ht).1 b q
    · split
      · exact ⟨fun b q => absurd q List.not_mem_nil, h⟩
      · refine ⟨fun b q => ?_, fun b q => ?_⟩
        · rw [List.mem_singleton.mp q]; show 0 < p; omega
        · rcases List.mem_cons.mp q with q | q
          · rw [q]; show 0 < a.1 - p; omega
          · exact ht b q
/-- runs of one style that meet are joined -/
def st_jc (a : Nat × Int32) : List (Nat × Int32) → List (Nat × Int32)
  | [] => [a]
  | b :: t => if a.2 = b.2 then (a.1 + b.1, a.2) :: t else a :: b :: t
def st_jn : List (Nat × Int32) → List (Nat × Int32)
  | [] => []
  | a :: t => st_jc a (st_jn t)
theorem st_ex_jc (a : Nat × Int32) (t : List (Nat × Int32)) : st_ex (st_jc a t) = List.replicate a.1 a.2 ++ st_ex t := by
  cases t with
  | nil => rfl
  | cons b t =>
    rw [st_jc]
    split
    · rename_i h
      rw [st_ex_c, st_ex_c, ← h, ← List.append_assoc, List.replicate_append_replicate]
    · rfl
theorem st_ex_jn (rs : List (Nat × Int32)) : st_ex (st_jn rs) = st_ex rs := by
  induction rs with
  | nil => rfl
  | cons a t ih => rw [st_jn, st_ex_jc, ih]; rfl
theorem st_jc_hd (a : Nat × Int32) (t : List (Nat × Int32)) : ∃ x t', st_jc a t = (x, a.2) :: t' := by
  cases t with
  | nil => exact ⟨a.1, [], rfl⟩
  | cons b t =>
    rw [st_jc]
    split
    · exact ⟨_, _, rfl⟩
    · exact ⟨a.1, b :: t, rfl⟩
/-- no run is empty, neighbours differ -/
def st_Nrm : List (Nat × Int32) → Prop
  | [] => True
  | a :: t => 0 < a.1 ∧ (∀ b, t.head? = some b → a.2 ≠ b.2) ∧ st_Nrm t
theorem st_Nrm_pos {rs : List (Nat × Int32)} (h : st_Nrm rs) : st_Pos rs := by
  induction rs with
  | nil => exact fun a q => absurd q List.not_mem_nil
  | cons a t ih =>
    intro b q
    rcases List.mem_cons.mp q with q | q
    · rw [q]; exact h.1
    · exact ih h.2.2 b q
theorem st_Nrm_jc {a : Nat × Int32} {t : List (Nat × Int32)} (ha : 0 < a.1) (h : st_Nrm t) : st_Nrm (st_jc a t) := by
  cases t with
  | nil => exact ⟨ha, fun b q => by simp at q, trivial⟩
  | cons b t =>
    rw [st_jc]
    split
    · rename_i e
      exact ⟨by show 0 < a.1 + b.1; omega, fun x q => by show a.2 ≠ x.2; rw [e]; exact h.2.1 x q, h.2.2⟩
    · rename_i e
      refine ⟨ha, fun x q => ?_, h⟩
      simp at q
      rw [← q]; exact e
theorem st_Nrm_jn {rs : List (Nat × Int32)} (h : st_Pos rs) : st_Nrm (st_jn rs) := by
  induction rs with
  | nil => exact trivial
  | cons a t ih => exact st_Nrm_jc (h a List.mem_cons_self) (ih (fun b q => h b (List.mem_cons_of_mem _ q)))
theorem st_Nrm_ne {rs : List (Nat × Int32)} (h : st_Nrm rs) {i : Nat} {a b : Nat × Int32} (h1 : rs[i]? = some a) (h2 : rs[i + 1]? = some b) : a.2 ≠ b.2 := by
  induction rs generalizing i with
  | nil => simp at h1
  | cons x t ih =>
    rcases i with _ | i
    · rw [List.getElem?_cons_zero] at h1
      rw [List.getElem?_cons_succ] at h2
      cases h1
      exact h.2.1 b (by rw [List.head?_eq_getElem?]; exact h2)
    · rw [List.getElem?_cons_succ] at h1 h2
      exact ih h.2.2 h1 h2
/-- the runs hold the styles E, in the normal form -/
def st_XE (k : Nat) (size : Nat → Nat) (look : Nat → Int32) (E : List Int32) : Prop := st_Nrm (st_rl k size look) ∧ st_ex (st_rl k size look) = E
end
section
set_option maxRecDepth 100000
theorem st_rl_td {k i : Nat} (size : Nat → Nat) (look : Nat → Int32) (hi : i ≤ k) : st_rl i size look ++ (st_rl k size look).drop i = st_rl k size look := by
  rw [← st_rl_take size look hi, List.take_append_drop]
theorem st_cut_c {k i q : Nat} {size : Nat → Nat} {look : Nat → Int32} (hi : i ≤ k) (h1 : st_ps size i ≤ q) : st_cut (st_rl k size look) q = (st_rl i size look ++ (st_cut ((st_rl k size look).drop i) (q - st_ps size i)).1, (st_cut ((st_rl k size look).drop i) (q - st_ps size i)).2) := by
  have c := st_cut_app (A := st_rl i size look) (B := (st_rl k size look).drop i) (p := q) (by rw [st_ex_rl]; exact h1)
  rw [st_rl_td size look hi, st_ex_rl] at c
  exact c
/-- a run begins at place q already, or q is the end -/
theorem st_cut_no {k i q : Nat} {size : Nat → Nat} {look : Nat → Int32} (hi : i ≤ k) (h1 : st_ps size i ≤ q) (h2 : i < k → q < st_ps size i + size i) (h3 : k ≤ i ∨ q ≤ st_ps size i) : st_cut (st_rl k size look) q = (st_rl i size look, (st_rl k size look).drop i) := by
  rw [st_cut_c hi h1]
  rcases Nat.lt_or_ge i k with hlt | hge
  · have h4 := h2 hlt
    have h5 : q - st_ps size i = 0 := by omega
    rw [h5, st_rl_drop size look hlt, st_cut, if_neg (show ¬ size i ≤ 0 by omega), if_pos rfl, List.append_nil]
  · rw [List.drop_eq_nil_of_le (by rw [st_rl_len]; exact hge), st_cut, List.append_nil]
/-- run i is cut in two -/
theorem st_cut_yes {k i q : Nat} {size : Nat → Nat} {look : Nat → Int32} (hi : i < k) (h1 : st_ps size i < q) (h2 : q < st_ps size i + size i) : st_cut (st_rl k size look) q = (st_rl i size look ++ [(q - st_ps size i, look i)], (size i - (q - st_ps size i), look i) :: (st_rl k size look).drop (i + 1)) := by
  rw [st_cut_c (Nat.le_of_lt hi) (Nat.le_of_lt h1), st_rl_drop size look hi, st_cut, if_neg (show ¬ size i ≤ q - st_ps size i by omega), if_neg (by omega)]
/-- an element of the runs -/
theorem st_rl_nth {k : Nat} {sz : Nat → Nat} {lk : Nat → Int32} {A B : List (Nat × Int32)} {x : Nat × Int32} (h : st_rl k sz lk = A ++ x :: B) : A.length < k ∧ sz A.length = x.1 ∧ lk A.length = x.2 := by
  have h1 : A.length < k := by
    have := congrArg List.length h
    rw [st_rl_len] at this
    simp at this
    omega
  have h2 : (st_rl k sz lk)[A.length]? = some x := by
    rw [h, List.getElem?_append_right (Nat.le_refl _), Nat.sub_self]; rfl
  rw [st_rl_get, if_pos h1] at h2
  have h3 := Option.some.inj h2
  exact ⟨h1, by rw [← h3], by rw [← h3]⟩
theorem st_rl_tk {k : Nat} {sz : Nat → Nat} {lk : Nat → Int32} {A B : List (Nat × Int32)} (h : st_rl k sz lk = A ++ B) : (st_rl k sz lk).take A.length = A ∧ (st_rl k sz lk).drop A.length = B ∧ k = A.length + B.length := by
  refine ⟨by rw [h, List.take_left], by rw [h, List.drop_left], ?_⟩
  have := congrArg List.length h
  rw [st_rl_len, List.length_append] at this
  exact this
theorem st_rl_tk1 {k : Nat} {sz : Nat → Nat} {lk : Nat → Int32} {A B : List (Nat × Int32)} {x : Nat × Int32} (h : st_rl k sz lk = A ++ x :: B) : (st_rl k sz lk).drop (A.length + 1) = B := by
  rw [h, show A ++ x :: B = (A ++ [x]) ++ B by simp, show A.length + 1 = (A ++ [x]).length by simp, List.drop_left]
theorem st_jn_len (rs : List (Nat × Int32)) : (st_jn rs).length ≤ rs.length := by
  induction rs with
  | nil => exact Nat.le_refl _
  | cons a t ih =>
    rw [st_jn, List.length_cons]
    cases h : st_jn t with
    | nil => simp [st_jc]
    | cons b u =>
      rw [h] at ih
      rw [st_jc]
      split
      · simp at ih ⊢; omega
      · simp at ih ⊢; omega
theorem st_jn_0 {k : Nat} (size : Nat → Nat) (look : Nat → Int32) : st_rl k size look = (st_rl k size look).take (k - 1) ++ st_jn ((st_rl k size look).drop (k - 1)) := by
  rcases k with _ | k
  · rfl
  · rw [Nat.add_sub_cancel, st_rl_drop size look (Nat.lt_succ_self k), List.drop_eq_nil_of_le (by rw [st_rl_len]; exact Nat.le_refl _), st_rl_take size look (Nat.le_succ k)]
    rw [st_rl_s]; rfl
/-- joinRuns' loop, a step -/
theorem st_jn_step {k k' i : Nat} {size sz : Nat → Nat} {look lk : Nat → Int32} (hi : i + 1 < k) (h : st_rl k' sz lk = (st_rl k size look).take (i + 1) ++ st_jn ((st_rl k size look).drop (i + 1))) :
    i + 1 < k' ∧ k' ≤ k ∧ (lk (i + 1) = lk i → (st_rl k' sz lk).take i ++ ([(sz i + sz (i + 1), lk i)] ++ (st_rl k' sz lk).drop (i + 2)) = (st_rl k size look).take i ++ st_jn ((st_rl k size look).drop i)) ∧ (¬ lk (i + 1) = lk i → st_rl k' sz lk = (st_rl k size look).take i ++ st_jn ((st_rl k size look).drop i)) := by
  have hk : k' ≤ k := by
    have h1 := congrArg List.length h
    rw [st_rl_len, List.length_append, List.length_take, st_rl_len] at h1
    have h2 := st_jn_len ((st_rl k size look).drop (i + 1))
    rw [List.length_drop, st_rl_len] at h2
    omega
  have hd0 := st_rl_drop size look (show i < k by omega)
  have hd1 := st_rl_drop size look hi
  obtain ⟨x, t, hj⟩ := st_jc_hd (size (i + 1), look (i + 1)) (st_jn ((st_rl k size look).drop (i + 1 + 1)))
  have hJ : st_jn ((st_rl k size look).drop (i + 1)) = (x, look (i + 1)) :: t := by rw [hd1, st_jn]; exact hj
  have hT : (st_rl k size look).take (i + 1) = st_rl i size look ++ [(size i, look i)] := by rw [st_rl_take size look (by omega), st_rl_s]
  have hl : (st_rl i size look).length = i := st_rl_len _ _ _
  have e1 : st_rl k' sz lk = st_rl i size look ++ (size i, look i) :: ((x, look (i + 1)) :: t) := by rw [h, hJ, hT]; simp
  have e2 : st_rl k' sz lk = (st_rl i size look ++ [(size i, look i)]) ++ (x, look (i + 1)) :: t := by rw [e1]; simp
  have a1 := st_rl_nth e1
  have a2 := st_rl_nth e2
  have t1 := st_rl_tk e1
  have t2 := st_rl_tk1 e2
  rw [hl] at a1 t1
  have hl2 : (st_rl i size look ++ [(size i, look i)]).length = i + 1 := by simp [hl]
  rw [hl2] at a2 t2
  dsimp only at a1 a2
  refine ⟨a2.1, hk, fun q => ?_, fun q => ?_⟩
  · rw [t1.1, t2, st_rl_take size look (by omega), hd0, st_jn, hJ, st_jc, if_pos (by show look i = look (i + 1); rw [← a1.2.2, ← a2.2.2]; exact q.symm), a1.2.1, a1.2.2, a2.2.1]
    rfl
  · rw [st_rl_take size look (by omega), hd0, st_jn, hJ, st_jc, if_neg (by show ¬ look i = look (i + 1); rw [← a1.2.2, ← a2.2.2]; exact fun z => q z.symm), e1]
theorem st_XE_len {k : Nat} {size : Nat → Nat} {look : Nat → Int32} {E : List Int32} (h : st_XE k size look E) : st_ps size k = E.length := by
  rw [← h.2, st_ex_rl]
theorem st_XE_k {k : Nat} {size : Nat → Nat} {look : Nat → Int32} {E : List Int32} (h : st_XE k size look E) : k ≤ E.length := by
  rw [← st_XE_len h]; exact st_ps_k (st_Pos_rl (st_Nrm_pos h.1))
theorem st_XE_pos {k : Nat} {size : Nat → Nat} {look : Nat → Int32} {E : List Int32} (h : st_XE k size look E) : st_Pos (st_rl k size look) := st_Nrm_pos h.1
/-- after a cut: as many runs as places at most -/
theorem st_cut_k {k k' q : Nat} {size size' : Nat → Nat} {look look' : Nat → Int32} (hp : st_Pos (st_rl k size look)) (h : st_rl k' size' look' = (st_cut (st_rl k size look) q).1 ++ (st_cut (st_rl k size look) q).2) : st_Pos (st_rl k' size' look') ∧ st_ps size' k' = st_ps size k ∧ k' ≤ st_ps size k := by
  have h1 : st_Pos (st_rl k' size' look') := by rw [h]; exact st_Pos_app (st_cut_pos hp).1 (st_cut_pos hp).2
  have h2 : st_ps size' k' = st_ps size k := by
    rw [← st_ex_rl k' size' look', h, st_ex_app, st_cut_ex1, st_cut_ex2, List.take_append_drop, st_ex_rl]
  exact ⟨h1, h2, by rw [← h2]; exact st_ps_k (st_Pos_rl h1)⟩
/-- putStyles -/
theorem st_XE_put {k k' k2 q c : Nat} {size size' size2 : Nat → Nat} {look look' look2 : Nat → Int32} {E : List Int32} {v : Int32} (hE : st_XE k size look E) (hc : 0 < c) (h : st_rl k' size' look' = (st_cut (st_rl k size look) q).1 ++ (st_cut (st_rl k size look) q).2)
    (h2 : st_rl k2 size2 look2 = st_jn ((st_rl k' size' look').take (st_cut (st_rl k size look) q).1.length ++ ([(c, v)] ++ (st_rl k' size' look').drop (st_cut (st_rl k size look) q).1.length))) : st_XE k2 size2 look2 (st_ins E q (List.replicate c v)) := by
  have t := st_rl_tk h
  have hp := st_cut_pos (p := q) (st_XE_pos hE)
  rw [t.1, t.2.1] at h2
  refine ⟨?_, ?_⟩
  · rw [h2]
    refine st_Nrm_jn (st_Pos_app hp.1 (st_Pos_app (fun a ha => ?_) hp.2))
    rw [List.mem_singleton.mp ha]; exact hc
  · rw [h2, st_ex_jn, st_ex_app, st_ex_app, st_cut_ex1, st_cut_ex2, hE.2, st_ex_c]
    simp [st_ex, st_ins]
theorem st_replicate_s (a : Nat) (c : Int32) : [c] ++ List.replicate a c = List.replicate (a + 1) c := rfl
/-- two cuts, j first: front, middle, back -/
theorem st_cut2 {rs : List (Nat × Int32)} {i j : Nat} (hp : st_Pos rs) (hij : i < j) (hj : j ≤ (st_ex rs).length) :
    ∃ A Md B, (st_cut ((st_cut rs j).1 ++ (st_cut rs j).2) i).1 = A ∧ (st_cut ((st_cut rs j).1 ++ (st_cut rs j).2) i).2 = Md ++ B ∧ st_Pos A ∧ st_Pos Md ∧ st_Pos B ∧ st_ex A = (st_ex rs).take i ∧ st_ex Md = ((st_ex rs).take j).drop i ∧ st_ex B = (st_ex rs).drop j := by
  have hl : (st_ex (st_cut rs j).1).length = j := by rw [st_cut_ex1, List.length_take, Nat.min_eq_left hj]
  have hc := st_cut_in (A := (st_cut rs j).1) (B := (st_cut rs j).2) (p := i) (by omega)
  have p1 := st_cut_pos (p := j) hp
  have p2 := st_cut_pos (p := i) p1.1
  refine ⟨(st_cut (st_cut rs j).1 i).1, (st_cut (st_cut rs j).1 i).2, (st_cut rs j).2, by rw [hc], by rw [hc], p2.1, p2.2, p1.2, ?_, ?_, ?_⟩
  · rw [st_cut_ex1, st_cut_ex1, List.take_take, Nat.min_eq_left (by omega)]
  · rw [st_cut_ex2, st_cut_ex1]
  · rw [st_cut_ex2]
theorem st_XE_del {k2 : Nat} {size2 : Nat → Nat} {look2 : Nat → Int32} {A B : List (Nat × Int32)} {E : List Int32} {i j : Nat} (hA : st_Pos A) (hB : st_Pos B) (h : st_rl k2 size2 look2 = st_jn (A ++ B)) (e1 : st_ex A = E.take i) (e2 : st_ex B = E.drop j) : st_XE k2 size2 look2 (st_del E i j) := by
  refine ⟨by rw [h]; exact st_Nrm_jn (st_Pos_app hA hB), ?_⟩
  rw [h, st_ex_jn, st_ex_app, e1, e2]; rfl
theorem st_del_same (L : List Int32) (i : Nat) : st_del L i i = L := List.take_append_drop i L
theorem st_ex_nil {M : List (Nat × Int32)} (hp : st_Pos M) (h : (st_ex M).length = 0) : M = [] := by
  cases M with
  | nil => rfl
  | cons a t =>
    have := hp a List.mem_cons_self
    rw [st_ex_cl] at h
    omega
end
section
set_option maxRecDepth 100000
abbrev st_bad (n : Nat) (i j : Int32) : Prop := i < 0 ∨ j < i ∨ ¬ j ≤ nI n
abbrev st_badL (c : Int32) : Prop := c < 0 ∨ ¬ c ≤ nI 25
abbrev st_off (n : Nat) (q : Int32) : Prop := q < 0 ∨ ¬ q < nI n
def st_bits (mask : Int32) : Int32 := if mask < 8 then mask &&& 7 else (mask &&& 7) ||| 56
def st_mix (o b s : Int32) : Int32 := (o &&& (b ^^^ (-1))) ||| (s &&& b)
theorem st_b1 {P : Prop} [Decidable P] {r : Int32} (h : r = if P then 1 else 0) (hr : ¬ r = 0) : P := by
  by_cases q : P
  · exact q
  · rw [if_neg q] at h; exact absurd h hr
theorem st_b0 {P : Prop} [Decidable P] {r : Int32} (h : r = if P then 1 else 0) (hr : r = 0) : ¬ P := by
  intro q
  rw [if_pos q, hr] at h
  exact absurd h (by decide)
theorem st_le_nI {x : Int32} {n : Nat} (hn : n < 2147483648) (h0 : ¬ x < 0) (h : x ≤ nI n) : ∃ j, j ≤ n ∧ x = nI j := nI_of2 (nI_toInt hn) h0 h
theorem st_lt_nI {x : Int32} {n : Nat} (hn : n < 2147483648) (h0 : ¬ x < 0) (h : x < nI n) : ∃ j, j < n ∧ x = nI j := by
  obtain ⟨j, hj, rfl⟩ := nI_of h0
  exact ⟨j, (nI_ltI hj hn).mp h, rfl⟩
theorem st_bad_no {n : Nat} {i j : Int32} (hn : n < 2147483648) (h : ¬ st_bad n i j) : ∃ i' j', i = nI i' ∧ j = nI j' ∧ i' ≤ j' ∧ j' ≤ n := by
  have h1 : ¬ i < 0 := fun q => h (Or.inl q)
  have h2 : ¬ j < i := fun q => h (Or.inr (Or.inl q))
  have h3 : j ≤ nI n := Decidable.byContradiction (fun q => h (Or.inr (Or.inr q)))
  obtain ⟨i', hi', rfl⟩ := nI_of h1
  have h4 : ¬ j < 0 := by
    intro q
    apply h2
    rw [Int32.lt_iff_toInt_lt] at q ⊢
    rw [nI_toInt hi']
    have : (0 : Int32).toInt = 0 := rfl
    omega
  obtain ⟨j', hj', rfl⟩ := st_le_nI hn h4 h3
  refine ⟨i', j', rfl, rfl, ?_, hj'⟩
  rcases Nat.lt_or_ge j' i' with q | q
  · exact absurd ((nI_ltI (by omega) hi').mpr q) h2
  · exact q
theorem st_ci_lt {n g q : Nat} (hn : n ≤ 64) (hg : g ≤ n) (hq : q < n) : st_ci n g q < 64 := by
  unfold st_ci; split <;> omega
theorem st_dec_b {P : Prop} [Decidable P] : (if P then nI 1 else nI 0) = (if P then (1 : Int32) else 0) := by split <;> rfl
/-- the flag behind a deletion -/
def st_dfl (f i j : Nat) : Nat := if j ≤ f then f - (j - i) else if i < f then i else f
theorem st_hold_s {A : List Int32} {i t : Nat} {h : Nat → Int32} {v : Int32} (h1 : ∀ x, x < t → A[i + x]? = some (h x)) (h2 : A[i + t]? = some v) : ∀ x, x < t + 1 → A[i + x]? = some (upd h t v x) := by
  intro x hx
  unfold upd
  split
  · rename_i e; rw [e]; exact h2
  · exact h1 x (by omega)
theorem st_take_s {A : List Int32} {t : Nat} {v : Int32} (h : A[t]? = some v) : A.take t ++ [v] = A.take (t + 1) := by
  rw [List.take_add_one, h]; rfl
theorem st_take_r {A : List Int32} {a x : Nat} {v : Int32} (hax : a ≤ x) (h : ∀ y, a ≤ y → y < x → A[y]? = some v) : A.take a ++ List.replicate (x - a) v = A.take x := by
  apply List.ext_getElem?
  intro i
  rcases Nat.lt_or_ge i a with q | q
  · have hl : i < (A.take a).length ∨ (A.take a).length ≤ i := by omega
    rcases hl with hl | hl
    · rw [List.getElem?_append_left hl, List.getElem?_take, List.getElem?_take, if_pos q, if_pos (by omega)]
    · rcases Nat.lt_or_ge a x with q2 | q2
      · have h3 := h a (Nat.le_refl _) q2
        have h4 : a < A.length := (List.getElem?_eq_some_iff.mp h3).1
        rw [List.length_take] at hl
        omega
      · rw [show x - a = 0 by omega, show x = a by omega]; simp
  · rcases Nat.lt_or_ge i x with q2 | q2
    · have h3 := h i q q2
      have h4 : i < A.length := (List.getElem?_eq_some_iff.mp h3).1
      rw [List.getElem?_append_right (by rw [List.length_take]; omega), List.length_take, Nat.min_eq_left (by omega), List.getElem?_replicate, if_pos (by omega), List.getElem?_take, if_pos q2, h3]
    · rw [List.getElem?_eq_none (by simp; omega), List.getElem?_eq_none (by simp; omega)]
/-- what is at a place of run r, in E -/
theorem st_XE_at {k r q : Nat} {size : Nat → Nat} {look : Nat → Int32} {E : List Int32} (hE : st_XE k size look E) (hr : r < k) (h1 : st_ps size r ≤ q) (h2 : q < st_ps size r + size r) : E[q]? = some (look r) := by
  rw [← hE.2]; exact st_ex_at hr h1 h2
end
section
set_option maxRecDepth 100000
/-- what both classes hold: letters, styles, the flag -/
abbrev AS : Type := List Int32 × List Int32 × Nat
def st_XR (u : XS) (a : AS) : Prop := st_XL u.1 u.2.1 u.2.2.2.2.2.2.1 a.1 ∧ st_XE u.2.2.1 u.2.2.2.2.2.2.2.1 u.2.2.2.2.2.2.2.2.1 a.2.1 ∧ a.2.1.length = u.1 ∧ u.2.2.2.1 = a.2.2 ∧ u.2.2.2.1 ≤ u.1
def st_AR (n : Nat) (h : Nat → Int32) (L : List Int32) : Prop := L.length = n ∧ ∀ q, q < n → L[q]? = some (h q)
def st_MR (u : MS) (a : AS) : Prop := st_AR u.1 u.2.2.1 a.1 ∧ st_AR u.1 u.2.2.2.1 a.2.1 ∧ u.1 ≤ 64 ∧ u.2.1 = a.2.2 ∧ u.2.1 ≤ u.1
def st_seg (L : List Int32) (i j : Nat) : List Int32 := (L.drop i).take (j - i)
def st_map (E : List Int32) (i j : Nat) (F : Int32 → Int32) : List Int32 := E.take i ++ ((st_seg E i j).map F ++ E.drop j)
def st_oType (q c : Int32) (a : AS) : Int32 × AS :=
  if st_badL c ∨ q < 0 ∨ ¬ q ≤ nI a.1.length then (-1, a) else if a.1.length = 64 then (-2, a) else
  (nI (a.1.length + 1), st_ins a.1 q.toNatClampNeg [c], st_ins a.2.1 q.toNatClampNeg [if a.1.length = 0 then 0 else a.2.1.getD (q.toNatClampNeg - 1) 0], if q.toNatClampNeg < a.2.2 then a.2.2 + 1 else a.2.2)
def st_oPut (q c k v : Int32) (a : AS) : Int32 × AS :=
  if st_badL c ∨ q < 0 ∨ ¬ q ≤ nI a.1.length ∨ k < 0 ∨ ¬ k ≤ nI 64 ∨ v < 0 ∨ ¬ v ≤ nI 63 then (-1, a) else if 64 < a.1.length + k.toNatClampNeg then (-2, a) else
  (nI (a.1.length + k.toNatClampNeg), st_ins a.1 q.toNatClampNeg (List.replicate k.toNatClampNeg c), st_ins a.2.1 q.toNatClampNeg (List.replicate k.toNatClampNeg v), if q.toNatClampNeg < a.2.2 then a.2.2 + k.toNatClampNeg else a.2.2)
def st_oRemove (i j : Int32) (a : AS) : Int32 × AS :=
  if st_bad a.1.length i j then (-1, a) else
  (nI (a.1.length - (j.toNatClampNeg - i.toNatClampNeg)), st_del a.1 i.toNatClampNeg j.toNatClampNeg, st_del a.2.1 i.toNatClampNeg j.toNatClampNeg, st_dfl a.2.2 i.toNatClampNeg j.toNatClampNeg)
def st_mfl (f i j q : Nat) : Nat := if q < st_dfl f i j then st_dfl f i j + (j - i) else st_dfl f i j
def st_oMove (i j q : Int32) (a : AS) : Int32 × AS :=
  if st_bad a.1.length i j ∨ q < 0 ∨ ¬ q ≤ nI (a.1.length - (j.toNatClampNeg - i.toNatClampNeg)) then (-1, a) else
  (0, st_ins (st_del a.1 i.toNatClampNeg j.toNatClampNeg) q.toNatClampNeg (st_seg a.1 i.toNatClampNeg j.toNatClampNeg), st_ins (st_del a.2.1 i.toNatClampNeg j.toNatClampNeg) q.toNatClampNeg (st_seg a.2.1 i.toNatClampNeg j.toNatClampNeg), st_mfl a.2.2 i.toNatClampNeg j.toNatClampNeg q.toNatClampNeg)
def st_oCopy (i j q : Int32) (a : AS) : Int32 × AS :=
  if st_bad a.1.length i j ∨ q < 0 ∨ ¬ q ≤ nI a.1.length then (-1, a) else if 64 < a.1.length + (j.toNatClampNeg - i.toNatClampNeg) then (-2, a) else
  (nI (a.1.length + (j.toNatClampNeg - i.toNatClampNeg)), st_ins a.1 q.toNatClampNeg (st_seg a.1 i.toNatClampNeg j.toNatClampNeg), st_ins a.2.1 q.toNatClampNeg (st_seg a.2.1 i.toNatClampNeg j.toNatClampNeg), if q.toNatClampNeg < a.2.2 then a.2.2 + (j.toNatClampNeg - i.toNatClampNeg) else a.2.2)
def st_cnt (E : List Int32) (F : Int32 → Int32) : Nat := E.countP (fun e => decide (F e ≠ e))
def st_oStyle (i j mask v : Int32) (a : AS) : Int32 × AS :=
  if st_bad a.1.length i j ∨ mask < 0 ∨ ¬ mask ≤ nI 15 ∨ v < 0 ∨ ¬ v ≤ nI 63 then (-1, a) else
  (nI (st_cnt (st_seg a.2.1 i.toNatClampNeg j.toNatClampNeg) (fun e => st_mix e (st_bits mask) v)), a.1, st_map a.2.1 i.toNatClampNeg j.toNatClampNeg (fun e => st_mix e (st_bits mask) v), a.2.2)
def st_all (E : List Int32) (bit : Int32) : Bool := E.all (fun e => decide (¬ e &&& bit = 0))
def st_oToggle (i j bit : Int32) (a : AS) : Int32 × AS :=
  if st_bad a.1.length i j ∨ (¬ bit = 1 ∧ ¬ bit = 2 ∧ ¬ bit = 4) then (-1, a) else
  (if st_all (st_seg a.2.1 i.toNatClampNeg j.toNatClampNeg) bit = true then 0 else 1, a.1, st_map a.2.1 i.toNatClampNeg j.toNatClampNeg (fun e => st_mix e bit (if st_all (st_seg a.2.1 i.toNatClampNeg j.toNatClampNeg) bit = true then 0 else bit)), a.2.2)
def st_oReplace (c v : Int32) (a : AS) : Int32 × AS :=
  if st_badL c ∨ st_badL v then (-1, a) else (nI (a.1.countP (fun x => decide (x = c))), a.1.map (fun x => if x = c then v else x), a.2)
def st_oLength (a : AS) : Int32 × AS := (nI a.1.length, a)
def st_oLetter (q : Int32) (a : AS) : Int32 × AS := (if st_off a.1.length q then -4 else a.1.getD q.toNatClampNeg 0, a)
def st_oStyleAt (q : Int32) (a : AS) : Int32 × AS := (if st_off a.1.length q then -4 else a.2.1.getD q.toNatClampNeg 0, a)
/-- a run begins at place q -/
def st_bg (E : List Int32) (q : Nat) : Bool := decide (q = 0) || decide (¬ E[q]? = E[q - 1]?)
/-- how many runs begin before place q -/
def st_nb (E : List Int32) : Nat → Nat
  | 0 => 0
  | q + 1 => if st_bg E q = true then st_nb E q + 1 else st_nb E q
/-- where run r begins -/
def st_rb (E : List Int32) (r : Int32) : Option Nat := (List.range E.length).find? (fun p => st_bg E p && decide (nI (st_nb E p) = r))
def st_oRuns (a : AS) : Int32 × AS := (nI (st_nb a.2.1 a.2.1.length), a)
def st_oRunBegin (r : Int32) (a : AS) : Int32 × AS := (match st_rb a.2.1 r with | none => -4 | some p => nI p, a)
def st_oRunStyle (r : Int32) (a : AS) : Int32 × AS := (match st_rb a.2.1 r with | none => -4 | some p => a.2.1.getD p 0, a)
def st_oRunOf (q : Int32) (a : AS) : Int32 × AS := (if st_off a.1.length q then -4 else nI (st_nb a.2.1 (q.toNatClampNeg + 1) - 1), a)
def st_oHaving (bits : Int32) (a : AS) : Int32 × AS := (if bits < 0 ∨ ¬ bits ≤ nI 7 then -1 else nI (a.2.1.countP (fun e => decide (e &&& bits = bits))), a)
def st_oSetFlag (g : Int32) (a : AS) : Int32 × AS := if g < 0 ∨ ¬ g ≤ nI a.1.length then (-1, a) else (nI a.2.2, a.1, a.2.1, g.toNatClampNeg)
def st_oFlag (a : AS) : Int32 × AS := (nI a.2.2, a)
def st_dg (L E : List Int32) : Nat → Int32
  | 0 => 0
  | q + 1 => st_dg L E q + nI (q + 1) * (nI 64 * L.getD q 0 + E.getD q 0)
def st_oDigest (a : AS) : Int32 × AS := (st_dg a.1 a.2.1 a.1.length, a)
/-! small laws of these -/
theorem st_getD {L : List Int32} {q : Nat} {v : Int32} (h : L[q]? = some v) : L.getD q 0 = v := by
  rw [List.getD_eq_getElem?_getD, h]; rfl
theorem st_seg_len {L : List Int32} {i j : Nat} (hij : i ≤ j) (hj : j ≤ L.length) : (st_seg L i j).length = j - i := by
  unfold st_seg; simp; omega
theorem st_seg_get {L : List Int32} {i j x : Nat} (hx : x < j - i) : (st_seg L i j)[x]? = L[i + x]? := by
  unfold st_seg
  rw [List.getElem?_take, if_pos hx, List.getElem?_drop]
theorem st_seg_eq (L : List Int32) (i j : Nat) : (L.take j).drop i = st_seg L i j := by
  unfold st_seg; rw [List.drop_take]
theorem st_map_len {E : List Int32} {i j : Nat} {F : Int32 → Int32} (hij : i ≤ j) (hj : j ≤ E.length) : (st_map E i j F).length = E.length := by
  unfold st_map; rw [List.length_append, List.length_append, List.length_map, st_seg_len hij hj]; simp; omega
theorem st_map_same (E : List Int32) (i : Nat) (F : Int32 → Int32) : st_map E i i F = E := by
  unfold st_map st_seg; simp
theorem st_map_get {E : List Int32} {i j : Nat} {F : Int32 → Int32} (hij : i ≤ j) (hj : j ≤ E.length) (q : Nat) : (st_map E i j F)[q]? = if i ≤ q ∧ q < j then (E[q]?).map F else E[q]? := by
  unfold st_map
  rw [List.getElem?_append, List.length_take, Nat.min_eq_left (by omega)]
  split
  · rename_i h
    rw [List.getElem?_take, if_pos h, if_neg (by omega)]
  · rename_i h
    rw [List.getElem?_append, List.length_map, st_seg_len hij hj]
    split
    · rename_i h2
      rw [List.getElem?_map, st_seg_get h2, if_pos (by omega), show i + (q - i) = q by omega]
    · rename_i h2
      rw [List.getElem?_drop, if_neg (by omega), show j + (q - i - (j - i)) = q by omega]
theorem st_clamp {n : Nat} (h : n ≤ 64) : (nI n).toNatClampNeg = n := nI_clamp (Nat.lt_of_le_of_lt h (by decide))
theorem st_AR_ext {n : Nat} {h h' : Nat → Int32} {L : List Int32} (hA : st_AR n h L) (he : ∀ q, q < n → h' q = h q) : st_AR n h' L := ⟨hA.1, fun q hq => by rw [he q hq]; exact hA.2 q hq⟩
end
section
set_option maxRecDepth 100000
theorem st_dfl_le {f i j n : Nat} (hij : i ≤ j) (hj : j ≤ n) (hf : f ≤ n) : st_dfl f i j ≤ n - (j - i) := by
  unfold st_dfl; repeat' split
  all_goals omega
theorem st_mfl_le {f i j n q : Nat} (hij : i ≤ j) (hj : j ≤ n) (hf : f ≤ n) : st_mfl f i j q ≤ n - (j - i) + (j - i) := by
  have := st_dfl_le hij hj hf
  unfold st_mfl; split <;> omega
theorem st_off_no {n : Nat} {q : Int32} (hn : n < 2147483648) (h : ¬ st_off n q) : ∃ j, j < n ∧ q = nI j :=
  st_lt_nI hn (fun z => h (Or.inl z)) (Decidable.byContradiction (fun z => h (Or.inr z)))
theorem st_ci_inj {n g a b : Nat} (hn : n ≤ 64) (hg : g ≤ n) (ha : a < n) (hb : b < n) (h : st_ci n g a = st_ci n g b) : a = b := by
  unfold st_ci at h
  split at h <;> split at h <;> omega
theorem st_XL_set {n g t : Nat} {cell : Nat → Int32} {A : List Int32} {v : Int32} (h : st_XL n g cell A) (ht : t < n) : st_XL n g (upd cell (st_ci n g t) v) (A.set t v) := by
  obtain ⟨h1, h2, h3, h4⟩ := h
  refine ⟨by rw [List.length_set]; exact h1, h2, h3, fun q hq => ?_⟩
  unfold upd
  by_cases e : t = q
  · subst e
    rw [List.getElem?_set_self (by omega), if_pos rfl]
  · rw [List.getElem?_set_ne e, if_neg (fun z => e (st_ci_inj h2 h3 ht hq z.symm))]
    exact h4 q hq
/-- the first t places changed by F -/
def st_rp (F : Int32 → Int32) (L : List Int32) (t : Nat) : List Int32 := (L.take t).map F ++ L.drop t
theorem st_rp_get {F : Int32 → Int32} {L : List Int32} {t : Nat} (ht : t ≤ L.length) (q : Nat) : (st_rp F L t)[q]? = if q < t then (L[q]?).map F else L[q]? := by
  unfold st_rp
  rw [List.getElem?_append, List.length_map, List.length_take, Nat.min_eq_left ht]
  split
  · rename_i h
    rw [List.getElem?_map, List.getElem?_take, if_pos h]
  · rename_i h
    rw [List.getElem?_drop, show t + (q - t) = q by omega]
theorem st_rp_len {F : Int32 → Int32} {L : List Int32} {t : Nat} (ht : t ≤ L.length) : (st_rp F L t).length = L.length := by
  unfold st_rp; simp; omega
theorem st_rp_0 (F : Int32 → Int32) (L : List Int32) : st_rp F L 0 = L := by simp [st_rp]
theorem st_rp_n (F : Int32 → Int32) (L : List Int32) : st_rp F L L.length = L.map F := by simp [st_rp]
theorem st_rp_s {F : Int32 → Int32} {L : List Int32} {t : Nat} {x : Int32} (h : L[t]? = some x) : (st_rp F L t).set t (F x) = st_rp F L (t + 1) := by
  have hl : t < L.length := (List.getElem?_eq_some_iff.mp h).1
  apply List.ext_getElem?
  intro q
  rw [st_rp_get (by omega), List.getElem?_set, st_rp_len (by omega), st_rp_get (by omega)]
  by_cases e : t = q
  · subst e
    rw [if_pos rfl, if_pos hl, if_pos (by omega), h]; rfl
  · rw [if_neg e]
    by_cases e2 : q < t
    · rw [if_pos e2, if_pos (by omega)]
    · rw [if_neg e2, if_neg (by omega)]
theorem st_rp_e {F : Int32 → Int32} {L : List Int32} {t : Nat} {x : Int32} (h : L[t]? = some x) (hF : F x = x) : st_rp F L t = st_rp F L (t + 1) := by
  have hl : t < L.length := (List.getElem?_eq_some_iff.mp h).1
  apply List.ext_getElem?
  intro q
  rw [st_rp_get (by omega), st_rp_get (by omega)]
  by_cases e : t = q
  · subst e
    rw [if_neg (by omega), if_pos (by omega), h]
    show some x = some (F x); rw [hF]
  · by_cases e2 : q < t
    · rw [if_pos e2, if_pos (by omega)]
    · rw [if_neg e2, if_neg (by omega)]
theorem st_cnt_s {p : Int32 → Bool} {L : List Int32} {t : Nat} {x : Int32} (h : L[t]? = some x) : (L.take (t + 1)).countP p = (L.take t).countP p + if p x = true then 1 else 0 := by
  rw [← st_take_s h, List.countP_append, List.countP_singleton]
theorem st_cnt_le {p : Int32 → Bool} (L : List Int32) (t : Nat) : (L.take t).countP p ≤ t := Nat.le_trans List.countP_le_length (by rw [List.length_take]; exact Nat.min_le_left _ _)
end
section
set_option maxRecDepth 100000
theorem st_find {size : Nat → Nat} {k q : Nat} (h : q < st_ps size k) : ∃ r, r < k ∧ st_ps size r ≤ q ∧ q < st_ps size r + size r := by
  induction k with
  | zero => exact absurd h (Nat.not_lt_zero _)
  | succ k ih =>
    rcases Nat.lt_or_ge q (st_ps size k) with z | z
    · obtain ⟨r, h1, h2, h3⟩ := ih z
      exact ⟨r, by omega, h2, h3⟩
    · exact ⟨k, by omega, z, h⟩
theorem st_XE_ne {k r : Nat} {size : Nat → Nat} {look : Nat → Int32} {E : List Int32} (hE : st_XE k size look E) (hr : r + 1 < k) : ¬ look r = look (r + 1) :=
  st_Nrm_ne hE.1 (i := r) (a := (size r, look r)) (b := (size (r + 1), look (r + 1))) (by rw [st_rl_get, if_pos (by omega)]) (by rw [st_rl_get, if_pos hr])
theorem st_bg_hd {k r : Nat} {size : Nat → Nat} {look : Nat → Int32} {E : List Int32} (hE : st_XE k size look E) (hr : r < k) : st_bg E (st_ps size r) = true := by
  have hp := st_Pos_rl (st_XE_pos hE)
  unfold st_bg
  rcases r with _ | r
  · rfl
  · have h1 := hp r (by omega)
    have h2 := hp (r + 1) hr
    have h3 := st_ps_s size r
    rw [st_XE_at hE hr (Nat.le_refl _) (by omega), st_XE_at hE (show r < k by omega) (q := st_ps size (r + 1) - 1) (by omega) (by omega)]
    have h4 := st_XE_ne hE hr
    simp
    exact Or.inr (fun z => h4 z.symm)
theorem st_bg_in {k r q : Nat} {size : Nat → Nat} {look : Nat → Int32} {E : List Int32} (hE : st_XE k size look E) (hr : r < k) (h1 : st_ps size r < q) (h2 : q < st_ps size r + size r) : st_bg E q = false := by
  unfold st_bg
  rw [st_XE_at hE hr (by omega) h2, st_XE_at hE hr (q := q - 1) (by omega) (by omega)]
  simp; omega
theorem st_nb_run {k : Nat} {size : Nat → Nat} {look : Nat → Int32} {E : List Int32} (hE : st_XE k size look E) : ∀ q r, r < k → st_ps size r < q → q ≤ st_ps size r + size r → st_nb E q = r + 1 := by
  have hp := st_Pos_rl (st_XE_pos hE)
  intro q
  induction q with
  | zero => intro r _ h; exact absurd h (Nat.not_lt_zero _)
  | succ q ih =>
    intro r hr h1 h2
    rw [st_nb]
    rcases Nat.lt_or_ge (st_ps size r) q with z | z
    · rw [st_bg_in hE hr z (by omega), if_neg (by decide)]
      exact ih r hr z (by omega)
    · have e : q = st_ps size r := by omega
      rw [e, st_bg_hd hE hr, if_pos rfl, ← e]
      rcases r with _ | r
      · rw [show q = 0 from e]; rfl
      · have h3 := st_ps_s size r
        have h4 := hp r (by omega)
        rw [ih r (by omega) (by omega) (by omega)]
theorem st_nb_hd {k r : Nat} {size : Nat → Nat} {look : Nat → Int32} {E : List Int32} (hE : st_XE k size look E) (hr : r ≤ k) : st_nb E (st_ps size r) = r := by
  have hp := st_Pos_rl (st_XE_pos hE)
  rcases r with _ | r
  · rfl
  · have h3 := st_ps_s size r
    have h4 := hp r (by omega)
    exact st_nb_run hE _ r (by omega) (by omega) (by omega)
/-- where a run begins it is a run's first place -/
theorem st_bg_run {k q : Nat} {size : Nat → Nat} {look : Nat → Int32} {E : List Int32} (hE : st_XE k size look E) (hq : q < E.length) (h : st_bg E q = true) : ∃ r, r < k ∧ q = st_ps size r := by
  rw [← st_XE_len hE] at hq
  obtain ⟨r, h1, h2, h3⟩ := st_find hq
  refine ⟨r, h1, ?_⟩
  rcases Nat.lt_or_ge (st_ps size r) q with z | z
  · rw [st_bg_in hE h1 z h3] at h; exact absurd h (by decide)
  · omega
theorem st_rb_some {k r : Nat} {size : Nat → Nat} {look : Nat → Int32} {E : List Int32} (hE : st_XE k size look E) (hl : E.length ≤ 64) (hr : r < k) : st_rb E (nI r) = some (st_ps size r) := by
  have hk := st_XE_k hE
  have hp := st_Pos_rl (st_XE_pos hE)
  have h1 := hp r hr
  have h2 := st_ps_le size (show r + 1 ≤ k by omega)
  have h3 := st_ps_s size r
  have h4 := st_XE_len hE
  unfold st_rb
  rw [List.find?_range_eq_some]
  refine ⟨by rw [st_bg_hd hE hr, st_nb_hd hE (Nat.le_of_lt hr)]; simp, List.mem_range.mpr (by omega), fun j hj => ?_⟩
  cases hb : st_bg E j with
  | false => rfl
  | true =>
    obtain ⟨x, hx, rfl⟩ := st_bg_run hE (by omega) hb
    rw [st_nb_hd hE (Nat.le_of_lt hx)]
    have : ¬ nI x = nI r := by
      rw [nI_eq (by omega) (by omega)]
      intro z; rw [z] at hj; exact Nat.lt_irrefl _ hj
    simp [this]
theorem st_rb_none {k : Nat} {r : Int32} {size : Nat → Nat} {look : Nat → Int32} {E : List Int32} (hE : st_XE k size look E) (hl : E.length ≤ 64) (hr : r < 0 ∨ ¬ r < nI k) : st_rb E r = none := by
  have hk := st_XE_k hE
  unfold st_rb
  rw [List.find?_eq_none]
  intro p hp
  have hp := List.mem_range.mp hp
  cases hb : st_bg E p with
  | false => simp
  | true =>
    obtain ⟨x, hx, rfl⟩ := st_bg_run hE hp hb
    rw [st_nb_hd hE (Nat.le_of_lt hx)]
    have : ¬ nI x = r := by
      intro z
      rw [← z] at hr
      rcases hr with hr | hr
      · exact nI_pos (show x < 2 ^ 31 by omega) hr
      · exact hr ((nI_ltI (by omega) (by omega)).mpr hx)
    simp [this]
theorem st_ex_take {k r : Nat} (size : Nat → Nat) (look : Nat → Int32) : st_ex (st_rl (r + 1) size look) = st_ex (st_rl r size look) ++ List.replicate (size r) (look r) := by
  rw [st_rl_s, st_ex_app, st_ex_c]; simp [st_ex]
theorem st_cp_s (p : Int32 → Bool) (r : Nat) (size : Nat → Nat) (look : Nat → Int32) : (st_ex (st_rl (r + 1) size look)).countP p = (st_ex (st_rl r size look)).countP p + if p (look r) = true then size r else 0 := by
  rw [st_ex_take (k := r), List.countP_append, List.countP_replicate]
theorem st_cp_le (p : Int32 → Bool) (r : Nat) (size : Nat → Nat) (look : Nat → Int32) : (st_ex (st_rl r size look)).countP p ≤ st_ps size r := by
  rw [← st_ex_rl r size look]; exact List.countP_le_length
/-! style: the middle runs changed -/
def st_mp (F : Int32 → Int32) (M : List (Nat × Int32)) : List (Nat × Int32) := M.map (fun a => (a.1, F a.2))
theorem st_ex_mp (F : Int32 → Int32) (M : List (Nat × Int32)) : st_ex (st_mp F M) = (st_ex M).map F := by
  induction M with
  | nil => rfl
  | cons a t ih =>
    show st_ex ((a.1, F a.2) :: st_mp F t) = _
    rw [st_ex_c, ih, st_ex_c, List.map_append, List.map_replicate]
theorem st_mp_pos {F : Int32 → Int32} {M : List (Nat × Int32)} (h : st_Pos M) : st_Pos (st_mp F M) := by
  intro a ha
  obtain ⟨b, hb, rfl⟩ := List.mem_map.mp ha
  exact h b hb
theorem st_rl_look {k : Nat} {sz : Nat → Nat} {lk : Nat → Int32} {A B : List (Nat × Int32)} {x : Nat × Int32} {v : Int32} (h : st_rl k sz lk = A ++ x :: B) : st_rl k sz (upd lk A.length v) = A ++ (x.1, v) :: B := by
  obtain ⟨h1, h2, h3⟩ := st_rl_nth h
  have hl : k = (A ++ x :: B).length := by rw [← h, st_rl_len]
  refine st_rl_ext (by rw [hl]; simp) (fun i hi => ?_)
  have hg : (A ++ x :: B)[i]? = some (sz i, lk i) := by rw [← h, st_rl_get, if_pos hi]
  unfold upd
  rcases Nat.lt_trichotomy i A.length with z | z | z
  · rw [List.getElem?_append_left z] at hg ⊢
    rw [hg, if_neg (by omega)]
  · subst z
    rw [List.getElem?_append_right (Nat.le_refl _), Nat.sub_self, if_pos rfl, h2]; rfl
  · rw [List.getElem?_append_right (by omega)] at hg ⊢
    rw [if_neg (by omega), ← hg]
    obtain ⟨y, hy⟩ : ∃ y, i - A.length = y + 1 := ⟨i - A.length - 1, by omega⟩
    rw [hy]; rfl
theorem st_XE_sty {k2 : Nat} {size2 : Nat → Nat} {look2 : Nat → Int32} {A Md B : List (Nat × Int32)} {E : List Int32} {i j : Nat} {F : Int32 → Int32} (hA : st_Pos A) (hM : st_Pos Md) (hB : st_Pos B) (h : st_rl k2 size2 look2 = st_jn (A ++ (st_mp F Md ++ B))) (e1 : st_ex A = E.take i) (e2 : st_ex Md = st_seg E i j) (e3 : st_ex B = E.drop j) : st_XE k2 size2 look2 (st_map E i j F) := by
  refine ⟨by rw [h]; exact st_Nrm_jn (st_Pos_app hA (st_Pos_app (st_mp_pos hM) hB)), ?_⟩
  rw [h, st_ex_jn, st_ex_app, st_ex_app, st_ex_mp, e1, e2, e3]; rfl
theorem st_cnt_x (F : Int32 → Int32) (M : List (Nat × Int32)) (x : Nat × Int32) : st_cnt (st_ex (M ++ [x])) F = st_cnt (st_ex M) F + if F x.2 = x.2 then 0 else x.1 := by
  unfold st_cnt
  rw [st_ex_app, List.countP_append, st_ex_c, List.countP_append, List.countP_replicate]
  simp [st_ex]
theorem st_mp_s (F : Int32 → Int32) (M : List (Nat × Int32)) (x : Nat × Int32) : st_mp F (M ++ [x]) = st_mp F M ++ [(x.1, F x.2)] := by
  simp [st_mp]
theorem st_mp_len (F : Int32 → Int32) (M : List (Nat × Int32)) : (st_mp F M).length = M.length := by simp [st_mp]
theorem st_cnt_len (E : List Int32) (F : Int32 → Int32) : st_cnt E F ≤ E.length := List.countP_le_length
theorem st_all_t {E : List Int32} {i j : Nat} {bit : Int32} (hij : i ≤ j) (hj : j ≤ E.length) (h : ∀ q, i ≤ q → q < j → ∃ e, E[q]? = some e ∧ ¬ e &&& bit = 0) : st_all (st_seg E i j) bit = true := by
  unfold st_all
  rw [List.all_eq_true]
  intro e he
  obtain ⟨x, hx⟩ := List.getElem?_of_mem he
  have hl : x < j - i := by rw [← st_seg_len hij hj]; exact (List.getElem?_eq_some_iff.mp hx).1
  rw [st_seg_get hl] at hx
  obtain ⟨e2, h1, h2⟩ := h (i + x) (by omega) (by omega)
  rw [hx] at h1
  cases h1
  exact decide_eq_true h2
theorem st_all_f {E : List Int32} {i j q : Nat} {bit e : Int32} (h1 : i ≤ q) (h2 : q < j) (h3 : E[q]? = some e) (h4 : e &&& bit = 0) : st_all (st_seg E i j) bit = false := by
  unfold st_all
  rw [List.all_eq_false]
  refine ⟨e, List.mem_of_getElem? (i := q - i) (by rw [st_seg_get (by omega), show i + (q - i) = q by omega]; exact h3), ?_⟩
  simp [h4]
theorem st_bits_b {bit : Int32} (h : bit = 1 ∨ bit = 2 ∨ bit = 4) : st_bits bit = bit := by
  rcases h with rfl | rfl | rfl <;> decide
end
section
set_option maxRecDepth 100000
theorem st_c0 {P : Prop} [Decidable P] {r : Int32} (h : r = if P then 0 else 1) (hr : r = 0) : P := by
  by_cases q : P
  · exact q
  · rw [if_neg q, hr] at h; exact absurd h (by decide)
theorem st_c1x {P : Prop} [Decidable P] {r : Int32} (h : r = if P then 0 else 1) (hr : ¬ r = 0) : ¬ P := by
  intro q
  rw [if_pos q] at h; exact hr h
/-- open's loop at j -/
def st_op (h : Nat → Int32) (n j a : Nat) : Nat → Int32 := fun x => if j + a ≤ x ∧ x < n + a then h (x - a) else h x
theorem st_op_0 (h : Nat → Int32) (n a : Nat) : h = st_op h n n a := by
  funext x; dsimp only [st_op]; split
  · exfalso; omega
  · rfl
theorem st_op_s {h : Nat → Int32} {n i a : Nat} (hi : i + 1 ≤ n) : upd (st_op h n (i + 1) a) (i + a) (st_op h n (i + 1) a i) = st_op h n i a := by
  funext x; dsimp only [upd, st_op]
  repeat' split
  all_goals first | rfl | (exfalso; omega) | (congr 1; omega)
/-- keep's loop at t -/
def st_kp (h k : Nat → Int32) (i t : Nat) : Nat → Int32 := fun x => if x < t - i then h (i + x) else k x
theorem st_kp_0 (h k : Nat → Int32) (i : Nat) : k = st_kp h k i i := by
  funext x; dsimp only [st_kp]; split
  · exfalso; omega
  · rfl
theorem st_kp_s {h k : Nat → Int32} {i t : Nat} (hi : i ≤ t) : upd (st_kp h k i t) (t - i) (h t) = st_kp h k i (t + 1) := by
  funext x; dsimp only [upd, st_kp]
  repeat' split
  all_goals first | rfl | (exfalso; omega) | (congr 1; omega)
/-- putKept's loop at t; put's -/
def st_pk (h k : Nat → Int32) (q t : Nat) : Nat → Int32 := fun x => if q ≤ x ∧ x < q + t then k (x - q) else h x
theorem st_pk_0 (h k : Nat → Int32) (q : Nat) : h = st_pk h k q 0 := by
  funext x; dsimp only [st_pk]; split
  · exfalso; omega
  · rfl
theorem st_pk_s {h k : Nat → Int32} {q t : Nat} : upd (st_pk h k q t) (q + t) (k t) = st_pk h k q (t + 1) := by
  funext x; dsimp only [upd, st_pk]
  repeat' split
  all_goals first | rfl | (exfalso; omega) | (congr 1; omega)
/-- remove's loop at t -/
def st_dl (h : Nat → Int32) (i j t : Nat) : Nat → Int32 := fun x => if i ≤ x ∧ x < t - (j - i) then h (x + (j - i)) else h x
theorem st_dl_0 {h : Nat → Int32} {i j : Nat} (hij : i ≤ j) : h = st_dl h i j j := by
  funext x; dsimp only [st_dl]; split
  · exfalso; omega
  · rfl
theorem st_dl_s {h : Nat → Int32} {i j t : Nat} (hij : i ≤ j) (ht : j ≤ t) : upd (st_dl h i j t) (t - (j - i)) (st_dl h i j t t) = st_dl h i j (t + 1) := by
  funext x; dsimp only [upd, st_dl]
  repeat' split
  all_goals first | rfl | (exfalso; omega) | (congr 1; omega)
/-- setParts' loop at t -/
def st_mf (F : Int32 → Int32) (h : Nat → Int32) (i t : Nat) : Nat → Int32 := fun x => if i ≤ x ∧ x < t then F (h x) else h x
theorem st_mf_0 (F : Int32 → Int32) (h : Nat → Int32) (i : Nat) : h = st_mf F h i i := by
  funext x; dsimp only [st_mf]; split
  · exfalso; omega
  · rfl
theorem st_mf_at {F : Int32 → Int32} {h : Nat → Int32} {i t : Nat} : st_mf F h i t t = h t := by
  unfold st_mf; rw [if_neg (by omega)]
theorem st_mf_s {F : Int32 → Int32} {h : Nat → Int32} {i t : Nat} (hi : i ≤ t) : upd (st_mf F h i t) t (F (h t)) = st_mf F h i (t + 1) := by
  funext x; dsimp only [upd, st_mf]
  by_cases e : x = t
  · subst e; rw [if_pos rfl, if_pos (by omega)]
  · rw [if_neg e]
    by_cases e2 : i ≤ x ∧ x < t
    · rw [if_pos e2, if_pos (by omega)]
    · rw [if_neg e2, if_neg (by omega)]
theorem st_AR_ins {n a q : Nat} {h h' : Nat → Int32} {L K : List Int32} (hA : st_AR n h L) (hq : q ≤ n) (hK : K.length = a) (h1 : ∀ x, x < q → h' x = h x) (h2 : ∀ x, x < a → K[x]? = some (h' (q + x))) (h3 : ∀ x, q ≤ x → x < n → h' (x + a) = h x) : st_AR (n + a) h' (st_ins L q K) := by
  obtain ⟨hl, hg⟩ := hA
  refine ⟨by rw [st_ins_len (by omega), hl, hK], fun x hx => ?_⟩
  rw [st_ins_get (by omega), hK]
  split
  · rename_i z
    rw [h1 x z]; exact hg x (by omega)
  · rename_i z
    split
    · rename_i z2
      rw [h2 (x - q) (by omega), show q + (x - q) = x by omega]
    · rename_i z2
      rw [hg (x - a) (by omega), ← h3 (x - a) (by omega) (by omega), show x - a + a = x by omega]
theorem st_AR_pk {n a q : Nat} {h k : Nat → Int32} {L K : List Int32} (hA : st_AR n h L) (hq : q ≤ n) (hK : K.length = a) (hk : ∀ x, x < a → K[x]? = some (k x)) : st_AR (n + a) (st_pk (st_op h n q a) k q a) (st_ins L q K) := by
  refine st_AR_ins hA hq hK (fun x hx => ?_) (fun x hx => ?_) (fun x h1 h2 => ?_)
  · unfold st_pk st_op; rw [if_neg (by omega), if_neg (by omega)]
  · rw [hk x hx]; unfold st_pk; rw [if_pos (by omega), show q + x - q = x by omega]
  · unfold st_pk st_op; rw [if_neg (by omega), if_pos (by omega), Nat.add_sub_cancel]
theorem st_AR_one {n q : Nat} {h : Nat → Int32} {L : List Int32} {v : Int32} (hA : st_AR n h L) (hq : q ≤ n) : st_AR (n + 1) (upd (st_op h n q 1) q v) (st_ins L q [v]) := by
  refine st_AR_ins hA hq rfl (fun x hx => ?_) (fun x hx => ?_) (fun x h1 h2 => ?_)
  · unfold upd st_op; rw [if_neg (by omega), if_neg (by omega)]
  · rw [show x = 0 by omega]; unfold upd; rw [if_pos (by omega)]; rfl
  · unfold upd st_op; rw [if_neg (by omega), if_pos (by omega), Nat.add_sub_cancel]
theorem st_AR_del {n i j : Nat} {h : Nat → Int32} {L : List Int32} (hA : st_AR n h L) (hij : i ≤ j) (hj : j ≤ n) : st_AR (n - (j - i)) (st_dl h i j n) (st_del L i j) := by
  obtain ⟨hl, hg⟩ := hA
  refine ⟨by rw [st_del_len hij (by omega), hl], fun x hx => ?_⟩
  rw [st_del_get hij (by omega)]
  unfold st_dl
  by_cases z : x < i
  · rw [if_pos z, if_neg (by omega)]; exact hg x (by omega)
  · rw [if_neg z, if_pos (by omega)]; exact hg _ (by omega)
theorem st_AR_map {n i j : Nat} {F : Int32 → Int32} {h : Nat → Int32} {E : List Int32} (hA : st_AR n h E) (hij : i ≤ j) (hj : j ≤ n) : st_AR n (st_mf F h i j) (st_map E i j F) := by
  obtain ⟨hl, hg⟩ := hA
  refine ⟨by rw [st_map_len hij (by omega), hl], fun x hx => ?_⟩
  rw [st_map_get hij (by omega)]
  unfold st_mf
  by_cases z : i ≤ x ∧ x < j
  · rw [if_pos z, if_pos z, hg x hx]; rfl
  · rw [if_neg z, if_neg z, hg x hx]
theorem st_AR_set {n t : Nat} {h : Nat → Int32} {L : List Int32} {v : Int32} (hA : st_AR n h L) (ht : t < n) : st_AR n (upd h t v) (L.set t v) := by
  obtain ⟨hl, hg⟩ := hA
  refine ⟨by rw [List.length_set]; exact hl, fun x hx => ?_⟩
  unfold upd
  by_cases e : t = x
  · subst e; rw [List.getElem?_set_self (by omega), if_pos rfl]
  · rw [List.getElem?_set_ne e, if_neg (fun z => e z.symm)]; exact hg x hx
theorem st_seg_s {E : List Int32} {i t : Nat} {v : Int32} (hi : i ≤ t) (h : E[t]? = some v) : st_seg E i (t + 1) = st_seg E i t ++ [v] := by
  unfold st_seg
  rw [show t + 1 - i = t - i + 1 by omega, List.take_add_one, List.getElem?_drop, show i + (t - i) = t by omega, h]; rfl
theorem st_cnt_seg {E : List Int32} {i t : Nat} {v : Int32} {F : Int32 → Int32} (hi : i ≤ t) (h : E[t]? = some v) : st_cnt (st_seg E i (t + 1)) F = st_cnt (st_seg E i t) F + if F v = v then 0 else 1 := by
  unfold st_cnt
  rw [st_seg_s hi h, List.countP_append, List.countP_singleton]
  by_cases e : F v = v <;> simp [e]
theorem st_cnt_seg_le {E : List Int32} {i t : Nat} {F : Int32 → Int32} : st_cnt (st_seg E i t) F ≤ t := Nat.le_trans (st_cnt_len _ _) (by unfold st_seg; rw [List.length_take]; omega)
theorem st_nb_le (E : List Int32) (t : Nat) : st_nb E t ≤ t := by
  induction t with
  | zero => exact Nat.le_refl _
  | succ t ih => rw [st_nb]; split <;> omega
theorem st_bg_M {n q : Nat} {sy : Nat → Int32} {E : List Int32} (hB : st_AR n sy E) (hq : q < n) : (st_bg E q = true) ↔ (q = 0 ∨ ¬ sy q = sy (q - 1)) := by
  unfold st_bg
  rw [hB.2 q hq, hB.2 (q - 1) (by omega)]
  simp
theorem st_bits_lo {mask : Int32} (h0 : ¬ mask < 0) (h1 : mask ≤ nI 15) (h2 : ¬ 8 ≤ mask) : st_bits mask = mask := by
  obtain ⟨a, ha, rfl⟩ := st_le_nI (by decide) h0 h1
  have key : ∀ a : Fin 16, ¬ 8 ≤ nI a.val → st_bits (nI a.val) = nI a.val := by decide
  exact key ⟨a, by omega⟩ h2
theorem st_bits_hi {mask : Int32} (h0 : ¬ mask < 0) (h1 : mask ≤ nI 15) (h2 : 8 ≤ mask) : st_bits mask = (mask &&& 7) + 56 := by
  obtain ⟨a, ha, rfl⟩ := st_le_nI (by decide) h0 h1
  have key : ∀ a : Fin 16, 8 ≤ nI a.val → st_bits (nI a.val) = (nI a.val &&& 7) + 56 := by decide
  exact key ⟨a, by omega⟩ h2
theorem st_nb1 (E : List Int32) (q : Nat) : 1 ≤ st_nb E (q + 1) := by
  induction q with
  | zero => exact Nat.le_refl 1
  | succ q ih => rw [st_nb]; split <;> omega
theorem st_rbM_some {E : List Int32} {v : Int32} {t : Nat} (ht : t < E.length) (hb : st_bg E t = true) (hv : nI (st_nb E t) = v) (hno : ∀ p, p < t → ¬ (st_bg E p = true ∧ nI (st_nb E p) = v)) : st_rb E v = some t := by
  unfold st_rb
  rw [List.find?_range_eq_some]
  refine ⟨by rw [hb, hv]; simp, List.mem_range.mpr ht, fun j hj => ?_⟩
  have h := hno j hj
  cases hbj : st_bg E j with
  | false => rfl
  | true =>
    have : ¬ nI (st_nb E j) = v := fun z => h ⟨hbj, z⟩
    simp [this]
theorem st_rbM_none {E : List Int32} {v : Int32} (hno : ∀ p, p < E.length → ¬ (st_bg E p = true ∧ nI (st_nb E p) = v)) : st_rb E v = none := by
  unfold st_rb
  rw [List.find?_eq_none]
  intro p hp
  have h := hno p (List.mem_range.mp hp)
  cases hb : st_bg E p with
  | false => simp
  | true =>
    have : ¬ nI (st_nb E p) = v := fun z => h ⟨hb, z⟩
    simp [this]
theorem st_rb_lt {E : List Int32} {v : Int32} {t : Nat} (h : st_rb E v = some t) : t < E.length := by
  unfold st_rb at h
  exact List.mem_range.mp (List.mem_of_find?_eq_some h)
theorem st_d_add (a : Nat) : nI a - nI 1 + nI 1 = nI (a + 1) - nI 1 := by
  rw [dn_succ, Int32.sub_add_cancel]
end
section
set_option maxRecDepth 100000
set_option maxHeartbeats 4000000 in
/-- isLetter(c) -/
theorem mm_isLetter (l : Launch) (n f : Nat) (le sy kL kS : Nat → Int32) (v : Int32) : MMi l yX1_isLetter cX1_isLetter 2 .boolean (st_rm 0 0) [.int v] (n, f, le, sy, kL, kS) (fun r u => u = (n, f, le, sy, kL, kS) ∧ r = if st_badL v then 0 else 1) := by
  intro D ad ca
  refine g_enter_i RX1 rfl (by decide +kernel) (Nat.le_of_ble_eq_true rfl) ?_
  intro p e s m below meth c A Q args ls C w hl hend
  have hx := C.1
  have hb := C.2.1
  have hl : lv_has ls 2 [(0, .ref (ad 0)), (1, .int v)] := hl
  refine lv_iload_n hx hb dX1_isLetter_0 rfl (lv_at hl 1 rfl) ?_
  refine lv_if_lt (tgt := 14) hx hb dX1_isLetter_1 (by decide) (fun c1 => ?_) (fun c1 => ?_)
  · refine lv_iconst (v := nI 0) hx hb dX1_isLetter_14 (by decide) ?_
    exact hend _ _ _ _ ((nI 0)) (n, f, le, sy, kL, kS) (⟨rfl, by rw [if_pos (Or.inl c1)]; rfl⟩) w (by decide) dX1_isLetter_15
  · refine lv_iload_n hx hb dX1_isLetter_4 rfl (lv_at hl 1 rfl) ?_
    refine lv_bipush (v := nI 25) hx hb dX1_isLetter_5 (by decide) ?_
    refine lv_icmp_gt (tgt := 14) hx hb dX1_isLetter_7 (by decide) (fun c7 => ?_) (fun c7 => ?_)
    · refine lv_iconst (v := nI 0) hx hb dX1_isLetter_14 (by decide) ?_
      exact hend _ _ _ _ ((nI 0)) (n, f, le, sy, kL, kS) (⟨rfl, by rw [if_pos (Or.inr (Int32.not_le.mpr c7))]; rfl⟩) w (by decide) dX1_isLetter_15
    · refine lv_iconst (v := nI 1) hx hb dX1_isLetter_10 (by decide) ?_
      refine lv_goto (tgt := 15) hx hb dX1_isLetter_11 (by decide) ?_
      exact hend _ _ _ _ ((nI 1)) (n, f, le, sy, kL, kS) (⟨rfl, by rw [if_neg (fun q => q.elim c1 (fun q => q (Int32.not_lt.mp c7)))]; rfl⟩) w (by decide) dX1_isLetter_15
set_option maxHeartbeats 4000000 in
/-- isStretch(i, j) -/
theorem mm_isStretch (l : Launch) (n f : Nat) (le sy kL kS : Nat → Int32) (i j : Int32) : MMi l yX1_isStretch cX1_isStretch 3 .boolean (st_rm 0 0) [.int i, .int j] (n, f, le, sy, kL, kS) (fun r u => u = (n, f, le, sy, kL, kS) ∧ r = if st_bad n i j then 0 else 1) := by
  intro D ad ca
  refine g_enter_i RX1 rfl (by decide +kernel) (Nat.le_of_ble_eq_true rfl) ?_
  intro p e s m below meth c A Q args ls C w hl hend
  have hx := C.1
  have hb := C.2.1
  have hl : lv_has ls 3 [(0, .ref (ad 0)), (1, .int i), (2, .int j)] := hl
  refine lv_iload_n hx hb dX1_isStretch_0 rfl (lv_at hl 1 rfl) ?_
  refine lv_if_lt (tgt := 21) hx hb dX1_isStretch_1 (by decide) (fun c1 => ?_) (fun c1 => ?_)
  · refine lv_iconst (v := nI 0) hx hb dX1_isStretch_21 (by decide) ?_
    exact hend _ _ _ _ ((nI 0)) (n, f, le, sy, kL, kS) (⟨rfl, by rw [if_pos (Or.inl c1)]; rfl⟩) w (by decide) dX1_isStretch_22
  · refine lv_iload_n hx hb dX1_isStretch_4 rfl (lv_at hl 1 rfl) ?_
    refine lv_iload_n hx hb dX1_isStretch_5 rfl (lv_at hl 2 rfl) ?_
    refine lv_icmp_gt (tgt := 21) hx hb dX1_isStretch_6 (by decide) (fun c6 => ?_) (fun c6 => ?_)
    · refine lv_iconst (v := nI 0) hx hb dX1_isStretch_21 (by decide) ?_
      exact hend _ _ _ _ ((nI 0)) (n, f, le, sy, kL, kS) (⟨rfl, by rw [if_pos (Or.inr (Or.inl c6))]; rfl⟩) w (by decide) dX1_isStretch_22
    · refine lv_iload_n hx hb dX1_isStretch_9 rfl (lv_at hl 2 rfl) ?_
      refine lv_aload_n hx hb dX1_isStretch_10 rfl (lv_at hl 0 rfl) ?_
      refine m_get C w 2 (v := .int (nI n)) q243 (by decide) rfl dX1_isStretch_11 ?_
      refine lv_icmp_gt (tgt := 21) hx hb dX1_isStretch_14 (by decide) (fun c14 => ?_) (fun c14 => ?_)
      · refine lv_iconst (v := nI 0) hx hb dX1_isStretch_21 (by decide) ?_
        exact hend _ _ _ _ ((nI 0)) (n, f, le, sy, kL, kS) (⟨rfl, by rw [if_pos (Or.inr (Or.inr (Int32.not_le.mpr c14)))]; rfl⟩) w (by decide) dX1_isStretch_22
      · refine lv_iconst (v := nI 1) hx hb dX1_isStretch_17 (by decide) ?_
        refine lv_goto (tgt := 22) hx hb dX1_isStretch_18 (by decide) ?_
        exact hend _ _ _ _ ((nI 1)) (n, f, le, sy, kL, kS) (⟨rfl, by rw [if_neg (fun q => q.elim c1 (fun q => q.elim c6 (fun q => q (Int32.not_lt.mp c14))))]; rfl⟩) w (by decide) dX1_isStretch_22
set_option maxHeartbeats 4000000 in
/-- isBegin(p) -/
theorem mm_isBegin (l : Launch) (n f : Nat) (le sy kL kS : Nat → Int32) (q : Nat) (E : List Int32) (hB : st_AR n sy E) (hq : q < n) (hn : n ≤ 64) : MMi l yX1_isBegin cX1_isBegin 2 .boolean (st_rm 0 0) [.int (nI q)] (n, f, le, sy, kL, kS) (fun r u => u = (n, f, le, sy, kL, kS) ∧ r = if st_bg E q = true then 1 else 0) := by
  intro D ad ca
  refine g_enter_i RX1 rfl (by decide +kernel) (Nat.le_of_ble_eq_true rfl) ?_
  intro p e s m below meth c A Q args ls C w hl hend
  have hx := C.1
  have hb := C.2.1
  have hl : lv_has ls 2 [(0, .ref (ad 0)), (1, .int (nI q))] := hl
  refine lv_iload_n hx hb dX1_isBegin_0 rfl (lv_at hl 1 rfl) ?_
  refine n_if_eq (tgt := 21) hx hb dX1_isBegin_1 (by decide) (by omega) (fun c1 => ?_) (fun c1 => ?_)
  · refine lv_iconst (v := nI 1) hx hb dX1_isBegin_21 (by decide) ?_
    refine lv_goto (tgt := 26) hx hb dX1_isBegin_22 (by decide) ?_
    exact hend _ _ _ _ ((nI 1)) (n, f, le, sy, kL, kS) (⟨rfl, by rw [if_pos ((st_bg_M hB hq).mpr (Or.inl c1))]; rfl⟩) w (by decide) dX1_isBegin_26
  · refine lv_aload_n hx hb dX1_isBegin_4 rfl (lv_at hl 0 rfl) ?_
    refine m_get C w 1 (v := .ref (ad 2)) q242 (by decide) rfl dX1_isBegin_5 ?_
    refine lv_iload_n hx hb dX1_isBegin_8 rfl (lv_at hl 1 rfl) ?_
    refine m_ld C w 1 (n := 64) (f := sy) (i := q) rfl rfl (by omega) (by decide) dX1_isBegin_9 ?_
    refine lv_aload_n hx hb dX1_isBegin_10 rfl (lv_at hl 0 rfl) ?_
    refine m_get C w 1 (v := .ref (ad 2)) q242 (by decide) rfl dX1_isBegin_11 ?_
    refine lv_iload_n hx hb dX1_isBegin_14 rfl (lv_at hl 1 rfl) ?_
    refine lv_iconst (v := nI 1) hx hb dX1_isBegin_15 (by decide) ?_
    refine n_isub hx hb (by omega) dX1_isBegin_16 ?_
    refine m_ld C w 1 (n := 64) (f := sy) (i := q - 1) rfl rfl (by omega) (by decide) dX1_isBegin_17 ?_
    refine lv_icmp_eq (tgt := 25) hx hb dX1_isBegin_18 (by decide) (fun c18 => ?_) (fun c18 => ?_)
    · refine lv_iconst (v := nI 0) hx hb dX1_isBegin_25 (by decide) ?_
      exact hend _ _ _ _ ((nI 0)) (n, f, le, sy, kL, kS) (⟨rfl, by rw [if_neg (fun z => ((st_bg_M hB hq).mp z).elim c1 (fun z => z c18))]; rfl⟩) w (by decide) dX1_isBegin_26
    · refine lv_iconst (v := nI 1) hx hb dX1_isBegin_21 (by decide) ?_
      refine lv_goto (tgt := 26) hx hb dX1_isBegin_22 (by decide) ?_
      exact hend _ _ _ _ ((nI 1)) (n, f, le, sy, kL, kS) (⟨rfl, by rw [if_pos ((st_bg_M hB hq).mpr (Or.inr c18))]; rfl⟩) w (by decide) dX1_isBegin_26
set_option maxHeartbeats 4000000 in
/-- open(p, m) -/
theorem mm_open (l : Launch) (n f : Nat) (le sy kL kS : Nat → Int32) (q a : Nat) (hn : n + a ≤ 64) (hq : q ≤ n) (hf : f ≤ n) : MMv l yX1_open cX1_open 4 (st_rm 0 0) [.int (nI q), .int (nI a)] (n, f, le, sy, kL, kS) (fun u => u = (n + a, if q < f then f + a else f, st_op le n q a, st_op sy n q a, kL, kS)) := by
  intro D ad ca
  refine g_enter_v RX1 rfl (by decide +kernel) (Nat.le_of_ble_eq_true rfl) ?_
  intro p e s m below meth c A Q args ls C w hl hend
  have hx := C.1
  have hb := C.2.1
  have hl : lv_has ls 4 [(0, .ref (ad 0)), (1, .int (nI q)), (2, .int (nI a))] := hl
  have loop : ∀ (N : Nat) (j : Nat) (l1 s1 : Nat → Int32), j < N → (j ≤ n) → (q ≤ j) → (l1 = st_op le n j a) → (s1 = st_op sy n j a) → ∀ (H : Heap) (locs : List Loc) (ls : Array Slot), wd D A s (mw ad ca (n, f, l1, s1, kL, kS)) (mt ca) H locs → lv_has ls 4 [(0, .ref (ad 0)), (1, .int (nI q)), (2, .int (nI a)), (3, .int (nI j - nI 1))] → W p l e (st_rm 0 0) s m args below meth c H locs 0 0 Q (F0 m 7 ls []) := by
    intro N
    induction N with
    | zero => intro j l1 s1 hN; exact absurd hN (Nat.not_lt_zero _)
    | succ N ih =>
      intro j l1 s1 hN h1 h2 hc hs H locs ls w hl
      refine lv_iload_n hx hb dX1_open_7 rfl (lv_at hl 3 rfl) ?_
      refine lv_iload_n hx hb dX1_open_8 rfl (lv_at hl 1 rfl) ?_
      refine d_icmp_lt (tgt := 46) hx hb dX1_open_9 (by decide) (by omega) (by omega) (fun c9 => ?_) (fun c9 => ?_)
      · refine lv_aload_n hx hb dX1_open_46 rfl (lv_at hl 0 rfl) ?_
        refine lv_aload_n hx hb dX1_open_47 rfl (lv_at hl 0 rfl) ?_
        refine m_get C w 2 (v := .int (nI n)) q243 (by decide) rfl dX1_open_48 ?_
        refine lv_iload_n hx hb dX1_open_51 rfl (lv_at hl 2 rfl) ?_
        refine n_iadd hx hb dX1_open_52 ?_
        refine m_put C w 2 (n + a, f, l1, s1, kL, kS) q243 (by decide) rfl rfl rfl dX1_open_53 (fun H locs w => ?_)
        refine lv_aload_n hx hb dX1_open_56 rfl (lv_at hl 0 rfl) ?_
        refine lv_iload_n hx hb dX1_open_57 rfl (lv_at hl 1 rfl) ?_
        refine lv_aload_n hx hb dX1_open_58 rfl (lv_at hl 0 rfl) ?_
        refine m_get C w 3 (v := .int (nI f)) q244 (by decide) rfl dX1_open_59 ?_
        refine n_icmp_ge (tgt := 74) hx hb dX1_open_62 (by decide) (by omega) (by omega) (fun c62 => ?_) (fun c62 => ?_)
        · refine lv_aload_n hx hb dX1_open_74 rfl (lv_at hl 0 rfl) ?_
          refine m_get C w 3 (v := .int (nI f)) q244 (by decide) rfl dX1_open_75 ?_
          refine m_put C w 3 (n + a, f, l1, s1, kL, kS) q244 (by decide) rfl rfl rfl dX1_open_78 (fun H locs w => ?_)
          exact hend _ _ _ _ (n + a, f, l1, s1, kL, kS) (by rw [hc, hs, show j = q by omega, if_neg (Nat.not_lt.mpr c62)]) w dX1_open_81
        · refine lv_aload_n hx hb dX1_open_65 rfl (lv_at hl 0 rfl) ?_
          refine m_get C w 3 (v := .int (nI f)) q244 (by decide) rfl dX1_open_66 ?_
          refine lv_iload_n hx hb dX1_open_69 rfl (lv_at hl 2 rfl) ?_
          refine n_iadd hx hb dX1_open_70 ?_
          refine lv_goto (tgt := 78) hx hb dX1_open_71 (by decide) ?_
          refine m_put C w 3 (n + a, f + a, l1, s1, kL, kS) q244 (by decide) rfl rfl rfl dX1_open_78 (fun H locs w => ?_)
          exact hend _ _ _ _ (n + a, f + a, l1, s1, kL, kS) (by rw [hc, hs, show j = q by omega, if_pos c62]) w dX1_open_81
      · obtain ⟨i, rfl⟩ : ∃ i, j = i + 1 := ⟨j - 1, by omega⟩
        rw [dn_succ] at hl
        refine lv_aload_n hx hb dX1_open_12 rfl (lv_at hl 0 rfl) ?_
        refine m_get C w 0 (v := .ref (ad 1)) q241 (by decide) rfl dX1_open_13 ?_
        refine lv_iload_n hx hb dX1_open_16 rfl (lv_at hl 3 rfl) ?_
        refine lv_iload_n hx hb dX1_open_17 rfl (lv_at hl 2 rfl) ?_
        refine n_iadd hx hb dX1_open_18 ?_
        refine lv_aload_n hx hb dX1_open_19 rfl (lv_at hl 0 rfl) ?_
        refine m_get C w 0 (v := .ref (ad 1)) q241 (by decide) rfl dX1_open_20 ?_
        refine lv_iload_n hx hb dX1_open_23 rfl (lv_at hl 3 rfl) ?_
        refine m_ld C w 0 (n := 64) (f := l1) (i := i) rfl rfl (by omega) (by decide) dX1_open_24 ?_
        refine m_st C w 0 (n := 64) (f := l1) (i := i + a) (n, f, upd l1 (i + a) (l1 i), s1, kL, kS) rfl rfl (by omega) (by decide) rfl dX1_open_25 (fun H locs w => ?_)
        refine lv_aload_n hx hb dX1_open_26 rfl (lv_at hl 0 rfl) ?_
        refine m_get C w 1 (v := .ref (ad 2)) q242 (by decide) rfl dX1_open_27 ?_
        refine lv_iload_n hx hb dX1_open_30 rfl (lv_at hl 3 rfl) ?_
        refine lv_iload_n hx hb dX1_open_31 rfl (lv_at hl 2 rfl) ?_
        refine n_iadd hx hb dX1_open_32 ?_
        refine lv_aload_n hx hb dX1_open_33 rfl (lv_at hl 0 rfl) ?_
        refine m_get C w 1 (v := .ref (ad 2)) q242 (by decide) rfl dX1_open_34 ?_
        refine lv_iload_n hx hb dX1_open_37 rfl (lv_at hl 3 rfl) ?_
        refine m_ld C w 1 (n := 64) (f := s1) (i := i) rfl rfl (by omega) (by decide) dX1_open_38 ?_
        refine m_st C w 1 (n := 64) (f := s1) (i := i + a) (n, f, upd l1 (i + a) (l1 i), upd s1 (i + a) (s1 i), kL, kS) rfl rfl (by omega) (by decide) rfl dX1_open_39 (fun H locs w => ?_)
        refine lv_iinc (v := (nI i - nI 1)) (lv' := [(3, .int (nI i - nI 1)), (0, .ref (ad 0)), (1, .int (nI q)), (2, .int (nI a))]) hx hb dX1_open_40 hl (k := 3) rfl (n_dec _) (by decide) rfl (fun ls hl => ?_)
        refine lv_goto (tgt := 7) hx hb dX1_open_43 (by decide) ?_
        exact ih i _ _ (by omega) (by omega) (by omega) (by rw [hc]; exact st_op_s h1) (by rw [hs]; exact st_op_s h1) _ _ _ w (lv_sub hl [1, 2, 3, 0] rfl)
  refine lv_aload_n hx hb dX1_open_0 rfl (lv_at hl 0 rfl) ?_
  refine m_get C w 2 (v := .int (nI n)) q243 (by decide) rfl dX1_open_1 ?_
  refine lv_iconst (v := nI 1) hx hb dX1_open_4 (by decide) ?_
  refine lv_isub hx hb dX1_open_5 ?_
  refine lv_istore_n (lv' := [(3, .int (nI n - nI 1)), (0, .ref (ad 0)), (1, .int (nI q)), (2, .int (nI a))]) hx hb dX1_open_6 rfl hl (by decide) rfl (fun ls hl => ?_)
  exact loop (n + 1) n _ _ (by omega) (Nat.le_refl _) (hq) (st_op_0 le n a) (st_op_0 sy n a) _ _ _ w (lv_sub hl [1, 2, 3, 0] rfl)
set_option maxHeartbeats 4000000 in
/-- keep(i, j) -/
theorem mm_keep (l : Launch) (n f : Nat) (le sy kL kS : Nat → Int32) (i j : Nat) (hij : i ≤ j) (hj : j ≤ 64) : MMv l yX1_keep cX1_keep 4 (st_rm 0 0) [.int (nI i), .int (nI j)] (n, f, le, sy, kL, kS) (fun u => u = (n, f, le, sy, st_kp le kL i j, st_kp sy kS i j)) := by
  intro D ad ca
  refine g_enter_v RX1 rfl (by decide +kernel) (Nat.le_of_ble_eq_true rfl) ?_
  intro p e s m below meth c A Q args ls C w hl hend
  have hx := C.1
  have hb := C.2.1
  have hl : lv_has ls 4 [(0, .ref (ad 0)), (1, .int (nI i)), (2, .int (nI j))] := hl
  have loop : ∀ (N : Nat) (t : Nat) (k1 k2 : Nat → Int32), j - t < N → (i ≤ t) → (t ≤ j) → (k1 = st_kp le kL i t) → (k2 = st_kp sy kS i t) → ∀ (H : Heap) (locs : List Loc) (ls : Array Slot), wd D A s (mw ad ca (n, f, le, sy, k1, k2)) (mt ca) H locs → lv_has ls 4 [(0, .ref (ad 0)), (1, .int (nI i)), (2, .int (nI j)), (3, .int (nI t))] → W p l e (st_rm 0 0) s m args below meth c H locs 0 0 Q (F0 m 2 ls []) := by
    intro N
    induction N with
    | zero => intro t k1 k2 hN; exact absurd hN (Nat.not_lt_zero _)
    | succ N ih =>
      intro t k1 k2 hN h1 h2 hc hs H locs ls w hl
      refine lv_iload_n hx hb dX1_keep_2 rfl (lv_at hl 3 rfl) ?_
      refine lv_iload_n hx hb dX1_keep_3 rfl (lv_at hl 2 rfl) ?_
      refine n_icmp_ge (tgt := 41) hx hb dX1_keep_4 (by decide) (by omega) (by omega) (fun c4 => ?_) (fun c4 => ?_)
      · exact hend _ _ _ _ (n, f, le, sy, k1, k2) (by rw [hc, hs, show t = j by omega]) w dX1_keep_41
      · refine lv_aload_n hx hb dX1_keep_7 rfl (lv_at hl 0 rfl) ?_
        refine m_get C w 4 (v := .ref (ad 3)) q245 (by decide) rfl dX1_keep_8 ?_
        refine lv_iload_n hx hb dX1_keep_11 rfl (lv_at hl 3 rfl) ?_
        refine lv_iload_n hx hb dX1_keep_12 rfl (lv_at hl 1 rfl) ?_
        refine n_isub hx hb (by omega) dX1_keep_13 ?_
        refine lv_aload_n hx hb dX1_keep_14 rfl (lv_at hl 0 rfl) ?_
        refine m_get C w 0 (v := .ref (ad 1)) q241 (by decide) rfl dX1_keep_15 ?_
        refine lv_iload_n hx hb dX1_keep_18 rfl (lv_at hl 3 rfl) ?_
        refine m_ld C w 0 (n := 64) (f := le) (i := t) rfl rfl (by omega) (by decide) dX1_keep_19 ?_
        refine m_st C w 2 (n := 64) (f := k1) (i := t - i) (n, f, le, sy, upd k1 (t - i) (le t), k2) rfl rfl (by omega) (by decide) rfl dX1_keep_20 (fun H locs w => ?_)
        refine lv_aload_n hx hb dX1_keep_21 rfl (lv_at hl 0 rfl) ?_
        refine m_get C w 5 (v := .ref (ad 4)) q246 (by decide) rfl dX1_keep_22 ?_
        refine lv_iload_n hx hb dX1_keep_25 rfl (lv_at hl 3 rfl) ?_
        refine lv_iload_n hx hb dX1_keep_26 rfl (lv_at hl 1 rfl) ?_
        refine n_isub hx hb (by omega) dX1_keep_27 ?_
        refine lv_aload_n hx hb dX1_keep_28 rfl (lv_at hl 0 rfl) ?_
        refine m_get C w 1 (v := .ref (ad 2)) q242 (by decide) rfl dX1_keep_29 ?_
        refine lv_iload_n hx hb dX1_keep_32 rfl (lv_at hl 3 rfl) ?_
        refine m_ld C w 1 (n := 64) (f := sy) (i := t) rfl rfl (by omega) (by decide) dX1_keep_33 ?_
        refine m_st C w 3 (n := 64) (f := k2) (i := t - i) (n, f, le, sy, upd k1 (t - i) (le t), upd k2 (t - i) (sy t)) rfl rfl (by omega) (by decide) rfl dX1_keep_34 (fun H locs w => ?_)
        refine lv_iinc (v := (nI (t + 1))) (lv' := [(3, .int (nI (t + 1))), (0, .ref (ad 0)), (1, .int (nI i)), (2, .int (nI j))]) hx hb dX1_keep_35 hl (k := 3) rfl (n_inc _) (by decide) rfl (fun ls hl => ?_)
        refine lv_goto (tgt := 2) hx hb dX1_keep_38 (by decide) ?_
        exact ih (t + 1) _ _ (by omega) (by omega) (by omega) (by rw [hc]; exact st_kp_s h1) (by rw [hs]; exact st_kp_s h1) _ _ _ w (lv_sub hl [1, 2, 3, 0] rfl)
  refine lv_iload_n hx hb dX1_keep_0 rfl (lv_at hl 1 rfl) ?_
  refine lv_istore_n (lv' := [(3, .int (nI i)), (0, .ref (ad 0)), (1, .int (nI i)), (2, .int (nI j))]) hx hb dX1_keep_1 rfl hl (by decide) rfl (fun ls hl => ?_)
  exact loop (j - i + 1) i _ _ (by omega) (Nat.le_refl _) (hij) (st_kp_0 le kL i) (st_kp_0 sy kS i) _ _ _ w (lv_sub hl [1, 2, 3, 0] rfl)
set_option maxHeartbeats 4000000 in
/-- putKept(p, m) -/
theorem mm_putKept (l : Launch) (n f : Nat) (le sy kL kS : Nat → Int32) (q a : Nat) (hn : n + a ≤ 64) (hq : q ≤ n) (hf : f ≤ n) : MMv l yX1_putKept cX1_putKept 4 (st_rm 1 23) [.int (nI q), .int (nI a)] (n, f, le, sy, kL, kS) (fun u => u = (n + a, if q < f then f + a else f, st_pk (st_op le n q a) kL q a, st_pk (st_op sy n q a) kS q a, kL, kS)) := by
  intro D ad ca
  refine g_enter_v RX1 rfl (by decide +kernel) (Nat.le_of_ble_eq_true rfl) ?_
  intro p e s m below meth c A Q args ls C w hl hend
  have hx := C.1
  have hb := C.2.1
  have hl : lv_has ls 4 [(0, .ref (ad 0)), (1, .int (nI q)), (2, .int (nI a))] := hl
  have loop : ∀ (N : Nat) (t : Nat) (l1 s1 : Nat → Int32), a - t < N → (t ≤ a) → (l1 = st_pk (st_op le n q a) kL q t) → (s1 = st_pk (st_op sy n q a) kS q t) → ∀ (H : Heap) (locs : List Loc) (ls : Array Slot), wd D A s (mw ad ca (n + a, if q < f then f + a else f, l1, s1, kL, kS)) (mt ca) H locs → lv_has ls 4 [(0, .ref (ad 0)), (1, .int (nI q)), (2, .int (nI a)), (3, .int (nI t))] → W p l e (st_rm 1 23) s m args below meth c H locs 0 0 Q (F0 m 8 ls []) := by
    intro N
    induction N with
    | zero => intro t l1 s1 hN; exact absurd hN (Nat.not_lt_zero _)
    | succ N ih =>
      intro t l1 s1 hN h1 hc hs H locs ls w hl
      refine lv_iload_n hx hb dX1_putKept_8 rfl (lv_at hl 3 rfl) ?_
      refine lv_iload_n hx hb dX1_putKept_9 rfl (lv_at hl 2 rfl) ?_
      refine n_icmp_ge (tgt := 47) hx hb dX1_putKept_10 (by decide) (by omega) (by omega) (fun c10 => ?_) (fun c10 => ?_)
      · exact hend _ _ _ _ (n + a, if q < f then f + a else f, l1, s1, kL, kS) (by rw [hc, hs, show t = a by omega]) w dX1_putKept_47
      · refine lv_aload_n hx hb dX1_putKept_13 rfl (lv_at hl 0 rfl) ?_
        refine m_get C w 0 (v := .ref (ad 1)) q241 (by decide) rfl dX1_putKept_14 ?_
        refine lv_iload_n hx hb dX1_putKept_17 rfl (lv_at hl 1 rfl) ?_
        refine lv_iload_n hx hb dX1_putKept_18 rfl (lv_at hl 3 rfl) ?_
        refine n_iadd hx hb dX1_putKept_19 ?_
        refine lv_aload_n hx hb dX1_putKept_20 rfl (lv_at hl 0 rfl) ?_
        refine m_get C w 4 (v := .ref (ad 3)) q245 (by decide) rfl dX1_putKept_21 ?_
        refine lv_iload_n hx hb dX1_putKept_24 rfl (lv_at hl 3 rfl) ?_
        refine m_ld C w 2 (n := 64) (f := kL) (i := t) rfl rfl (by omega) (by decide) dX1_putKept_25 ?_
        refine m_st C w 0 (n := 64) (f := l1) (i := q + t) (n + a, if q < f then f + a else f, upd l1 (q + t) (kL t), s1, kL, kS) rfl rfl (by omega) (by decide) rfl dX1_putKept_26 (fun H locs w => ?_)
        refine lv_aload_n hx hb dX1_putKept_27 rfl (lv_at hl 0 rfl) ?_
        refine m_get C w 1 (v := .ref (ad 2)) q242 (by decide) rfl dX1_putKept_28 ?_
        refine lv_iload_n hx hb dX1_putKept_31 rfl (lv_at hl 1 rfl) ?_
        refine lv_iload_n hx hb dX1_putKept_32 rfl (lv_at hl 3 rfl) ?_
        refine n_iadd hx hb dX1_putKept_33 ?_
        refine lv_aload_n hx hb dX1_putKept_34 rfl (lv_at hl 0 rfl) ?_
        refine m_get C w 5 (v := .ref (ad 4)) q246 (by decide) rfl dX1_putKept_35 ?_
        refine lv_iload_n hx hb dX1_putKept_38 rfl (lv_at hl 3 rfl) ?_
        refine m_ld C w 3 (n := 64) (f := kS) (i := t) rfl rfl (by omega) (by decide) dX1_putKept_39 ?_
        refine m_st C w 1 (n := 64) (f := s1) (i := q + t) (n + a, if q < f then f + a else f, upd l1 (q + t) (kL t), upd s1 (q + t) (kS t), kL, kS) rfl rfl (by omega) (by decide) rfl dX1_putKept_40 (fun H locs w => ?_)
        refine lv_iinc (v := (nI (t + 1))) (lv' := [(3, .int (nI (t + 1))), (0, .ref (ad 0)), (1, .int (nI q)), (2, .int (nI a))]) hx hb dX1_putKept_41 hl (k := 3) rfl (n_inc _) (by decide) rfl (fun ls hl => ?_)
        refine lv_goto (tgt := 8) hx hb dX1_putKept_44 (by decide) ?_
        exact ih (t + 1) _ _ (by omega) (by omega) (by rw [hc]; exact st_pk_s) (by rw [hs]; exact st_pk_s) _ _ _ w (lv_sub hl [1, 2, 3, 0] rfl)
  refine lv_aload_n hx hb dX1_putKept_0 rfl (lv_at hl 0 rfl) ?_
  refine lv_iload_n hx hb dX1_putKept_1 rfl (lv_at hl 1 rfl) ?_
  refine lv_iload_n hx hb dX1_putKept_2 rfl (lv_at hl 2 rfl) ?_
  refine m_callv (n := 2) (As := [.int (nI q), .int (nI a)]) (rest := []) C w (mm_open l n f le sy kL kS q a (by omega) (by omega) (by omega)) q268 q270 qs22 q271 rfl (by decide +kernel) rfl ⟨rfl, rfl⟩ ⟨Nat.le_of_ble_eq_true rfl, Nat.le_of_ble_eq_true rfl⟩ ⟨Nat.le_refl _, Nat.le_refl _⟩ rfl hl.1 (Nat.le_of_ble_eq_true rfl) dX1_putKept_3 (fun u H locs hp w => ?_)
  subst hp
  refine lv_iconst (v := nI 0) hx hb dX1_putKept_6 (by decide) ?_
  refine lv_istore_n (lv' := [(3, .int (nI 0)), (0, .ref (ad 0)), (1, .int (nI q)), (2, .int (nI a))]) hx hb dX1_putKept_7 rfl hl (by decide) rfl (fun ls hl => ?_)
  exact loop (a + 1) 0 _ _ (by omega) (Nat.zero_le _) (st_pk_0 _ kL q) (st_pk_0 _ kS q) _ _ _ w (lv_sub hl [1, 2, 3, 0] rfl)
set_option maxHeartbeats 4000000 in
/-- setParts(i, j, parts, s) -/
theorem mm_setParts (l : Launch) (n f : Nat) (le sy kL kS : Nat → Int32) (i j : Nat) (pt v : Int32) (E : List Int32) (hB : st_AR n sy E) (hij : i ≤ j) (hj : j ≤ n) (hn : n ≤ 64) : MMi l yX1_setParts cX1_setParts 8 .int (st_rm 0 0) [.int (nI i), .int (nI j), .int pt, .int v] (n, f, le, sy, kL, kS) (fun r u => r = nI (st_cnt (st_seg E i j) (fun e => st_mix e pt v)) ∧ u = (n, f, le, st_mf (fun e => st_mix e pt v) sy i j, kL, kS)) := by
  intro D ad ca
  refine g_enter_i RX1 rfl (by decide +kernel) (Nat.le_of_ble_eq_true rfl) ?_
  intro p e s m below meth c A Q args ls C w hl hend
  have hx := C.1
  have hb := C.2.1
  have hl : lv_has ls 8 [(0, .ref (ad 0)), (1, .int (nI i)), (2, .int (nI j)), (3, .int pt), (4, .int v)] := hl
  have loop : ∀ (N : Nat) (t : Nat) (s1 : Nat → Int32), j - t < N → (i ≤ t) → (t ≤ j) → (s1 = st_mf (fun e => st_mix e pt v) sy i t) → ∀ (H : Heap) (locs : List Loc) (ls : Array Slot), wd D A s (mw ad ca (n, f, le, s1, kL, kS)) (mt ca) H locs → lv_has ls 8 [(0, .ref (ad 0)), (1, .int (nI i)), (2, .int (nI j)), (3, .int pt), (4, .int v), (5, .int (nI (st_cnt (st_seg E i t) (fun e => st_mix e pt v)))), (6, .int (nI t))] → W p l e (st_rm 0 0) s m args below meth c H locs 0 0 Q (F0 m 6 ls []) := by
    intro N
    induction N with
    | zero => intro t s1 hN; exact absurd hN (Nat.not_lt_zero _)
    | succ N ih =>
      intro t s1 hN h1 h2 hs H locs ls w hl
      refine lv_iload hx hb dX1_setParts_6 (lv_at hl 6 rfl) ?_
      refine lv_iload_n hx hb dX1_setParts_8 rfl (lv_at hl 2 rfl) ?_
      refine n_icmp_ge (tgt := 68) hx hb dX1_setParts_9 (by decide) (by omega) (by omega) (fun c9 => ?_) (fun c9 => ?_)
      · refine lv_iload hx hb dX1_setParts_68 (lv_at hl 5 rfl) ?_
        exact hend _ _ _ _ ((nI (st_cnt (st_seg E i t) (fun e => st_mix e pt v)))) (n, f, le, s1, kL, kS) (⟨by rw [show t = j by omega], by rw [hs, show t = j by omega]⟩) w rfl dX1_setParts_70
      · have hst : s1 t = sy t := by rw [hs]; exact st_mf_at
        have hcs : st_cnt (st_seg E i (t + 1)) (fun e => st_mix e pt v) = st_cnt (st_seg E i t) (fun e => st_mix e pt v) + if st_mix (sy t) pt v = sy t then 0 else 1 := st_cnt_seg h1 (hB.2 t (by omega))
        refine lv_aload_n hx hb dX1_setParts_12 rfl (lv_at hl 0 rfl) ?_
        refine m_get C w 1 (v := .ref (ad 2)) q242 (by decide) rfl dX1_setParts_13 ?_
        refine lv_iload hx hb dX1_setParts_16 (lv_at hl 6 rfl) ?_
        refine m_ld C w 1 (n := 64) (f := s1) (i := t) rfl rfl (by omega) (by decide) dX1_setParts_18 ?_
        refine lv_iload_n hx hb dX1_setParts_19 rfl (lv_at hl 3 rfl) ?_
        refine lv_iconst (v := (-1)) hx hb dX1_setParts_20 (by decide) ?_
        refine lv_ixor hx hb dX1_setParts_21 ?_
        refine lv_iand hx hb dX1_setParts_22 ?_
        refine lv_iload hx hb dX1_setParts_23 (lv_at hl 4 rfl) ?_
        refine lv_iload_n hx hb dX1_setParts_25 rfl (lv_at hl 3 rfl) ?_
        refine lv_iand hx hb dX1_setParts_26 ?_
        refine lv_ior hx hb dX1_setParts_27 ?_
        refine n_top (y := st_mix (s1 t) pt v) rfl ?_
        refine lv_istore (lv' := [(7, .int (st_mix (s1 t) pt v)), (0, .ref (ad 0)), (1, .int (nI i)), (2, .int (nI j)), (3, .int pt), (4, .int v), (5, .int (nI (st_cnt (st_seg E i t) (fun e => st_mix e pt v)))), (6, .int (nI t))]) hx hb dX1_setParts_28 hl (by decide) rfl (fun ls hl => ?_)
        refine lv_iload hx hb dX1_setParts_30 (lv_at hl 0 rfl) ?_
        refine lv_aload_n hx hb dX1_setParts_32 rfl (lv_at hl 1 rfl) ?_
        refine m_get C w 1 (v := .ref (ad 2)) q242 (by decide) rfl dX1_setParts_33 ?_
        refine lv_iload hx hb dX1_setParts_36 (lv_at hl 7 rfl) ?_
        refine m_ld C w 1 (n := 64) (f := s1) (i := t) rfl rfl (by omega) (by decide) dX1_setParts_38 ?_
        refine lv_icmp_eq (tgt := 49) hx hb dX1_setParts_39 (by decide) (fun c39 => ?_) (fun c39 => ?_)
        · refine lv_iload hx hb dX1_setParts_49 (lv_at hl 6 rfl) ?_
          rw [hst] at c39
          rw [if_pos c39] at hcs
          refine n_top (y := nI (st_cnt (st_seg E i (t + 1)) (fun e => st_mix e pt v))) (by rw [hcs]; rfl) ?_
          refine lv_istore (lv' := [(5, .int (nI (st_cnt (st_seg E i (t + 1)) (fun e => st_mix e pt v)))), (7, .int (st_mix (s1 t) pt v)), (0, .ref (ad 0)), (1, .int (nI i)), (2, .int (nI j)), (3, .int pt), (4, .int v), (6, .int (nI t))]) hx hb dX1_setParts_51 hl (by decide) rfl (fun ls hl => ?_)
          refine lv_aload_n hx hb dX1_setParts_53 rfl (lv_at hl 2 rfl) ?_
          refine m_get C w 1 (v := .ref (ad 2)) q242 (by decide) rfl dX1_setParts_54 ?_
          refine lv_iload hx hb dX1_setParts_57 (lv_at hl 7 rfl) ?_
          refine lv_iload hx hb dX1_setParts_59 (lv_at hl 1 rfl) ?_
          refine m_st C w 1 (n := 64) (f := s1) (i := t) (n, f, le, upd s1 t (st_mix (s1 t) pt v), kL, kS) rfl rfl (by omega) (by decide) rfl dX1_setParts_61 (fun H locs w => ?_)
          refine lv_iinc (v := (nI (t + 1))) (lv' := [(6, .int (nI (t + 1))), (5, .int (nI (st_cnt (st_seg E i (t + 1)) (fun e => st_mix e pt v)))), (7, .int (st_mix (s1 t) pt v)), (0, .ref (ad 0)), (1, .int (nI i)), (2, .int (nI j)), (3, .int pt), (4, .int v)]) hx hb dX1_setParts_62 hl (k := 7) rfl (n_inc _) (by decide) rfl (fun ls hl => ?_)
          refine lv_goto (tgt := 6) hx hb dX1_setParts_65 (by decide) ?_
          exact ih (t + 1) _ (by omega) (by omega) (by omega) (by rw [hst, hs]; exact st_mf_s (F := (fun e => st_mix e pt v)) h1) _ _ _ w (lv_sub hl [3, 4, 5, 6, 7, 1, 0] rfl)
        · refine lv_iload hx hb dX1_setParts_42 (lv_at hl 6 rfl) ?_
          refine lv_iconst (v := nI 1) hx hb dX1_setParts_44 (by decide) ?_
          refine n_iadd hx hb dX1_setParts_45 ?_
          refine lv_goto (tgt := 51) hx hb dX1_setParts_46 (by decide) ?_
          rw [hst] at c39
          rw [if_neg c39] at hcs
          refine n_top (y := nI (st_cnt (st_seg E i (t + 1)) (fun e => st_mix e pt v))) (by rw [hcs]) ?_
          refine lv_istore (lv' := [(5, .int (nI (st_cnt (st_seg E i (t + 1)) (fun e => st_mix e pt v)))), (7, .int (st_mix (s1 t) pt v)), (0, .ref (ad 0)), (1, .int (nI i)), (2, .int (nI j)), (3, .int pt), (4, .int v), (6, .int (nI t))]) hx hb dX1_setParts_51 hl (by decide) rfl (fun ls hl => ?_)
          refine lv_aload_n hx hb dX1_setParts_53 rfl (lv_at hl 2 rfl) ?_
          refine m_get C w 1 (v := .ref (ad 2)) q242 (by decide) rfl dX1_setParts_54 ?_
          refine lv_iload hx hb dX1_setParts_57 (lv_at hl 7 rfl) ?_
          refine lv_iload hx hb dX1_setParts_59 (lv_at hl 1 rfl) ?_
          refine m_st C w 1 (n := 64) (f := s1) (i := t) (n, f, le, upd s1 t (st_mix (s1 t) pt v), kL, kS) rfl rfl (by omega) (by decide) rfl dX1_setParts_61 (fun H locs w => ?_)
          refine lv_iinc (v := (nI (t + 1))) (lv' := [(6, .int (nI (t + 1))), (5, .int (nI (st_cnt (st_seg E i (t + 1)) (fun e => st_mix e pt v)))), (7, .int (st_mix (s1 t) pt v)), (0, .ref (ad 0)), (1, .int (nI i)), (2, .int (nI j)), (3, .int pt), (4, .int v)]) hx hb dX1_setParts_62 hl (k := 7) rfl (n_inc _) (by decide) rfl (fun ls hl => ?_)
          refine lv_goto (tgt := 6) hx hb dX1_setParts_65 (by decide) ?_
          exact ih (t + 1) _ (by omega) (by omega) (by omega) (by rw [hst, hs]; exact st_mf_s (F := (fun e => st_mix e pt v)) h1) _ _ _ w (lv_sub hl [3, 4, 5, 6, 7, 1, 0] rfl)
  refine lv_iconst (v := nI 0) hx hb dX1_setParts_0 (by decide) ?_
  refine lv_istore (lv' := [(5, .int (nI 0)), (0, .ref (ad 0)), (1, .int (nI i)), (2, .int (nI j)), (3, .int pt), (4, .int v)]) hx hb dX1_setParts_1 hl (by decide) rfl (fun ls hl => ?_)
  refine lv_iload_n hx hb dX1_setParts_3 rfl (lv_at hl 2 rfl) ?_
  refine lv_istore (lv' := [(6, .int (nI i)), (5, .int (nI 0)), (0, .ref (ad 0)), (1, .int (nI i)), (2, .int (nI j)), (3, .int pt), (4, .int v)]) hx hb dX1_setParts_4 hl (by decide) rfl (fun ls hl => ?_)
  have hz : nI 0 = nI (st_cnt (st_seg E i i) (fun e => st_mix e pt v)) := by rw [show st_seg E i i = [] by simp [st_seg]]; rfl
  rw [hz] at hl
  exact loop (j - i + 1) i _ (by omega) (Nat.le_refl _) (hij) (st_mf_0 (fun e => st_mix e pt v) sy i) _ _ _ w (lv_sub hl [2, 3, 4, 5, 6, 1, 0] rfl)
end
section
set_option maxRecDepth 100000
set_option maxHeartbeats 4000000 in
/-- length -/
theorem pm_length (l : Launch) (f : Nat) (le sy kL kS : Nat → Int32) (L E : List Int32) (hA : st_AR L.length le L) (hB : st_AR L.length sy E) (hn : L.length ≤ 64) (hf : f ≤ L.length) : MMi l yX1_length cX1_length 1 .int (st_rm 0 0) [] (L.length, f, le, sy, kL, kS) (fun r u => r = (st_oLength (L, E, f)).1 ∧ st_MR u (st_oLength (L, E, f)).2) := by
  intro D ad ca
  refine g_enter_i RX1 rfl (by decide +kernel) (Nat.le_of_ble_eq_true rfl) ?_
  intro p e s m below meth c A Q args ls C w hl hend
  have hx := C.1
  have hb := C.2.1
  have hl : lv_has ls 1 [(0, .ref (ad 0))] := hl
  have hBl := hB.1
  refine lv_aload_n hx hb dX1_length_0 rfl (lv_at hl 0 rfl) ?_
  refine m_get C w 2 (v := .int (nI (L.length))) q243 (by decide) rfl dX1_length_1 ?_
  exact hend _ _ _ _ ((nI (L.length))) (L.length, f, le, sy, kL, kS) (⟨rfl, hA, hB, hn, rfl, hf⟩) w rfl dX1_length_4
set_option maxHeartbeats 4000000 in
/-- flag -/
theorem pm_flag (l : Launch) (f : Nat) (le sy kL kS : Nat → Int32) (L E : List Int32) (hA : st_AR L.length le L) (hB : st_AR L.length sy E) (hn : L.length ≤ 64) (hf : f ≤ L.length) : MMi l yX1_flag cX1_flag 1 .int (st_rm 0 0) [] (L.length, f, le, sy, kL, kS) (fun r u => r = (st_oFlag (L, E, f)).1 ∧ st_MR u (st_oFlag (L, E, f)).2) := by
  intro D ad ca
  refine g_enter_i RX1 rfl (by decide +kernel) (Nat.le_of_ble_eq_true rfl) ?_
  intro p e s m below meth c A Q args ls C w hl hend
  have hx := C.1
  have hb := C.2.1
  have hl : lv_has ls 1 [(0, .ref (ad 0))] := hl
  have hBl := hB.1
  refine lv_aload_n hx hb dX1_flag_0 rfl (lv_at hl 0 rfl) ?_
  refine m_get C w 3 (v := .int (nI f)) q244 (by decide) rfl dX1_flag_1 ?_
  exact hend _ _ _ _ ((nI f)) (L.length, f, le, sy, kL, kS) (⟨rfl, hA, hB, hn, rfl, hf⟩) w rfl dX1_flag_4
set_option maxHeartbeats 4000000 in
/-- setFlag -/
theorem pm_setFlag (l : Launch) (f : Nat) (le sy kL kS : Nat → Int32) (L E : List Int32) (v : Int32) (hA : st_AR L.length le L) (hB : st_AR L.length sy E) (hn : L.length ≤ 64) (hf : f ≤ L.length) : MMi l yX1_setFlag cX1_setFlag 3 .int (st_rm 0 0) [.int v] (L.length, f, le, sy, kL, kS) (fun r u => r = (st_oSetFlag v (L, E, f)).1 ∧ st_MR u (st_oSetFlag v (L, E, f)).2) := by
  intro D ad ca
  refine g_enter_i RX1 rfl (by decide +kernel) (Nat.le_of_ble_eq_true rfl) ?_
  intro p e s m below meth c A Q args ls C w hl hend
  have hx := C.1
  have hb := C.2.1
  have hl : lv_has ls 3 [(0, .ref (ad 0)), (1, .int v)] := hl
  have hBl := hB.1
  refine lv_iload_n hx hb dX1_setFlag_0 rfl (lv_at hl 1 rfl) ?_
  refine lv_if_lt (tgt := 12) hx hb dX1_setFlag_1 (by decide) (fun c1 => ?_) (fun c1 => ?_)
  · refine lv_iconst (v := (-1)) hx hb dX1_setFlag_12 (by decide) ?_
    have hop : st_oSetFlag v (L, E, f) = (-1, L, E, f) := by unfold st_oSetFlag; exact if_pos (Or.inl c1)
    exact hend _ _ _ _ ((-1)) (L.length, f, le, sy, kL, kS) (by rw [hop]; exact ⟨rfl, hA, hB, hn, rfl, hf⟩) w rfl dX1_setFlag_13
  · refine lv_iload_n hx hb dX1_setFlag_4 rfl (lv_at hl 1 rfl) ?_
    refine lv_aload_n hx hb dX1_setFlag_5 rfl (lv_at hl 0 rfl) ?_
    refine m_get C w 2 (v := .int (nI (L.length))) q243 (by decide) rfl dX1_setFlag_6 ?_
    refine lv_icmp_le (tgt := 14) hx hb dX1_setFlag_9 (by decide) (fun c9 => ?_) (fun c9 => ?_)
    · have hbd : ¬ (v < 0 ∨ ¬ v ≤ nI L.length) := fun z => z.elim c1 (fun z => z c9)
      obtain ⟨q, hq, rfl⟩ := st_le_nI (by omega) c1 c9
      refine lv_aload_n hx hb dX1_setFlag_14 rfl (lv_at hl 0 rfl) ?_
      refine m_get C w 3 (v := .int (nI f)) q244 (by decide) rfl dX1_setFlag_15 ?_
      refine lv_istore_n (lv' := [(2, .int (nI f)), (0, .ref (ad 0)), (1, .int (nI q))]) hx hb dX1_setFlag_18 rfl hl (by decide) rfl (fun ls hl => ?_)
      refine lv_aload_n hx hb dX1_setFlag_19 rfl (lv_at hl 1 rfl) ?_
      refine lv_iload_n hx hb dX1_setFlag_20 rfl (lv_at hl 2 rfl) ?_
      refine m_put C w 3 (L.length, q, le, sy, kL, kS) q244 (by decide) rfl rfl rfl dX1_setFlag_21 (fun H locs w => ?_)
      refine lv_iload_n hx hb dX1_setFlag_24 rfl (lv_at hl 0 rfl) ?_
      have hop : st_oSetFlag (nI q) (L, E, f) = (nI f, L, E, q) := by unfold st_oSetFlag; rw [if_neg hbd, st_clamp (by omega)]
      exact hend _ _ _ _ ((nI f)) (L.length, q, le, sy, kL, kS) (by rw [hop]; exact ⟨rfl, hA, hB, hn, rfl, hq⟩) w rfl dX1_setFlag_25
    · refine lv_iconst (v := (-1)) hx hb dX1_setFlag_12 (by decide) ?_
      have hop : st_oSetFlag v (L, E, f) = (-1, L, E, f) := by unfold st_oSetFlag; exact if_pos (Or.inr c9)
      exact hend _ _ _ _ ((-1)) (L.length, f, le, sy, kL, kS) (by rw [hop]; exact ⟨rfl, hA, hB, hn, rfl, hf⟩) w rfl dX1_setFlag_13
set_option maxHeartbeats 4000000 in
/-- letter -/
theorem pm_letter (l : Launch) (f : Nat) (le sy kL kS : Nat → Int32) (L E : List Int32) (v : Int32) (hA : st_AR L.length le L) (hB : st_AR L.length sy E) (hn : L.length ≤ 64) (hf : f ≤ L.length) : MMi l yX1_letter cX1_letter 2 .int (st_rm 0 0) [.int v] (L.length, f, le, sy, kL, kS) (fun r u => r = (st_oLetter v (L, E, f)).1 ∧ st_MR u (st_oLetter v (L, E, f)).2) := by
  intro D ad ca
  refine g_enter_i RX1 rfl (by decide +kernel) (Nat.le_of_ble_eq_true rfl) ?_
  intro p e s m below meth c A Q args ls C w hl hend
  have hx := C.1
  have hb := C.2.1
  have hl : lv_has ls 2 [(0, .ref (ad 0)), (1, .int v)] := hl
  have hBl := hB.1
  refine lv_iload_n hx hb dX1_letter_0 rfl (lv_at hl 1 rfl) ?_
  refine lv_if_lt (tgt := 21) hx hb dX1_letter_1 (by decide) (fun c1 => ?_) (fun c1 => ?_)
  · refine lv_bipush (v := (-4)) hx hb dX1_letter_21 (by decide) ?_
    have hop : st_oLetter v (L, E, f) = (-4, L, E, f) := by unfold st_oLetter; rw [if_pos (Or.inl c1)]
    exact hend _ _ _ _ ((-4)) (L.length, f, le, sy, kL, kS) (by rw [hop]; exact ⟨rfl, hA, hB, hn, rfl, hf⟩) w rfl dX1_letter_23
  · refine lv_iload_n hx hb dX1_letter_4 rfl (lv_at hl 1 rfl) ?_
    refine lv_aload_n hx hb dX1_letter_5 rfl (lv_at hl 0 rfl) ?_
    refine m_get C w 2 (v := .int (nI (L.length))) q243 (by decide) rfl dX1_letter_6 ?_
    refine lv_icmp_ge (tgt := 21) hx hb dX1_letter_9 (by decide) (fun c9 => ?_) (fun c9 => ?_)
    · refine lv_bipush (v := (-4)) hx hb dX1_letter_21 (by decide) ?_
      have hop : st_oLetter v (L, E, f) = (-4, L, E, f) := by unfold st_oLetter; rw [if_pos (Or.inr (Int32.not_lt.mpr c9))]
      exact hend _ _ _ _ ((-4)) (L.length, f, le, sy, kL, kS) (by rw [hop]; exact ⟨rfl, hA, hB, hn, rfl, hf⟩) w rfl dX1_letter_23
    · have hbd : ¬ st_off L.length v := fun z => z.elim c1 (fun z => c9 (Int32.not_lt.mp z))
      have hbd0 := hbd
      obtain ⟨q, hq, rfl⟩ := st_off_no (by omega) hbd0
      refine lv_aload_n hx hb dX1_letter_12 rfl (lv_at hl 0 rfl) ?_
      refine m_get C w 0 (v := .ref (ad 1)) q241 (by decide) rfl dX1_letter_13 ?_
      refine lv_iload_n hx hb dX1_letter_16 rfl (lv_at hl 1 rfl) ?_
      refine m_ld C w 0 (n := 64) (f := le) (i := q) rfl rfl (by omega) (by decide) dX1_letter_17 ?_
      refine lv_goto (tgt := 23) hx hb dX1_letter_18 (by decide) ?_
      have hop : st_oLetter (nI q) (L, E, f) = ((le q), L, E, f) := by unfold st_oLetter; rw [if_neg hbd, st_clamp (by omega)]; exact congrArg (fun z => (z, L, E, f)) (st_getD (hA.2 q hq))
      exact hend _ _ _ _ ((le q)) (L.length, f, le, sy, kL, kS) (by rw [hop]; exact ⟨rfl, hA, hB, hn, rfl, hf⟩) w rfl dX1_letter_23
set_option maxHeartbeats 4000000 in
/-- styleAt -/
theorem pm_styleAt (l : Launch) (f : Nat) (le sy kL kS : Nat → Int32) (L E : List Int32) (v : Int32) (hA : st_AR L.length le L) (hB : st_AR L.length sy E) (hn : L.length ≤ 64) (hf : f ≤ L.length) : MMi l yX1_styleAt cX1_styleAt 2 .int (st_rm 0 0) [.int v] (L.length, f, le, sy, kL, kS) (fun r u => r = (st_oStyleAt v (L, E, f)).1 ∧ st_MR u (st_oStyleAt v (L, E, f)).2) := by
  intro D ad ca
  refine g_enter_i RX1 rfl (by decide +kernel) (Nat.le_of_ble_eq_true rfl) ?_
  intro p e s m below meth c A Q args ls C w hl hend
  have hx := C.1
  have hb := C.2.1
  have hl : lv_has ls 2 [(0, .ref (ad 0)), (1, .int v)] := hl
  have hBl := hB.1
  refine lv_iload_n hx hb dX1_styleAt_0 rfl (lv_at hl 1 rfl) ?_
  refine lv_if_lt (tgt := 21) hx hb dX1_styleAt_1 (by decide) (fun c1 => ?_) (fun c1 => ?_)
  · refine lv_bipush (v := (-4)) hx hb dX1_styleAt_21 (by decide) ?_
    have hop : st_oStyleAt v (L, E, f) = (-4, L, E, f) := by unfold st_oStyleAt; rw [if_pos (Or.inl c1)]
    exact hend _ _ _ _ ((-4)) (L.length, f, le, sy, kL, kS) (by rw [hop]; exact ⟨rfl, hA, hB, hn, rfl, hf⟩) w rfl dX1_styleAt_23
  · refine lv_iload_n hx hb dX1_styleAt_4 rfl (lv_at hl 1 rfl) ?_
    refine lv_aload_n hx hb dX1_styleAt_5 rfl (lv_at hl 0 rfl) ?_
    refine m_get C w 2 (v := .int (nI (L.length))) q243 (by decide) rfl dX1_styleAt_6 ?_
    refine lv_icmp_ge (tgt := 21) hx hb dX1_styleAt_9 (by decide) (fun c9 => ?_) (fun c9 => ?_)
    · refine lv_bipush (v := (-4)) hx hb dX1_styleAt_21 (by decide) ?_
      have hop : st_oStyleAt v (L, E, f) = (-4, L, E, f) := by unfold st_oStyleAt; rw [if_pos (Or.inr (Int32.not_lt.mpr c9))]
      exact hend _ _ _ _ ((-4)) (L.length, f, le, sy, kL, kS) (by rw [hop]; exact ⟨rfl, hA, hB, hn, rfl, hf⟩) w rfl dX1_styleAt_23
    · have hbd : ¬ st_off L.length v := fun z => z.elim c1 (fun z => c9 (Int32.not_lt.mp z))
      have hbd0 := hbd
      obtain ⟨q, hq, rfl⟩ := st_off_no (by omega) hbd0
      refine lv_aload_n hx hb dX1_styleAt_12 rfl (lv_at hl 0 rfl) ?_
      refine m_get C w 1 (v := .ref (ad 2)) q242 (by decide) rfl dX1_styleAt_13 ?_
      refine lv_iload_n hx hb dX1_styleAt_16 rfl (lv_at hl 1 rfl) ?_
      refine m_ld C w 1 (n := 64) (f := sy) (i := q) rfl rfl (by omega) (by decide) dX1_styleAt_17 ?_
      refine lv_goto (tgt := 23) hx hb dX1_styleAt_18 (by decide) ?_
      have hop : st_oStyleAt (nI q) (L, E, f) = ((sy q), L, E, f) := by unfold st_oStyleAt; rw [if_neg hbd, st_clamp (by omega)]; exact congrArg (fun z => (z, L, E, f)) (st_getD (hB.2 q hq))
      exact hend _ _ _ _ ((sy q)) (L.length, f, le, sy, kL, kS) (by rw [hop]; exact ⟨rfl, hA, hB, hn, rfl, hf⟩) w rfl dX1_styleAt_23
set_option maxHeartbeats 4000000 in
/-- type -/
theorem pm_type (l : Launch) (f : Nat) (le sy kL kS : Nat → Int32) (L E : List Int32) (v c0 : Int32) (hA : st_AR L.length le L) (hB : st_AR L.length sy E) (hn : L.length ≤ 64) (hf : f ≤ L.length) : MMi l yX1_type cX1_type 4 .int (st_rm 1 23) [.int v, .int c0] (L.length, f, le, sy, kL, kS) (fun r u => r = (st_oType v c0 (L, E, f)).1 ∧ st_MR u (st_oType v c0 (L, E, f)).2) := by
  intro D ad ca
  refine g_enter_i RX1 rfl (by decide +kernel) (Nat.le_of_ble_eq_true rfl) ?_
  intro p e s m below meth c A Q args ls C w hl hend
  have hx := C.1
  have hb := C.2.1
  have hl : lv_has ls 4 [(0, .ref (ad 0)), (1, .int v), (2, .int c0)] := hl
  have hBl := hB.1
  refine lv_aload_n hx hb dX1_type_0 rfl (lv_at hl 0 rfl) ?_
  refine lv_iload_n hx hb dX1_type_1 rfl (lv_at hl 2 rfl) ?_
  refine m_calli (n := 1) (As := [.int c0]) (rest := []) C w (mm_isLetter l (L.length) f le sy kL kS c0) q264 q266 qs21 q267 rfl (by decide +kernel) rfl ⟨rfl, rfl⟩ ⟨Nat.le_of_ble_eq_true rfl, Nat.le_of_ble_eq_true rfl⟩ ⟨Nat.le_refl _, Nat.le_refl _⟩ rfl hl.1 (Nat.le_of_ble_eq_true rfl) dX1_type_2 (fun r0 u H locs hp w => ?_)
  obtain ⟨rfl, hr0⟩ := hp
  refine lv_if_eq (tgt := 20) hx hb dX1_type_5 (by decide) (fun c5 => ?_) (fun c5 => ?_)
  · refine lv_iconst (v := (-1)) hx hb dX1_type_20 (by decide) ?_
    have hop : st_oType v c0 (L, E, f) = (-1, L, E, f) := by unfold st_oType; exact if_pos (Or.inl (st_c0 hr0 c5))
    exact hend _ _ _ _ ((-1)) (L.length, f, le, sy, kL, kS) (by rw [hop]; exact ⟨rfl, hA, hB, hn, rfl, hf⟩) w rfl dX1_type_21
  · refine lv_iload_n hx hb dX1_type_8 rfl (lv_at hl 1 rfl) ?_
    refine lv_if_lt (tgt := 20) hx hb dX1_type_9 (by decide) (fun c9 => ?_) (fun c9 => ?_)
    · refine lv_iconst (v := (-1)) hx hb dX1_type_20 (by decide) ?_
      have hop : st_oType v c0 (L, E, f) = (-1, L, E, f) := by unfold st_oType; exact if_pos (Or.inr (Or.inl c9))
      exact hend _ _ _ _ ((-1)) (L.length, f, le, sy, kL, kS) (by rw [hop]; exact ⟨rfl, hA, hB, hn, rfl, hf⟩) w rfl dX1_type_21
    · refine lv_iload_n hx hb dX1_type_12 rfl (lv_at hl 1 rfl) ?_
      refine lv_aload_n hx hb dX1_type_13 rfl (lv_at hl 0 rfl) ?_
      refine m_get C w 2 (v := .int (nI (L.length))) q243 (by decide) rfl dX1_type_14 ?_
      refine lv_icmp_le (tgt := 22) hx hb dX1_type_17 (by decide) (fun c17 => ?_) (fun c17 => ?_)
      · have hbd : ¬ (st_badL c0 ∨ v < 0 ∨ ¬ v ≤ nI L.length) := fun z => z.elim (st_c1x hr0 c5) (fun z => z.elim c9 (fun z => z c17))
        obtain ⟨q, hq, rfl⟩ := st_le_nI (by omega) c9 c17
        refine lv_aload_n hx hb dX1_type_22 rfl (lv_at hl 0 rfl) ?_
        refine m_get C w 2 (v := .int (nI (L.length))) q243 (by decide) rfl dX1_type_23 ?_
        refine lv_bipush (v := nI 64) hx hb dX1_type_26 (by decide) ?_
        refine n_icmp_ne (tgt := 34) hx hb dX1_type_28 (by decide) (by omega) (by omega) (fun c28 => ?_) (fun c28 => ?_)
        · refine lv_aload_n hx hb dX1_type_34 rfl (lv_at hl 0 rfl) ?_
          refine m_get C w 2 (v := .int (nI (L.length))) q243 (by decide) rfl dX1_type_35 ?_
          refine n_if_ne (tgt := 45) hx hb dX1_type_38 (by decide) (by omega) (fun c38 => ?_) (fun c38 => ?_)
          · refine lv_iload_n hx hb dX1_type_45 rfl (lv_at hl 1 rfl) ?_
            refine n_if_ne (tgt := 58) hx hb dX1_type_46 (by decide) (by omega) (fun c46 => ?_) (fun c46 => ?_)
            · refine lv_aload_n hx hb dX1_type_58 rfl (lv_at hl 0 rfl) ?_
              refine m_get C w 1 (v := .ref (ad 2)) q242 (by decide) rfl dX1_type_59 ?_
              refine lv_iload_n hx hb dX1_type_62 rfl (lv_at hl 1 rfl) ?_
              refine lv_iconst (v := nI 1) hx hb dX1_type_63 (by decide) ?_
              refine n_isub hx hb (by omega) dX1_type_64 ?_
              refine m_ld C w 1 (n := 64) (f := sy) (i := q - 1) rfl rfl (by omega) (by decide) dX1_type_65 ?_
              refine lv_istore_n (lv' := [(3, .int (sy (q - 1))), (0, .ref (ad 0)), (1, .int (nI q)), (2, .int c0)]) hx hb dX1_type_66 rfl hl (by decide) rfl (fun ls hl => ?_)
              refine lv_aload_n hx hb dX1_type_67 rfl (lv_at hl 1 rfl) ?_
              refine lv_iload_n hx hb dX1_type_68 rfl (lv_at hl 2 rfl) ?_
              refine lv_iconst (v := nI 1) hx hb dX1_type_69 (by decide) ?_
              refine m_callv (n := 2) (As := [.int (nI q), .int (nI 1)]) (rest := []) C w (mm_open l (L.length) f le sy kL kS q 1 (by omega) (by omega) (by omega)) q268 q270 qs22 q271 rfl (by decide +kernel) rfl ⟨rfl, rfl⟩ ⟨Nat.le_of_ble_eq_true rfl, Nat.le_of_ble_eq_true rfl⟩ ⟨Nat.le_refl _, Nat.le_refl _⟩ rfl hl.1 (Nat.le_of_ble_eq_true rfl) dX1_type_70 (fun u H locs hp w => ?_)
              subst hp
              refine lv_aload_n hx hb dX1_type_73 rfl (lv_at hl 1 rfl) ?_
              refine m_get C w 0 (v := .ref (ad 1)) q241 (by decide) rfl dX1_type_74 ?_
              refine lv_iload_n hx hb dX1_type_77 rfl (lv_at hl 2 rfl) ?_
              refine lv_iload_n hx hb dX1_type_78 rfl (lv_at hl 3 rfl) ?_
              refine m_st C w 0 (n := 64) (f := st_op le (L.length) q 1) (i := q) ((L.length) + 1, if q < f then f + 1 else f, upd (st_op le (L.length) q 1) q c0, st_op sy (L.length) q 1, kL, kS) rfl rfl (by omega) (by decide) rfl dX1_type_79 (fun H locs w => ?_)
              refine lv_aload_n hx hb dX1_type_80 rfl (lv_at hl 1 rfl) ?_
              refine m_get C w 1 (v := .ref (ad 2)) q242 (by decide) rfl dX1_type_81 ?_
              refine lv_iload_n hx hb dX1_type_84 rfl (lv_at hl 2 rfl) ?_
              refine lv_iload_n hx hb dX1_type_85 rfl (lv_at hl 0 rfl) ?_
              refine m_st C w 1 (n := 64) (f := st_op sy (L.length) q 1) (i := q) ((L.length) + 1, if q < f then f + 1 else f, upd (st_op le (L.length) q 1) q c0, upd (st_op sy (L.length) q 1) q (sy (q - 1)), kL, kS) rfl rfl (by omega) (by decide) rfl dX1_type_86 (fun H locs w => ?_)
              refine lv_aload_n hx hb dX1_type_87 rfl (lv_at hl 1 rfl) ?_
              refine m_get C w 2 (v := .int (nI ((L.length) + 1))) q243 (by decide) rfl dX1_type_88 ?_
              have hop : st_oType (nI q) c0 (L, E, f) = (nI (L.length + 1), st_ins L q [c0], st_ins E q [(sy (q - 1))], if q < f then f + 1 else f) := by unfold st_oType; rw [if_neg hbd, if_neg c28, st_clamp (by omega)]; dsimp only; rw [if_neg c38, st_getD (show E[q - 1]? = some (sy (q - 1)) by exact hB.2 (q - 1) (by omega))]
              exact hend _ _ _ _ ((nI ((L.length) + 1))) ((L.length) + 1, if q < f then f + 1 else f, upd (st_op le (L.length) q 1) q c0, upd (st_op sy (L.length) q 1) q (sy (q - 1)), kL, kS) (by rw [hop]; exact ⟨rfl, st_AR_one hA hq, st_AR_one hB hq, by show L.length + 1 ≤ 64; omega, rfl, by show (if q < f then f + 1 else f) ≤ L.length + 1; split <;> omega⟩) w rfl dX1_type_91
            · refine lv_aload_n hx hb dX1_type_49 rfl (lv_at hl 0 rfl) ?_
              refine m_get C w 1 (v := .ref (ad 2)) q242 (by decide) rfl dX1_type_50 ?_
              refine lv_iconst (v := nI 0) hx hb dX1_type_53 (by decide) ?_
              refine m_ld C w 1 (n := 64) (f := sy) (i := 0) rfl rfl (by omega) (by decide) dX1_type_54 ?_
              refine lv_goto (tgt := 66) hx hb dX1_type_55 (by decide) ?_
              refine lv_istore_n (lv' := [(3, .int (sy 0)), (0, .ref (ad 0)), (1, .int (nI q)), (2, .int c0)]) hx hb dX1_type_66 rfl hl (by decide) rfl (fun ls hl => ?_)
              refine lv_aload_n hx hb dX1_type_67 rfl (lv_at hl 1 rfl) ?_
              refine lv_iload_n hx hb dX1_type_68 rfl (lv_at hl 2 rfl) ?_
              refine lv_iconst (v := nI 1) hx hb dX1_type_69 (by decide) ?_
              refine m_callv (n := 2) (As := [.int (nI q), .int (nI 1)]) (rest := []) C w (mm_open l (L.length) f le sy kL kS q 1 (by omega) (by omega) (by omega)) q268 q270 qs22 q271 rfl (by decide +kernel) rfl ⟨rfl, rfl⟩ ⟨Nat.le_of_ble_eq_true rfl, Nat.le_of_ble_eq_true rfl⟩ ⟨Nat.le_refl _, Nat.le_refl _⟩ rfl hl.1 (Nat.le_of_ble_eq_true rfl) dX1_type_70 (fun u H locs hp w => ?_)
              subst hp
              refine lv_aload_n hx hb dX1_type_73 rfl (lv_at hl 1 rfl) ?_
              refine m_get C w 0 (v := .ref (ad 1)) q241 (by decide) rfl dX1_type_74 ?_
              refine lv_iload_n hx hb dX1_type_77 rfl (lv_at hl 2 rfl) ?_
              refine lv_iload_n hx hb dX1_type_78 rfl (lv_at hl 3 rfl) ?_
              refine m_st C w 0 (n := 64) (f := st_op le (L.length) q 1) (i := q) ((L.length) + 1, if q < f then f + 1 else f, upd (st_op le (L.length) q 1) q c0, st_op sy (L.length) q 1, kL, kS) rfl rfl (by omega) (by decide) rfl dX1_type_79 (fun H locs w => ?_)
              refine lv_aload_n hx hb dX1_type_80 rfl (lv_at hl 1 rfl) ?_
              refine m_get C w 1 (v := .ref (ad 2)) q242 (by decide) rfl dX1_type_81 ?_
              refine lv_iload_n hx hb dX1_type_84 rfl (lv_at hl 2 rfl) ?_
              refine lv_iload_n hx hb dX1_type_85 rfl (lv_at hl 0 rfl) ?_
              refine m_st C w 1 (n := 64) (f := st_op sy (L.length) q 1) (i := q) ((L.length) + 1, if q < f then f + 1 else f, upd (st_op le (L.length) q 1) q c0, upd (st_op sy (L.length) q 1) q (sy 0), kL, kS) rfl rfl (by omega) (by decide) rfl dX1_type_86 (fun H locs w => ?_)
              refine lv_aload_n hx hb dX1_type_87 rfl (lv_at hl 1 rfl) ?_
              refine m_get C w 2 (v := .int (nI ((L.length) + 1))) q243 (by decide) rfl dX1_type_88 ?_
              have hop : st_oType (nI q) c0 (L, E, f) = (nI (L.length + 1), st_ins L q [c0], st_ins E q [(sy 0)], if q < f then f + 1 else f) := by unfold st_oType; rw [if_neg hbd, if_neg c28, st_clamp (by omega)]; dsimp only; rw [if_neg c38, st_getD (show E[q - 1]? = some (sy 0) by rw [c46]; exact hB.2 0 (by omega))]
              exact hend _ _ _ _ ((nI ((L.length) + 1))) ((L.length) + 1, if q < f then f + 1 else f, upd (st_op le (L.length) q 1) q c0, upd (st_op sy (L.length) q 1) q (sy 0), kL, kS) (by rw [hop]; exact ⟨rfl, st_AR_one hA hq, st_AR_one hB hq, by show L.length + 1 ≤ 64; omega, rfl, by show (if q < f then f + 1 else f) ≤ L.length + 1; split <;> omega⟩) w rfl dX1_type_91
          · refine lv_iconst (v := nI 0) hx hb dX1_type_41 (by decide) ?_
            refine lv_goto (tgt := 66) hx hb dX1_type_42 (by decide) ?_
            refine lv_istore_n (lv' := [(3, .int (nI 0)), (0, .ref (ad 0)), (1, .int (nI q)), (2, .int c0)]) hx hb dX1_type_66 rfl hl (by decide) rfl (fun ls hl => ?_)
            refine lv_aload_n hx hb dX1_type_67 rfl (lv_at hl 1 rfl) ?_
            refine lv_iload_n hx hb dX1_type_68 rfl (lv_at hl 2 rfl) ?_
            refine lv_iconst (v := nI 1) hx hb dX1_type_69 (by decide) ?_
            refine m_callv (n := 2) (As := [.int (nI q), .int (nI 1)]) (rest := []) C w (mm_open l (L.length) f le sy kL kS q 1 (by omega) (by omega) (by omega)) q268 q270 qs22 q271 rfl (by decide +kernel) rfl ⟨rfl, rfl⟩ ⟨Nat.le_of_ble_eq_true rfl, Nat.le_of_ble_eq_true rfl⟩ ⟨Nat.le_refl _, Nat.le_refl _⟩ rfl hl.1 (Nat.le_of_ble_eq_true rfl) dX1_type_70 (fun u H locs hp w => ?_)
            subst hp
            refine lv_aload_n hx hb dX1_type_73 rfl (lv_at hl 1 rfl) ?_
            refine m_get C w 0 (v := .ref (ad 1)) q241 (by decide) rfl dX1_type_74 ?_
            refine lv_iload_n hx hb dX1_type_77 rfl (lv_at hl 2 rfl) ?_
            refine lv_iload_n hx hb dX1_type_78 rfl (lv_at hl 3 rfl) ?_
            refine m_st C w 0 (n := 64) (f := st_op le (L.length) q 1) (i := q) ((L.length) + 1, if q < f then f + 1 else f, upd (st_op le (L.length) q 1) q c0, st_op sy (L.length) q 1, kL, kS) rfl rfl (by omega) (by decide) rfl dX1_type_79 (fun H locs w => ?_)
            refine lv_aload_n hx hb dX1_type_80 rfl (lv_at hl 1 rfl) ?_
            refine m_get C w 1 (v := .ref (ad 2)) q242 (by decide) rfl dX1_type_81 ?_
            refine lv_iload_n hx hb dX1_type_84 rfl (lv_at hl 2 rfl) ?_
            refine lv_iload_n hx hb dX1_type_85 rfl (lv_at hl 0 rfl) ?_
            refine m_st C w 1 (n := 64) (f := st_op sy (L.length) q 1) (i := q) ((L.length) + 1, if q < f then f + 1 else f, upd (st_op le (L.length) q 1) q c0, upd (st_op sy (L.length) q 1) q (nI 0), kL, kS) rfl rfl (by omega) (by decide) rfl dX1_type_86 (fun H locs w => ?_)
            refine lv_aload_n hx hb dX1_type_87 rfl (lv_at hl 1 rfl) ?_
            refine m_get C w 2 (v := .int (nI ((L.length) + 1))) q243 (by decide) rfl dX1_type_88 ?_
            have hop : st_oType (nI q) c0 (L, E, f) = (nI (L.length + 1), st_ins L q [c0], st_ins E q [(nI 0)], if q < f then f + 1 else f) := by unfold st_oType; rw [if_neg hbd, if_neg c28, st_clamp (by omega)]; dsimp only; rw [if_pos c38]; rfl
            exact hend _ _ _ _ ((nI ((L.length) + 1))) ((L.length) + 1, if q < f then f + 1 else f, upd (st_op le (L.length) q 1) q c0, upd (st_op sy (L.length) q 1) q (nI 0), kL, kS) (by rw [hop]; exact ⟨rfl, st_AR_one hA hq, st_AR_one hB hq, by show L.length + 1 ≤ 64; omega, rfl, by show (if q < f then f + 1 else f) ≤ L.length + 1; split <;> omega⟩) w rfl dX1_type_91
        · refine lv_bipush (v := (-2)) hx hb dX1_type_31 (by decide) ?_
          have hop : st_oType (nI q) c0 (L, E, f) = (-2, L, E, f) := by unfold st_oType; rw [if_neg hbd]; exact if_pos c28
          exact hend _ _ _ _ ((-2)) (L.length, f, le, sy, kL, kS) (by rw [hop]; exact ⟨rfl, hA, hB, hn, rfl, hf⟩) w rfl dX1_type_33
      · refine lv_iconst (v := (-1)) hx hb dX1_type_20 (by decide) ?_
        have hop : st_oType v c0 (L, E, f) = (-1, L, E, f) := by unfold st_oType; exact if_pos (Or.inr (Or.inr c17))
        exact hend _ _ _ _ ((-1)) (L.length, f, le, sy, kL, kS) (by rw [hop]; exact ⟨rfl, hA, hB, hn, rfl, hf⟩) w rfl dX1_type_21
set_option maxHeartbeats 4000000 in
/-- put -/
theorem pm_put (l : Launch) (f : Nat) (le sy kL kS : Nat → Int32) (L E : List Int32) (v c0 kk sv : Int32) (hA : st_AR L.length le L) (hB : st_AR L.length sy E) (hn : L.length ≤ 64) (hf : f ≤ L.length) : MMi l yX1_put cX1_put 6 .int (st_rm 1 23) [.int v, .int c0, .int kk, .int sv] (L.length, f, le, sy, kL, kS) (fun r u => r = (st_oPut v c0 kk sv (L, E, f)).1 ∧ st_MR u (st_oPut v c0 kk sv (L, E, f)).2) := by
  intro D ad ca
  refine g_enter_i RX1 rfl (by decide +kernel) (Nat.le_of_ble_eq_true rfl) ?_
  intro p e s m below meth c A Q args ls C w hl hend
  have hx := C.1
  have hb := C.2.1
  have hl : lv_has ls 6 [(0, .ref (ad 0)), (1, .int v), (2, .int c0), (3, .int kk), (4, .int sv)] := hl
  have hBl := hB.1
  refine lv_aload_n hx hb dX1_put_0 rfl (lv_at hl 0 rfl) ?_
  refine lv_iload_n hx hb dX1_put_1 rfl (lv_at hl 2 rfl) ?_
  refine m_calli (n := 1) (As := [.int c0]) (rest := []) C w (mm_isLetter l (L.length) f le sy kL kS c0) q264 q266 qs21 q267 rfl (by decide +kernel) rfl ⟨rfl, rfl⟩ ⟨Nat.le_of_ble_eq_true rfl, Nat.le_of_ble_eq_true rfl⟩ ⟨Nat.le_refl _, Nat.le_refl _⟩ rfl hl.1 (Nat.le_of_ble_eq_true rfl) dX1_put_2 (fun r0 u H locs hp w => ?_)
  obtain ⟨rfl, hr0⟩ := hp
  refine lv_if_eq (tgt := 42) hx hb dX1_put_5 (by decide) (fun c5 => ?_) (fun c5 => ?_)
  · refine lv_iconst (v := (-1)) hx hb dX1_put_42 (by decide) ?_
    have hop : st_oPut v c0 kk sv (L, E, f) = (-1, L, E, f) := by unfold st_oPut; exact if_pos (Or.inl (st_c0 hr0 c5))
    exact hend _ _ _ _ ((-1)) (L.length, f, le, sy, kL, kS) (by rw [hop]; exact ⟨rfl, hA, hB, hn, rfl, hf⟩) w rfl dX1_put_43
  · refine lv_iload_n hx hb dX1_put_8 rfl (lv_at hl 1 rfl) ?_
    refine lv_if_lt (tgt := 42) hx hb dX1_put_9 (by decide) (fun c9 => ?_) (fun c9 => ?_)
    · refine lv_iconst (v := (-1)) hx hb dX1_put_42 (by decide) ?_
      have hop : st_oPut v c0 kk sv (L, E, f) = (-1, L, E, f) := by unfold st_oPut; exact if_pos (Or.inr (Or.inl c9))
      exact hend _ _ _ _ ((-1)) (L.length, f, le, sy, kL, kS) (by rw [hop]; exact ⟨rfl, hA, hB, hn, rfl, hf⟩) w rfl dX1_put_43
    · refine lv_iload_n hx hb dX1_put_12 rfl (lv_at hl 1 rfl) ?_
      refine lv_aload_n hx hb dX1_put_13 rfl (lv_at hl 0 rfl) ?_
      refine m_get C w 2 (v := .int (nI (L.length))) q243 (by decide) rfl dX1_put_14 ?_
      refine lv_icmp_gt (tgt := 42) hx hb dX1_put_17 (by decide) (fun c17 => ?_) (fun c17 => ?_)
      · refine lv_iconst (v := (-1)) hx hb dX1_put_42 (by decide) ?_
        have hop : st_oPut v c0 kk sv (L, E, f) = (-1, L, E, f) := by unfold st_oPut; exact if_pos (Or.inr (Or.inr (Or.inl (Int32.not_le.mpr c17))))
        exact hend _ _ _ _ ((-1)) (L.length, f, le, sy, kL, kS) (by rw [hop]; exact ⟨rfl, hA, hB, hn, rfl, hf⟩) w rfl dX1_put_43
      · refine lv_iload_n hx hb dX1_put_20 rfl (lv_at hl 3 rfl) ?_
        refine lv_if_lt (tgt := 42) hx hb dX1_put_21 (by decide) (fun c21 => ?_) (fun c21 => ?_)
        · refine lv_iconst (v := (-1)) hx hb dX1_put_42 (by decide) ?_
          have hop : st_oPut v c0 kk sv (L, E, f) = (-1, L, E, f) := by unfold st_oPut; exact if_pos (Or.inr (Or.inr (Or.inr (Or.inl c21))))
          exact hend _ _ _ _ ((-1)) (L.length, f, le, sy, kL, kS) (by rw [hop]; exact ⟨rfl, hA, hB, hn, rfl, hf⟩) w rfl dX1_put_43
        · refine lv_iload_n hx hb dX1_put_24 rfl (lv_at hl 3 rfl) ?_
          refine lv_bipush (v := nI 64) hx hb dX1_put_25 (by decide) ?_
          refine lv_icmp_gt (tgt := 42) hx hb dX1_put_27 (by decide) (fun c27 => ?_) (fun c27 => ?_)
          · refine lv_iconst (v := (-1)) hx hb dX1_put_42 (by decide) ?_
            have hop : st_oPut v c0 kk sv (L, E, f) = (-1, L, E, f) := by unfold st_oPut; exact if_pos (Or.inr (Or.inr (Or.inr (Or.inr (Or.inl (Int32.not_le.mpr c27))))))
            exact hend _ _ _ _ ((-1)) (L.length, f, le, sy, kL, kS) (by rw [hop]; exact ⟨rfl, hA, hB, hn, rfl, hf⟩) w rfl dX1_put_43
          · refine lv_iload hx hb dX1_put_30 (lv_at hl 4 rfl) ?_
            refine lv_if_lt (tgt := 42) hx hb dX1_put_32 (by decide) (fun c32 => ?_) (fun c32 => ?_)
            · refine lv_iconst (v := (-1)) hx hb dX1_put_42 (by decide) ?_
              have hop : st_oPut v c0 kk sv (L, E, f) = (-1, L, E, f) := by unfold st_oPut; exact if_pos (Or.inr (Or.inr (Or.inr (Or.inr (Or.inr (Or.inl c32))))))
              exact hend _ _ _ _ ((-1)) (L.length, f, le, sy, kL, kS) (by rw [hop]; exact ⟨rfl, hA, hB, hn, rfl, hf⟩) w rfl dX1_put_43
            · refine lv_iload hx hb dX1_put_35 (lv_at hl 4 rfl) ?_
              refine lv_bipush (v := nI 63) hx hb dX1_put_37 (by decide) ?_
              refine lv_icmp_le (tgt := 44) hx hb dX1_put_39 (by decide) (fun c39 => ?_) (fun c39 => ?_)
              · have c17 := Int32.not_lt.mp c17
                have c27 := Int32.not_lt.mp c27
                have hbd : ¬ (st_badL c0 ∨ v < 0 ∨ ¬ v ≤ nI L.length ∨ kk < 0 ∨ ¬ kk ≤ nI 64 ∨ sv < 0 ∨ ¬ sv ≤ nI 63) := fun z => z.elim (st_c1x hr0 c5) (fun z => z.elim c9 (fun z => z.elim (fun z => z c17) (fun z => z.elim c21 (fun z => z.elim (fun z => z c27) (fun z => z.elim c32 (fun z => z c39))))))
                obtain ⟨q, hq, rfl⟩ := st_le_nI (by omega) c9 c17
                obtain ⟨a, ha, rfl⟩ := st_le_nI (by decide) c21 c27
                refine lv_aload_n hx hb dX1_put_44 rfl (lv_at hl 0 rfl) ?_
                refine m_get C w 2 (v := .int (nI (L.length))) q243 (by decide) rfl dX1_put_45 ?_
                refine lv_iload_n hx hb dX1_put_48 rfl (lv_at hl 3 rfl) ?_
                refine n_iadd hx hb dX1_put_49 ?_
                refine lv_bipush (v := nI 64) hx hb dX1_put_50 (by decide) ?_
                refine n_icmp_le (tgt := 58) hx hb dX1_put_52 (by decide) (by omega) (by omega) (fun c52 => ?_) (fun c52 => ?_)
                · refine lv_aload_n hx hb dX1_put_58 rfl (lv_at hl 0 rfl) ?_
                  refine lv_iload_n hx hb dX1_put_59 rfl (lv_at hl 1 rfl) ?_
                  refine lv_iload_n hx hb dX1_put_60 rfl (lv_at hl 3 rfl) ?_
                  refine m_callv (n := 2) (As := [.int (nI q), .int (nI a)]) (rest := []) C w (mm_open l (L.length) f le sy kL kS q a (by omega) (by omega) (by omega)) q268 q270 qs22 q271 rfl (by decide +kernel) rfl ⟨rfl, rfl⟩ ⟨Nat.le_of_ble_eq_true rfl, Nat.le_of_ble_eq_true rfl⟩ ⟨Nat.le_refl _, Nat.le_refl _⟩ rfl hl.1 (Nat.le_of_ble_eq_true rfl) dX1_put_61 (fun u H locs hp w => ?_)
                  subst hp
                  refine lv_iconst (v := nI 0) hx hb dX1_put_64 (by decide) ?_
                  refine lv_istore (lv' := [(5, .int (nI 0)), (0, .ref (ad 0)), (1, .int (nI q)), (2, .int c0), (3, .int (nI a)), (4, .int sv)]) hx hb dX1_put_65 hl (by decide) rfl (fun ls hl => ?_)
                  have loop : ∀ (N : Nat) (t : Nat) (l1 s1 : Nat → Int32), a - t < N → (t ≤ a) → (l1 = st_pk (st_op le L.length q a) (fun _ => c0) q t) → (s1 = st_pk (st_op sy L.length q a) (fun _ => sv) q t) → ∀ (H : Heap) (locs : List Loc) (ls : Array Slot), wd D A s (mw ad ca (L.length + a, if q < f then f + a else f, l1, s1, kL, kS)) (mt ca) H locs → lv_has ls 6 [(0, .ref (ad 0)), (1, .int (nI q)), (2, .int c0), (3, .int (nI a)), (4, .int sv), (5, .int (nI t))] → W p l e (st_rm 1 23) s m args below meth c H locs 0 0 Q (F0 m 67 ls []) := by
                    intro N
                    induction N with
                    | zero => intro t l1 s1 hN; exact absurd hN (Nat.not_lt_zero _)
                    | succ N ih =>
                      intro t l1 s1 hN h1 hc hs H locs ls w hl
                      refine lv_iload hx hb dX1_put_67 (lv_at hl 5 rfl) ?_
                      refine lv_iload_n hx hb dX1_put_69 rfl (lv_at hl 3 rfl) ?_
                      refine n_icmp_ge (tgt := 100) hx hb dX1_put_70 (by decide) (by omega) (by omega) (fun c70 => ?_) (fun c70 => ?_)
                      · refine lv_aload_n hx hb dX1_put_100 rfl (lv_at hl 0 rfl) ?_
                        refine m_get C w 2 (v := .int (nI (L.length + a))) q243 (by decide) rfl dX1_put_101 ?_
                        have hta : t = a := by omega
                        have hop : st_oPut (nI q) c0 (nI a) sv (L, E, f) = (nI (L.length + a), st_ins L q (List.replicate a c0), st_ins E q (List.replicate a sv), if q < f then f + a else f) := by unfold st_oPut; rw [if_neg hbd, st_clamp (show q ≤ 64 by omega), st_clamp ha]; exact if_neg (by show ¬ 64 < L.length + a; omega)
                        exact hend _ _ _ _ ((nI (L.length + a))) (L.length + a, if q < f then f + a else f, l1, s1, kL, kS) (by rw [hop]; exact ⟨rfl, by rw [hta] at hc; rw [hc]; exact st_AR_pk (K := List.replicate a c0) hA hq List.length_replicate (fun x hx => by rw [List.getElem?_replicate]; exact if_pos hx), by rw [hta] at hs; rw [hs]; exact st_AR_pk (K := List.replicate a sv) hB hq List.length_replicate (fun x hx => by rw [List.getElem?_replicate]; exact if_pos hx), by show L.length + a ≤ 64; omega, rfl, by show (if q < f then f + a else f) ≤ L.length + a; split <;> omega⟩) w rfl dX1_put_104
                      · refine lv_aload_n hx hb dX1_put_73 rfl (lv_at hl 0 rfl) ?_
                        refine m_get C w 0 (v := .ref (ad 1)) q241 (by decide) rfl dX1_put_74 ?_
                        refine lv_iload_n hx hb dX1_put_77 rfl (lv_at hl 1 rfl) ?_
                        refine lv_iload hx hb dX1_put_78 (lv_at hl 5 rfl) ?_
                        refine n_iadd hx hb dX1_put_80 ?_
                        refine lv_iload_n hx hb dX1_put_81 rfl (lv_at hl 2 rfl) ?_
                        refine m_st C w 0 (n := 64) (f := l1) (i := q + t) (L.length + a, if q < f then f + a else f, upd l1 (q + t) c0, s1, kL, kS) rfl rfl (by omega) (by decide) rfl dX1_put_82 (fun H locs w => ?_)
                        refine lv_aload_n hx hb dX1_put_83 rfl (lv_at hl 0 rfl) ?_
                        refine m_get C w 1 (v := .ref (ad 2)) q242 (by decide) rfl dX1_put_84 ?_
                        refine lv_iload_n hx hb dX1_put_87 rfl (lv_at hl 1 rfl) ?_
                        refine lv_iload hx hb dX1_put_88 (lv_at hl 5 rfl) ?_
                        refine n_iadd hx hb dX1_put_90 ?_
                        refine lv_iload hx hb dX1_put_91 (lv_at hl 4 rfl) ?_
                        refine m_st C w 1 (n := 64) (f := s1) (i := q + t) (L.length + a, if q < f then f + a else f, upd l1 (q + t) c0, upd s1 (q + t) sv, kL, kS) rfl rfl (by omega) (by decide) rfl dX1_put_93 (fun H locs w => ?_)
                        refine lv_iinc (v := (nI (t + 1))) (lv' := [(5, .int (nI (t + 1))), (0, .ref (ad 0)), (1, .int (nI q)), (2, .int c0), (3, .int (nI a)), (4, .int sv)]) hx hb dX1_put_94 hl (k := 5) rfl (n_inc _) (by decide) rfl (fun ls hl => ?_)
                        refine lv_goto (tgt := 67) hx hb dX1_put_97 (by decide) ?_
                        exact ih (t + 1) _ _ (by omega) (by omega) (by rw [hc]; exact st_pk_s (k := fun _ => c0)) (by rw [hs]; exact st_pk_s (k := fun _ => sv)) _ _ _ w (lv_sub hl [1, 2, 3, 4, 5, 0] rfl)
                  exact loop (a + 1) 0 _ _ (by omega) (Nat.zero_le _) (st_pk_0 _ _ q) (st_pk_0 _ _ q) _ _ _ w (lv_sub hl [1, 2, 3, 4, 5, 0] rfl)
                · refine lv_bipush (v := (-2)) hx hb dX1_put_55 (by decide) ?_
                  have hop : st_oPut (nI q) c0 (nI a) sv (L, E, f) = (-2, L, E, f) := by unfold st_oPut; rw [if_neg hbd, st_clamp ha]; exact if_pos c52
                  exact hend _ _ _ _ ((-2)) (L.length, f, le, sy, kL, kS) (by rw [hop]; exact ⟨rfl, hA, hB, hn, rfl, hf⟩) w rfl dX1_put_57
              · refine lv_iconst (v := (-1)) hx hb dX1_put_42 (by decide) ?_
                have hop : st_oPut v c0 kk sv (L, E, f) = (-1, L, E, f) := by unfold st_oPut; exact if_pos (Or.inr (Or.inr (Or.inr (Or.inr (Or.inr (Or.inr c39))))))
                exact hend _ _ _ _ ((-1)) (L.length, f, le, sy, kL, kS) (by rw [hop]; exact ⟨rfl, hA, hB, hn, rfl, hf⟩) w rfl dX1_put_43
set_option maxHeartbeats 4000000 in
/-- remove -/
theorem pm_remove (l : Launch) (f : Nat) (le sy kL kS : Nat → Int32) (L E : List Int32) (vi vj : Int32) (hA : st_AR L.length le L) (hB : st_AR L.length sy E) (hn : L.length ≤ 64) (hf : f ≤ L.length) : MMi l yX1_remove cX1_remove 4 .int (st_rm 1 22) [.int vi, .int vj] (L.length, f, le, sy, kL, kS) (fun r u => r = (st_oRemove vi vj (L, E, f)).1 ∧ st_MR u (st_oRemove vi vj (L, E, f)).2 ∧ u.2.2.2.2 = (kL, kS)) := by
  intro D ad ca
  refine g_enter_i RX1 rfl (by decide +kernel) (Nat.le_of_ble_eq_true rfl) ?_
  intro p e s m below meth c A Q args ls C w hl hend
  have hx := C.1
  have hb := C.2.1
  have hl : lv_has ls 4 [(0, .ref (ad 0)), (1, .int vi), (2, .int vj)] := hl
  have hBl := hB.1
  refine lv_aload_n hx hb dX1_remove_0 rfl (lv_at hl 0 rfl) ?_
  refine lv_iload_n hx hb dX1_remove_1 rfl (lv_at hl 1 rfl) ?_
  refine lv_iload_n hx hb dX1_remove_2 rfl (lv_at hl 2 rfl) ?_
  refine m_calli (n := 2) (As := [.int vi, .int vj]) (rest := []) C w (mm_isStretch l (L.length) f le sy kL kS vi vj) q280 q282 qs23 q283 rfl (by decide +kernel) rfl ⟨rfl, rfl⟩ ⟨Nat.le_of_ble_eq_true rfl, Nat.le_of_ble_eq_true rfl⟩ ⟨Nat.le_refl _, Nat.le_refl _⟩ rfl hl.1 (Nat.le_of_ble_eq_true rfl) dX1_remove_3 (fun r0 u H locs hp w => ?_)
  obtain ⟨rfl, hr0⟩ := hp
  refine lv_if_ne (tgt := 11) hx hb dX1_remove_6 (by decide) (fun c6 => ?_) (fun c6 => ?_)
  · have hbd := st_c1x hr0 c6
    have hbd0 := hbd
    obtain ⟨i, j, rfl, rfl, hij, hj⟩ := st_bad_no (by omega) hbd0
    refine lv_iload_n hx hb dX1_remove_11 rfl (lv_at hl 2 rfl) ?_
    refine lv_istore_n (lv' := [(3, .int (nI j)), (0, .ref (ad 0)), (1, .int (nI i)), (2, .int (nI j))]) hx hb dX1_remove_12 rfl hl (by decide) rfl (fun ls hl => ?_)
    have loop : ∀ (N : Nat) (t : Nat) (l1 s1 : Nat → Int32), L.length - t < N → (j ≤ t) → (t ≤ L.length) → (l1 = st_dl le i j t) → (s1 = st_dl sy i j t) → ∀ (H : Heap) (locs : List Loc) (ls : Array Slot), wd D A s (mw ad ca (L.length, f, l1, s1, kL, kS)) (mt ca) H locs → lv_has ls 4 [(0, .ref (ad 0)), (1, .int (nI i)), (2, .int (nI j)), (3, .int (nI t))] → W p l e (st_rm 1 22) s m args below meth c H locs 0 0 Q (F0 m 13 ls []) := by
      intro N
      induction N with
      | zero => intro t l1 s1 hN; exact absurd hN (Nat.not_lt_zero _)
      | succ N ih =>
        intro t l1 s1 hN h1 h2 hc hs H locs ls w hl
        refine lv_iload_n hx hb dX1_remove_13 rfl (lv_at hl 3 rfl) ?_
        refine lv_aload_n hx hb dX1_remove_14 rfl (lv_at hl 0 rfl) ?_
        refine m_get C w 2 (v := .int (nI (L.length))) q243 (by decide) rfl dX1_remove_15 ?_
        refine n_icmp_ge (tgt := 59) hx hb dX1_remove_18 (by decide) (by omega) (by omega) (fun c18 => ?_) (fun c18 => ?_)
        · refine lv_aload_n hx hb dX1_remove_59 rfl (lv_at hl 0 rfl) ?_
          refine lv_aload_n hx hb dX1_remove_60 rfl (lv_at hl 0 rfl) ?_
          refine m_get C w 2 (v := .int (nI (L.length))) q243 (by decide) rfl dX1_remove_61 ?_
          refine lv_iload_n hx hb dX1_remove_64 rfl (lv_at hl 2 rfl) ?_
          refine lv_iload_n hx hb dX1_remove_65 rfl (lv_at hl 1 rfl) ?_
          refine n_isub hx hb (by omega) dX1_remove_66 ?_
          refine n_isub hx hb (by omega) dX1_remove_67 ?_
          refine m_put C w 2 ((L.length) - (j - i), f, l1, s1, kL, kS) q243 (by decide) rfl rfl rfl dX1_remove_68 (fun H locs w => ?_)
          refine lv_aload_n hx hb dX1_remove_71 rfl (lv_at hl 0 rfl) ?_
          refine lv_aload_n hx hb dX1_remove_72 rfl (lv_at hl 0 rfl) ?_
          refine m_get C w 3 (v := .int (nI f)) q244 (by decide) rfl dX1_remove_73 ?_
          refine lv_iload_n hx hb dX1_remove_76 rfl (lv_at hl 2 rfl) ?_
          refine n_icmp_lt (tgt := 91) hx hb dX1_remove_77 (by decide) (by omega) (by omega) (fun c77 => ?_) (fun c77 => ?_)
          · refine lv_aload_n hx hb dX1_remove_91 rfl (lv_at hl 0 rfl) ?_
            refine m_get C w 3 (v := .int (nI f)) q244 (by decide) rfl dX1_remove_92 ?_
            refine lv_iload_n hx hb dX1_remove_95 rfl (lv_at hl 1 rfl) ?_
            refine n_icmp_le (tgt := 103) hx hb dX1_remove_96 (by decide) (by omega) (by omega) (fun c96 => ?_) (fun c96 => ?_)
            · refine lv_aload_n hx hb dX1_remove_103 rfl (lv_at hl 0 rfl) ?_
              refine m_get C w 3 (v := .int (nI f)) q244 (by decide) rfl dX1_remove_104 ?_
              refine m_put C w 3 ((L.length) - (j - i), f, l1, s1, kL, kS) q244 (by decide) rfl rfl rfl dX1_remove_107 (fun H locs w => ?_)
              refine lv_aload_n hx hb dX1_remove_110 rfl (lv_at hl 0 rfl) ?_
              refine m_get C w 2 (v := .int (nI ((L.length) - (j - i)))) q243 (by decide) rfl dX1_remove_111 ?_
              have htn : t = L.length := by omega
              rw [htn] at hc hs
              have hop : st_oRemove (nI i) (nI j) (L, E, f) = (nI (L.length - (j - i)), st_del L i j, st_del E i j, st_dfl f i j) := by unfold st_oRemove; rw [if_neg hbd, st_clamp (show i ≤ 64 by omega), st_clamp (show j ≤ 64 by omega)]
              exact hend _ _ _ _ ((nI ((L.length) - (j - i)))) ((L.length) - (j - i), f, l1, s1, kL, kS) (by rw [hop]; exact ⟨rfl, ⟨by rw [hc]; exact st_AR_del hA hij hj, by rw [hs]; exact st_AR_del hB hij hj, by show L.length - (j - i) ≤ 64; omega, by show f = st_dfl f i j; rw [st_dfl, if_neg (Nat.not_le.mpr c77), if_neg (Nat.not_lt.mpr c96)], by show f ≤ L.length - (j - i); omega⟩, rfl⟩) w rfl dX1_remove_114
            · refine lv_iload_n hx hb dX1_remove_99 rfl (lv_at hl 1 rfl) ?_
              refine lv_goto (tgt := 107) hx hb dX1_remove_100 (by decide) ?_
              refine m_put C w 3 ((L.length) - (j - i), i, l1, s1, kL, kS) q244 (by decide) rfl rfl rfl dX1_remove_107 (fun H locs w => ?_)
              refine lv_aload_n hx hb dX1_remove_110 rfl (lv_at hl 0 rfl) ?_
              refine m_get C w 2 (v := .int (nI ((L.length) - (j - i)))) q243 (by decide) rfl dX1_remove_111 ?_
              have htn : t = L.length := by omega
              rw [htn] at hc hs
              have hop : st_oRemove (nI i) (nI j) (L, E, f) = (nI (L.length - (j - i)), st_del L i j, st_del E i j, st_dfl f i j) := by unfold st_oRemove; rw [if_neg hbd, st_clamp (show i ≤ 64 by omega), st_clamp (show j ≤ 64 by omega)]
              exact hend _ _ _ _ ((nI ((L.length) - (j - i)))) ((L.length) - (j - i), i, l1, s1, kL, kS) (by rw [hop]; exact ⟨rfl, ⟨by rw [hc]; exact st_AR_del hA hij hj, by rw [hs]; exact st_AR_del hB hij hj, by show L.length - (j - i) ≤ 64; omega, by show i = st_dfl f i j; rw [st_dfl, if_neg (Nat.not_le.mpr c77), if_pos c96], by show i ≤ L.length - (j - i); omega⟩, rfl⟩) w rfl dX1_remove_114
          · refine lv_aload_n hx hb dX1_remove_80 rfl (lv_at hl 0 rfl) ?_
            refine m_get C w 3 (v := .int (nI f)) q244 (by decide) rfl dX1_remove_81 ?_
            refine lv_iload_n hx hb dX1_remove_84 rfl (lv_at hl 2 rfl) ?_
            refine lv_iload_n hx hb dX1_remove_85 rfl (lv_at hl 1 rfl) ?_
            refine n_isub hx hb (by omega) dX1_remove_86 ?_
            refine n_isub hx hb (by omega) dX1_remove_87 ?_
            refine lv_goto (tgt := 107) hx hb dX1_remove_88 (by decide) ?_
            refine m_put C w 3 ((L.length) - (j - i), f - (j - i), l1, s1, kL, kS) q244 (by decide) rfl rfl rfl dX1_remove_107 (fun H locs w => ?_)
            refine lv_aload_n hx hb dX1_remove_110 rfl (lv_at hl 0 rfl) ?_
            refine m_get C w 2 (v := .int (nI ((L.length) - (j - i)))) q243 (by decide) rfl dX1_remove_111 ?_
            have htn : t = L.length := by omega
            rw [htn] at hc hs
            have hop : st_oRemove (nI i) (nI j) (L, E, f) = (nI (L.length - (j - i)), st_del L i j, st_del E i j, st_dfl f i j) := by unfold st_oRemove; rw [if_neg hbd, st_clamp (show i ≤ 64 by omega), st_clamp (show j ≤ 64 by omega)]
            exact hend _ _ _ _ ((nI ((L.length) - (j - i)))) ((L.length) - (j - i), f - (j - i), l1, s1, kL, kS) (by rw [hop]; exact ⟨rfl, ⟨by rw [hc]; exact st_AR_del hA hij hj, by rw [hs]; exact st_AR_del hB hij hj, by show L.length - (j - i) ≤ 64; omega, by show f - (j - i) = st_dfl f i j; rw [st_dfl, if_pos c77], by show f - (j - i) ≤ L.length - (j - i); omega⟩, rfl⟩) w rfl dX1_remove_114
        · refine lv_aload_n hx hb dX1_remove_21 rfl (lv_at hl 0 rfl) ?_
          refine m_get C w 0 (v := .ref (ad 1)) q241 (by decide) rfl dX1_remove_22 ?_
          refine lv_iload_n hx hb dX1_remove_25 rfl (lv_at hl 3 rfl) ?_
          refine lv_iload_n hx hb dX1_remove_26 rfl (lv_at hl 2 rfl) ?_
          refine lv_iload_n hx hb dX1_remove_27 rfl (lv_at hl 1 rfl) ?_
          refine n_isub hx hb (by omega) dX1_remove_28 ?_
          refine n_isub hx hb (by omega) dX1_remove_29 ?_
          refine lv_aload_n hx hb dX1_remove_30 rfl (lv_at hl 0 rfl) ?_
          refine m_get C w 0 (v := .ref (ad 1)) q241 (by decide) rfl dX1_remove_31 ?_
          refine lv_iload_n hx hb dX1_remove_34 rfl (lv_at hl 3 rfl) ?_
          refine m_ld C w 0 (n := 64) (f := l1) (i := t) rfl rfl (by omega) (by decide) dX1_remove_35 ?_
          refine m_st C w 0 (n := 64) (f := l1) (i := t - (j - i)) (L.length, f, upd l1 (t - (j - i)) (l1 t), s1, kL, kS) rfl rfl (by omega) (by decide) rfl dX1_remove_36 (fun H locs w => ?_)
          refine lv_aload_n hx hb dX1_remove_37 rfl (lv_at hl 0 rfl) ?_
          refine m_get C w 1 (v := .ref (ad 2)) q242 (by decide) rfl dX1_remove_38 ?_
          refine lv_iload_n hx hb dX1_remove_41 rfl (lv_at hl 3 rfl) ?_
          refine lv_iload_n hx hb dX1_remove_42 rfl (lv_at hl 2 rfl) ?_
          refine lv_iload_n hx hb dX1_remove_43 rfl (lv_at hl 1 rfl) ?_
          refine n_isub hx hb (by omega) dX1_remove_44 ?_
          refine n_isub hx hb (by omega) dX1_remove_45 ?_
          refine lv_aload_n hx hb dX1_remove_46 rfl (lv_at hl 0 rfl) ?_
          refine m_get C w 1 (v := .ref (ad 2)) q242 (by decide) rfl dX1_remove_47 ?_
          refine lv_iload_n hx hb dX1_remove_50 rfl (lv_at hl 3 rfl) ?_
          refine m_ld C w 1 (n := 64) (f := s1) (i := t) rfl rfl (by omega) (by decide) dX1_remove_51 ?_
          refine m_st C w 1 (n := 64) (f := s1) (i := t - (j - i)) (L.length, f, upd l1 (t - (j - i)) (l1 t), upd s1 (t - (j - i)) (s1 t), kL, kS) rfl rfl (by omega) (by decide) rfl dX1_remove_52 (fun H locs w => ?_)
          refine lv_iinc (v := (nI (t + 1))) (lv' := [(3, .int (nI (t + 1))), (0, .ref (ad 0)), (1, .int (nI i)), (2, .int (nI j))]) hx hb dX1_remove_53 hl (k := 3) rfl (n_inc _) (by decide) rfl (fun ls hl => ?_)
          refine lv_goto (tgt := 13) hx hb dX1_remove_56 (by decide) ?_
          exact ih (t + 1) _ _ (by omega) (by omega) (by omega) (by rw [hc]; exact st_dl_s hij h1) (by rw [hs]; exact st_dl_s hij h1) _ _ _ w (lv_sub hl [1, 2, 3, 0] rfl)
    exact loop (L.length - j + 1) j _ _ (by omega) (Nat.le_refl _) (hj) (st_dl_0 hij) (st_dl_0 hij) _ _ _ w (lv_sub hl [1, 2, 3, 0] rfl)
  · refine lv_iconst (v := (-1)) hx hb dX1_remove_9 (by decide) ?_
    have hop : st_oRemove vi vj (L, E, f) = (-1, L, E, f) := by unfold st_oRemove; exact if_pos (st_c0 hr0 c6)
    exact hend _ _ _ _ ((-1)) (L.length, f, le, sy, kL, kS) (by rw [hop]; exact ⟨rfl, ⟨hA, hB, hn, rfl, hf⟩, rfl⟩) w rfl dX1_remove_10
end
section
set_option maxRecDepth 100000
set_option maxHeartbeats 4000000 in
/-- move -/
theorem pm_move (l : Launch) (f : Nat) (le sy kL kS : Nat → Int32) (L E : List Int32) (vi vj v : Int32) (hA : st_AR L.length le L) (hB : st_AR L.length sy E) (hn : L.length ≤ 64) (hf : f ≤ L.length) : MMi l yX1_move cX1_move 4 .int (st_rm 2 46) [.int vi, .int vj, .int v] (L.length, f, le, sy, kL, kS) (fun r u => r = (st_oMove vi vj v (L, E, f)).1 ∧ st_MR u (st_oMove vi vj v (L, E, f)).2) := by
  intro D ad ca
  refine g_enter_i RX1 rfl (by decide +kernel) (Nat.le_of_ble_eq_true rfl) ?_
  intro p e s m below meth c A Q args ls C w hl hend
  have hx := C.1
  have hb := C.2.1
  have hl : lv_has ls 4 [(0, .ref (ad 0)), (1, .int vi), (2, .int vj), (3, .int v)] := hl
  have hBl := hB.1
  refine lv_aload_n hx hb dX1_move_0 rfl (lv_at hl 0 rfl) ?_
  refine lv_iload_n hx hb dX1_move_1 rfl (lv_at hl 1 rfl) ?_
  refine lv_iload_n hx hb dX1_move_2 rfl (lv_at hl 2 rfl) ?_
  refine m_calli (n := 2) (As := [.int vi, .int vj]) (rest := []) C w (mm_isStretch l (L.length) f le sy kL kS vi vj) q280 q282 qs23 q283 rfl (by decide +kernel) rfl ⟨rfl, rfl⟩ ⟨Nat.le_of_ble_eq_true rfl, Nat.le_of_ble_eq_true rfl⟩ ⟨Nat.le_refl _, Nat.le_refl _⟩ rfl hl.1 (Nat.le_of_ble_eq_true rfl) dX1_move_3 (fun r0 u H locs hp w => ?_)
  obtain ⟨rfl, hr0⟩ := hp
  refine lv_if_eq (tgt := 25) hx hb dX1_move_6 (by decide) (fun c6 => ?_) (fun c6 => ?_)
  · refine lv_iconst (v := (-1)) hx hb dX1_move_25 (by decide) ?_
    have hop : st_oMove vi vj v (L, E, f) = (-1, L, E, f) := by unfold st_oMove; exact if_pos (Or.inl (st_c0 hr0 c6))
    exact hend _ _ _ _ ((-1)) (L.length, f, le, sy, kL, kS) (by rw [hop]; exact ⟨rfl, hA, hB, hn, rfl, hf⟩) w rfl dX1_move_26
  · have hbd := st_c1x hr0 c6
    have hbd0 := hbd
    obtain ⟨i, j, rfl, rfl, hij, hj⟩ := st_bad_no (by omega) hbd0
    refine lv_iload_n hx hb dX1_move_9 rfl (lv_at hl 3 rfl) ?_
    refine lv_if_lt (tgt := 25) hx hb dX1_move_10 (by decide) (fun c10 => ?_) (fun c10 => ?_)
    · refine lv_iconst (v := (-1)) hx hb dX1_move_25 (by decide) ?_
      have hop : st_oMove (nI i) (nI j) v (L, E, f) = (-1, L, E, f) := by unfold st_oMove; rw [st_clamp (show i ≤ 64 by omega), st_clamp (show j ≤ 64 by omega)]; exact if_pos (Or.inr (Or.inl c10))
      exact hend _ _ _ _ ((-1)) (L.length, f, le, sy, kL, kS) (by rw [hop]; exact ⟨rfl, hA, hB, hn, rfl, hf⟩) w rfl dX1_move_26
    · refine lv_iload_n hx hb dX1_move_13 rfl (lv_at hl 3 rfl) ?_
      refine lv_aload_n hx hb dX1_move_14 rfl (lv_at hl 0 rfl) ?_
      refine m_get C w 2 (v := .int (nI (L.length))) q243 (by decide) rfl dX1_move_15 ?_
      refine lv_iload_n hx hb dX1_move_18 rfl (lv_at hl 2 rfl) ?_
      refine lv_iload_n hx hb dX1_move_19 rfl (lv_at hl 1 rfl) ?_
      refine n_isub hx hb (by omega) dX1_move_20 ?_
      refine n_isub hx hb (by omega) dX1_move_21 ?_
      refine lv_icmp_le (tgt := 27) hx hb dX1_move_22 (by decide) (fun c22 => ?_) (fun c22 => ?_)
      · obtain ⟨q, hq, rfl⟩ := st_le_nI (by omega) c10 c22
        refine lv_aload_n hx hb dX1_move_27 rfl (lv_at hl 0 rfl) ?_
        refine lv_iload_n hx hb dX1_move_28 rfl (lv_at hl 1 rfl) ?_
        refine lv_iload_n hx hb dX1_move_29 rfl (lv_at hl 2 rfl) ?_
        refine m_callv (n := 2) (As := [.int (nI i), .int (nI j)]) (rest := []) C w (mm_keep l (L.length) f le sy kL kS i j (by omega) (by omega)) q288 q290 qs24 q291 rfl (by decide +kernel) rfl ⟨rfl, rfl⟩ ⟨Nat.le_of_ble_eq_true rfl, Nat.le_of_ble_eq_true rfl⟩ ⟨Nat.le_refl _, Nat.le_refl _⟩ rfl hl.1 (Nat.le_of_ble_eq_true rfl) dX1_move_30 (fun u H locs hp w => ?_)
        subst hp
        refine lv_aload_n hx hb dX1_move_33 rfl (lv_at hl 0 rfl) ?_
        refine lv_iload_n hx hb dX1_move_34 rfl (lv_at hl 1 rfl) ?_
        refine lv_iload_n hx hb dX1_move_35 rfl (lv_at hl 2 rfl) ?_
        refine m_calli (n := 2) (As := [.int (nI i), .int (nI j)]) (rest := []) C w (pm_remove l f le sy (st_kp le kL i j) (st_kp sy kS i j) L E (nI i) (nI j) hA hB hn hf) q292 q277 q278 q279 rfl (by decide +kernel) rfl ⟨rfl, rfl⟩ ⟨Nat.le_of_ble_eq_true rfl, Nat.le_of_ble_eq_true rfl⟩ ⟨Nat.le_refl _, Nat.le_refl _⟩ rfl hl.1 (Nat.le_of_ble_eq_true rfl) dX1_move_36 (fun rr u H locs hp w => ?_)
        obtain ⟨n4, f4, l4, s4, kL4, kS4⟩ := u
        have hop2 : st_oRemove (nI i) (nI j) (L, E, f) = (nI (L.length - (j - i)), st_del L i j, st_del E i j, st_dfl f i j) := by unfold st_oRemove; rw [if_neg hbd, st_clamp (show i ≤ 64 by omega), st_clamp (show j ≤ 64 by omega)]
        rw [hop2] at hp
        obtain ⟨hrr, ⟨hA2, hB2, hn2, hf2, hf3⟩, hk2⟩ := hp
        have hf4 : f4 = st_dfl f i j := hf2
        obtain ⟨e1, e2⟩ := Prod.mk.inj hk2
        have e1 : kL4 = st_kp le kL i j := e1
        have e2 : kS4 = st_kp sy kS i j := e2
        have hA2 : st_AR n4 l4 (st_del L i j) := hA2
        have hB2 : st_AR n4 s4 (st_del E i j) := hB2
        have hn4 : n4 = L.length - (j - i) := by rw [← hA2.1, st_del_len hij hj]
        clear hf2 hf3 hn2 hk2
        subst hn4 hf4 e1 e2
        refine lv_pop hx hb dX1_move_39 rfl ?_
        refine lv_aload_n hx hb dX1_move_40 rfl (lv_at hl 0 rfl) ?_
        refine lv_iload_n hx hb dX1_move_41 rfl (lv_at hl 3 rfl) ?_
        refine lv_iload_n hx hb dX1_move_42 rfl (lv_at hl 2 rfl) ?_
        refine lv_iload_n hx hb dX1_move_43 rfl (lv_at hl 1 rfl) ?_
        refine n_isub hx hb (by omega) dX1_move_44 ?_
        refine m_callv (n := 2) (As := [.int (nI q), .int (nI (j - i))]) (rest := []) C w (mm_putKept l (L.length - (j - i)) (st_dfl f i j) l4 s4 (st_kp le kL i j) (st_kp sy kS i j) q (j - i) (by omega) (by omega) (st_dfl_le hij hj hf)) q293 q295 qs25 q296 rfl (by decide +kernel) rfl ⟨rfl, rfl⟩ ⟨Nat.le_of_ble_eq_true rfl, Nat.le_of_ble_eq_true rfl⟩ ⟨Nat.le_refl _, Nat.le_refl _⟩ rfl hl.1 (Nat.le_of_ble_eq_true rfl) dX1_move_45 (fun u H locs hp w => ?_)
        subst hp
        refine lv_iconst (v := nI 0) hx hb dX1_move_48 (by decide) ?_
        have hop : st_oMove (nI i) (nI j) (nI q) (L, E, f) = (0, st_ins (st_del L i j) q (st_seg L i j), st_ins (st_del E i j) q (st_seg E i j), st_mfl f i j q) := by unfold st_oMove; rw [st_clamp (show i ≤ 64 by omega), st_clamp (show j ≤ 64 by omega), st_clamp (show q ≤ 64 by omega)]; exact if_neg (fun z => z.elim hbd (fun z => z.elim c10 (fun z => z c22)))
        exact hend _ _ _ _ ((nI 0)) ((L.length - (j - i)) + (j - i), if q < (st_dfl f i j) then (st_dfl f i j) + (j - i) else (st_dfl f i j), st_pk (st_op l4 (L.length - (j - i)) q (j - i)) (st_kp le kL i j) q (j - i), st_pk (st_op s4 (L.length - (j - i)) q (j - i)) (st_kp sy kS i j) q (j - i), st_kp le kL i j, st_kp sy kS i j) (by rw [hop]; exact ⟨rfl, st_AR_pk hA2 hq (st_seg_len hij hj) (fun x hx => by rw [st_seg_get hx]; unfold st_kp; rw [if_pos hx]; exact hA.2 (i + x) (by omega)), st_AR_pk hB2 hq (st_seg_len hij (by omega)) (fun x hx => by rw [st_seg_get hx]; unfold st_kp; rw [if_pos hx]; exact hB.2 (i + x) (by omega)), by show L.length - (j - i) + (j - i) ≤ 64; omega, rfl, st_mfl_le hij hj hf⟩) w rfl dX1_move_49
      · refine lv_iconst (v := (-1)) hx hb dX1_move_25 (by decide) ?_
        have hop : st_oMove (nI i) (nI j) v (L, E, f) = (-1, L, E, f) := by unfold st_oMove; rw [st_clamp (show i ≤ 64 by omega), st_clamp (show j ≤ 64 by omega)]; exact if_pos (Or.inr (Or.inr c22))
        exact hend _ _ _ _ ((-1)) (L.length, f, le, sy, kL, kS) (by rw [hop]; exact ⟨rfl, hA, hB, hn, rfl, hf⟩) w rfl dX1_move_26
set_option maxHeartbeats 4000000 in
/-- copy -/
theorem pm_copy (l : Launch) (f : Nat) (le sy kL kS : Nat → Int32) (L E : List Int32) (vi vj v : Int32) (hA : st_AR L.length le L) (hB : st_AR L.length sy E) (hn : L.length ≤ 64) (hf : f ≤ L.length) : MMi l yX1_copy cX1_copy 4 .int (st_rm 2 46) [.int vi, .int vj, .int v] (L.length, f, le, sy, kL, kS) (fun r u => r = (st_oCopy vi vj v (L, E, f)).1 ∧ st_MR u (st_oCopy vi vj v (L, E, f)).2) := by
  intro D ad ca
  refine g_enter_i RX1 rfl (by decide +kernel) (Nat.le_of_ble_eq_true rfl) ?_
  intro p e s m below meth c A Q args ls C w hl hend
  have hx := C.1
  have hb := C.2.1
  have hl : lv_has ls 4 [(0, .ref (ad 0)), (1, .int vi), (2, .int vj), (3, .int v)] := hl
  have hBl := hB.1
  refine lv_aload_n hx hb dX1_copy_0 rfl (lv_at hl 0 rfl) ?_
  refine lv_iload_n hx hb dX1_copy_1 rfl (lv_at hl 1 rfl) ?_
  refine lv_iload_n hx hb dX1_copy_2 rfl (lv_at hl 2 rfl) ?_
  refine m_calli (n := 2) (As := [.int vi, .int vj]) (rest := []) C w (mm_isStretch l (L.length) f le sy kL kS vi vj) q280 q282 qs23 q283 rfl (by decide +kernel) rfl ⟨rfl, rfl⟩ ⟨Nat.le_of_ble_eq_true rfl, Nat.le_of_ble_eq_true rfl⟩ ⟨Nat.le_refl _, Nat.le_refl _⟩ rfl hl.1 (Nat.le_of_ble_eq_true rfl) dX1_copy_3 (fun r0 u H locs hp w => ?_)
  obtain ⟨rfl, hr0⟩ := hp
  refine lv_if_eq (tgt := 21) hx hb dX1_copy_6 (by decide) (fun c6 => ?_) (fun c6 => ?_)
  · refine lv_iconst (v := (-1)) hx hb dX1_copy_21 (by decide) ?_
    have hop : st_oCopy vi vj v (L, E, f) = (-1, L, E, f) := by unfold st_oCopy; exact if_pos (Or.inl (st_c0 hr0 c6))
    exact hend _ _ _ _ ((-1)) (L.length, f, le, sy, kL, kS) (by rw [hop]; exact ⟨rfl, hA, hB, hn, rfl, hf⟩) w rfl dX1_copy_22
  · refine lv_iload_n hx hb dX1_copy_9 rfl (lv_at hl 3 rfl) ?_
    refine lv_if_lt (tgt := 21) hx hb dX1_copy_10 (by decide) (fun c10 => ?_) (fun c10 => ?_)
    · refine lv_iconst (v := (-1)) hx hb dX1_copy_21 (by decide) ?_
      have hop : st_oCopy vi vj v (L, E, f) = (-1, L, E, f) := by unfold st_oCopy; exact if_pos (Or.inr (Or.inl c10))
      exact hend _ _ _ _ ((-1)) (L.length, f, le, sy, kL, kS) (by rw [hop]; exact ⟨rfl, hA, hB, hn, rfl, hf⟩) w rfl dX1_copy_22
    · refine lv_iload_n hx hb dX1_copy_13 rfl (lv_at hl 3 rfl) ?_
      refine lv_aload_n hx hb dX1_copy_14 rfl (lv_at hl 0 rfl) ?_
      refine m_get C w 2 (v := .int (nI (L.length))) q243 (by decide) rfl dX1_copy_15 ?_
      refine lv_icmp_le (tgt := 23) hx hb dX1_copy_18 (by decide) (fun c18 => ?_) (fun c18 => ?_)
      · have hbd := st_c1x hr0 c6
        have hbd0 := hbd
        obtain ⟨i, j, rfl, rfl, hij, hj⟩ := st_bad_no (by omega) hbd0
        obtain ⟨q, hq, rfl⟩ := st_le_nI (by omega) c10 c18
        refine lv_aload_n hx hb dX1_copy_23 rfl (lv_at hl 0 rfl) ?_
        refine m_get C w 2 (v := .int (nI (L.length))) q243 (by decide) rfl dX1_copy_24 ?_
        refine lv_iload_n hx hb dX1_copy_27 rfl (lv_at hl 2 rfl) ?_
        refine n_iadd hx hb dX1_copy_28 ?_
        refine lv_iload_n hx hb dX1_copy_29 rfl (lv_at hl 1 rfl) ?_
        refine n_isub hx hb (by omega) dX1_copy_30 ?_
        refine lv_bipush (v := nI 64) hx hb dX1_copy_31 (by decide) ?_
        refine n_icmp_le (tgt := 39) hx hb dX1_copy_33 (by decide) (by omega) (by omega) (fun c33 => ?_) (fun c33 => ?_)
        · refine lv_aload_n hx hb dX1_copy_39 rfl (lv_at hl 0 rfl) ?_
          refine lv_iload_n hx hb dX1_copy_40 rfl (lv_at hl 1 rfl) ?_
          refine lv_iload_n hx hb dX1_copy_41 rfl (lv_at hl 2 rfl) ?_
          refine m_callv (n := 2) (As := [.int (nI i), .int (nI j)]) (rest := []) C w (mm_keep l (L.length) f le sy kL kS i j (by omega) (by omega)) q288 q290 qs24 q291 rfl (by decide +kernel) rfl ⟨rfl, rfl⟩ ⟨Nat.le_of_ble_eq_true rfl, Nat.le_of_ble_eq_true rfl⟩ ⟨Nat.le_refl _, Nat.le_refl _⟩ rfl hl.1 (Nat.le_of_ble_eq_true rfl) dX1_copy_42 (fun u H locs hp w => ?_)
          subst hp
          refine lv_aload_n hx hb dX1_copy_45 rfl (lv_at hl 0 rfl) ?_
          refine lv_iload_n hx hb dX1_copy_46 rfl (lv_at hl 3 rfl) ?_
          refine lv_iload_n hx hb dX1_copy_47 rfl (lv_at hl 2 rfl) ?_
          refine lv_iload_n hx hb dX1_copy_48 rfl (lv_at hl 1 rfl) ?_
          refine n_isub hx hb (by omega) dX1_copy_49 ?_
          refine m_callv (n := 2) (As := [.int (nI q), .int (nI (j - i))]) (rest := []) C w (mm_putKept l (L.length) f le sy (st_kp le kL i j) (st_kp sy kS i j) q (j - i) (by omega) (by omega) (hf)) q293 q295 qs25 q296 rfl (by decide +kernel) rfl ⟨rfl, rfl⟩ ⟨Nat.le_of_ble_eq_true rfl, Nat.le_of_ble_eq_true rfl⟩ ⟨Nat.le_refl _, Nat.le_refl _⟩ rfl hl.1 (Nat.le_of_ble_eq_true rfl) dX1_copy_50 (fun u H locs hp w => ?_)
          subst hp
          refine lv_aload_n hx hb dX1_copy_53 rfl (lv_at hl 0 rfl) ?_
          refine m_get C w 2 (v := .int (nI ((L.length) + (j - i)))) q243 (by decide) rfl dX1_copy_54 ?_
          have hop : st_oCopy (nI i) (nI j) (nI q) (L, E, f) = (nI (L.length + (j - i)), st_ins L q (st_seg L i j), st_ins E q (st_seg E i j), if q < f then f + (j - i) else f) := by unfold st_oCopy; rw [if_neg (fun z => z.elim hbd (fun z => z.elim c10 (fun z => z c18))), st_clamp (show i ≤ 64 by omega), st_clamp (show j ≤ 64 by omega), st_clamp (show q ≤ 64 by omega)]; exact if_neg (by show ¬ 64 < L.length + (j - i); omega)
          exact hend _ _ _ _ ((nI ((L.length) + (j - i)))) ((L.length) + (j - i), if q < f then f + (j - i) else f, st_pk (st_op le (L.length) q (j - i)) (st_kp le kL i j) q (j - i), st_pk (st_op sy (L.length) q (j - i)) (st_kp sy kS i j) q (j - i), st_kp le kL i j, st_kp sy kS i j) (by rw [hop]; exact ⟨rfl, st_AR_pk hA hq (st_seg_len hij hj) (fun x hx => by rw [st_seg_get hx]; unfold st_kp; rw [if_pos hx]; exact hA.2 (i + x) (by omega)), st_AR_pk hB hq (st_seg_len hij (by omega)) (fun x hx => by rw [st_seg_get hx]; unfold st_kp; rw [if_pos hx]; exact hB.2 (i + x) (by omega)), by show L.length + (j - i) ≤ 64; omega, rfl, by show (if q < f then f + (j - i) else f) ≤ L.length + (j - i); split <;> omega⟩) w rfl dX1_copy_57
        · refine lv_bipush (v := (-2)) hx hb dX1_copy_36 (by decide) ?_
          have hop : st_oCopy (nI i) (nI j) (nI q) (L, E, f) = (-2, L, E, f) := by unfold st_oCopy; rw [if_neg (fun z => z.elim hbd (fun z => z.elim c10 (fun z => z c18))), st_clamp (show i ≤ 64 by omega), st_clamp (show j ≤ 64 by omega)]; exact if_pos (by show 64 < L.length + (j - i); omega)
          exact hend _ _ _ _ ((-2)) (L.length, f, le, sy, kL, kS) (by rw [hop]; exact ⟨rfl, hA, hB, hn, rfl, hf⟩) w rfl dX1_copy_38
      · refine lv_iconst (v := (-1)) hx hb dX1_copy_21 (by decide) ?_
        have hop : st_oCopy vi vj v (L, E, f) = (-1, L, E, f) := by unfold st_oCopy; exact if_pos (Or.inr (Or.inr c18))
        exact hend _ _ _ _ ((-1)) (L.length, f, le, sy, kL, kS) (by rw [hop]; exact ⟨rfl, hA, hB, hn, rfl, hf⟩) w rfl dX1_copy_22
set_option maxHeartbeats 4000000 in
/-- replace -/
theorem pm_replace (l : Launch) (f : Nat) (le sy kL kS : Nat → Int32) (L E : List Int32) (c0 v : Int32) (hA : st_AR L.length le L) (hB : st_AR L.length sy E) (hn : L.length ≤ 64) (hf : f ≤ L.length) : MMi l yX1_replace cX1_replace 5 .int (st_rm 1 21) [.int c0, .int v] (L.length, f, le, sy, kL, kS) (fun r u => r = (st_oReplace c0 v (L, E, f)).1 ∧ st_MR u (st_oReplace c0 v (L, E, f)).2) := by
  intro D ad ca
  refine g_enter_i RX1 rfl (by decide +kernel) (Nat.le_of_ble_eq_true rfl) ?_
  intro p e s m below meth c A Q args ls C w hl hend
  have hx := C.1
  have hb := C.2.1
  have hl : lv_has ls 5 [(0, .ref (ad 0)), (1, .int c0), (2, .int v)] := hl
  have hBl := hB.1
  have loop : ∀ (N : Nat) (t : Nat) (l1 : Nat → Int32), L.length - t < N → (t ≤ L.length) → (st_AR L.length l1 (st_rp (fun x => if x = c0 then v else x) L t)) → (¬ (st_badL c0 ∨ st_badL v)) → ∀ (H : Heap) (locs : List Loc) (ls : Array Slot), wd D A s (mw ad ca (L.length, f, l1, sy, kL, kS)) (mt ca) H locs → lv_has ls 5 [(0, .ref (ad 0)), (1, .int c0), (2, .int v), (3, .int (nI ((L.take t).countP (fun x => decide (x = c0))))), (4, .int (nI t))] → W p l e (st_rm 1 21) s m args below meth c H locs 0 0 Q (F0 m 23 ls []) := by
    intro N
    induction N with
    | zero => intro t l1 hN; exact absurd hN (Nat.not_lt_zero _)
    | succ N ih =>
      intro t l1 hN h1 hX1 hbd H locs ls w hl
      refine lv_iload hx hb dX1_replace_23 (lv_at hl 4 rfl) ?_
      refine lv_aload_n hx hb dX1_replace_25 rfl (lv_at hl 0 rfl) ?_
      refine m_get C w 2 (v := .int (nI (L.length))) q243 (by decide) rfl dX1_replace_26 ?_
      refine n_icmp_ge (tgt := 60) hx hb dX1_replace_29 (by decide) (by omega) (by omega) (fun c29 => ?_) (fun c29 => ?_)
      · refine lv_iload_n hx hb dX1_replace_60 rfl (lv_at hl 3 rfl) ?_
        have htn : t = L.length := by omega
        subst htn
        rw [st_rp_n] at hX1
        have hop : st_oReplace c0 v (L, E, f) = (nI ((L.take L.length).countP (fun x => decide (x = c0))), L.map (fun x => if x = c0 then v else x), E, f) := by unfold st_oReplace; rw [if_neg hbd, List.take_length]
        exact hend _ _ _ _ ((nI ((L.take L.length).countP (fun x => decide (x = c0))))) (L.length, f, l1, sy, kL, kS) (by rw [hop]; exact ⟨rfl, hX1, hB, hn, rfl, hf⟩) w rfl dX1_replace_61
      · have hct := st_cnt_le (p := fun x => decide (x = c0)) L t
        have hv0 : L[t]? = some (l1 t) := by rw [← hX1.2 t c29, st_rp_get h1, if_neg (Nat.lt_irrefl _)]
        have hcs := st_cnt_s (p := fun x => decide (x = c0)) hv0
        refine lv_aload_n hx hb dX1_replace_32 rfl (lv_at hl 0 rfl) ?_
        refine m_get C w 0 (v := .ref (ad 1)) q241 (by decide) rfl dX1_replace_33 ?_
        refine lv_iload hx hb dX1_replace_36 (lv_at hl 4 rfl) ?_
        refine m_ld C w 0 (n := 64) (f := l1) (i := t) rfl rfl (by omega) (by decide) dX1_replace_38 ?_
        refine lv_iload_n hx hb dX1_replace_39 rfl (lv_at hl 1 rfl) ?_
        refine lv_icmp_ne (tgt := 54) hx hb dX1_replace_40 (by decide) (fun c40 => ?_) (fun c40 => ?_)
        · rw [if_neg (by simpa using c40)] at hcs
          change _ = List.countP _ (List.take t L) at hcs
          rw [← hcs] at hl
          refine lv_iinc (v := (nI (t + 1))) (lv' := [(4, .int (nI (t + 1))), (0, .ref (ad 0)), (1, .int c0), (2, .int v), (3, .int (nI ((L.take (t + 1)).countP (fun x => decide (x = c0)))))]) hx hb dX1_replace_54 hl (k := 4) rfl (n_inc _) (by decide) rfl (fun ls hl => ?_)
          refine lv_goto (tgt := 23) hx hb dX1_replace_57 (by decide) ?_
          exact ih (t + 1) _ (by omega) (by omega) (by rw [← st_rp_e (F := (fun x => if x = c0 then v else x)) hv0 (if_neg c40)]; exact hX1) (hbd) _ _ _ w (lv_sub hl [1, 2, 3, 4, 0] rfl)
        · refine lv_aload_n hx hb dX1_replace_43 rfl (lv_at hl 0 rfl) ?_
          refine m_get C w 0 (v := .ref (ad 1)) q241 (by decide) rfl dX1_replace_44 ?_
          refine lv_iload hx hb dX1_replace_47 (lv_at hl 4 rfl) ?_
          refine lv_iload_n hx hb dX1_replace_49 rfl (lv_at hl 2 rfl) ?_
          refine m_st C w 0 (n := 64) (f := l1) (i := t) (L.length, f, upd l1 t v, sy, kL, kS) rfl rfl (by omega) (by decide) rfl dX1_replace_50 (fun H locs w => ?_)
          refine lv_iinc (v := (nI ((L.take t).countP (fun x => decide (x = c0)) + 1))) (lv' := [(3, .int (nI ((L.take t).countP (fun x => decide (x = c0)) + 1))), (0, .ref (ad 0)), (1, .int c0), (2, .int v), (4, .int (nI t))]) hx hb dX1_replace_51 hl (k := 3) rfl (n_inc _) (by decide) rfl (fun ls hl => ?_)
          rw [if_pos (by simpa using c40)] at hcs
          rw [← hcs] at hl
          refine lv_iinc (v := (nI (t + 1))) (lv' := [(4, .int (nI (t + 1))), (3, .int (nI ((L.take (t + 1)).countP (fun x => decide (x = c0))))), (0, .ref (ad 0)), (1, .int c0), (2, .int v)]) hx hb dX1_replace_54 hl (k := 4) rfl (n_inc _) (by decide) rfl (fun ls hl => ?_)
          refine lv_goto (tgt := 23) hx hb dX1_replace_57 (by decide) ?_
          exact ih (t + 1) _ (by omega) (by omega) (by rw [← st_rp_s hv0]; show st_AR _ _ (List.set _ _ (if _ = _ then _ else _)); rw [if_pos c40]; exact st_AR_set hX1 c29) (hbd) _ _ _ w (lv_sub hl [2, 3, 4, 1, 0] rfl)
  refine lv_aload_n hx hb dX1_replace_0 rfl (lv_at hl 0 rfl) ?_
  refine lv_iload_n hx hb dX1_replace_1 rfl (lv_at hl 1 rfl) ?_
  refine m_calli (n := 1) (As := [.int c0]) (rest := []) C w (mm_isLetter l (L.length) f le sy kL kS c0) q264 q266 qs21 q267 rfl (by decide +kernel) rfl ⟨rfl, rfl⟩ ⟨Nat.le_of_ble_eq_true rfl, Nat.le_of_ble_eq_true rfl⟩ ⟨Nat.le_refl _, Nat.le_refl _⟩ rfl hl.1 (Nat.le_of_ble_eq_true rfl) dX1_replace_2 (fun r0 u H locs hp w => ?_)
  obtain ⟨rfl, hr0⟩ := hp
  refine lv_if_eq (tgt := 16) hx hb dX1_replace_5 (by decide) (fun c5 => ?_) (fun c5 => ?_)
  · refine lv_iconst (v := (-1)) hx hb dX1_replace_16 (by decide) ?_
    have hop : st_oReplace c0 v (L, E, f) = (-1, L, E, f) := by unfold st_oReplace; exact if_pos (Or.inl (st_c0 hr0 c5))
    exact hend _ _ _ _ ((-1)) (L.length, f, le, sy, kL, kS) (by rw [hop]; exact ⟨rfl, hA, hB, hn, rfl, hf⟩) w rfl dX1_replace_17
  · refine lv_aload_n hx hb dX1_replace_8 rfl (lv_at hl 0 rfl) ?_
    refine lv_iload_n hx hb dX1_replace_9 rfl (lv_at hl 2 rfl) ?_
    refine m_calli (n := 1) (As := [.int v]) (rest := []) C w (mm_isLetter l (L.length) f le sy kL kS v) q264 q266 qs21 q267 rfl (by decide +kernel) rfl ⟨rfl, rfl⟩ ⟨Nat.le_of_ble_eq_true rfl, Nat.le_of_ble_eq_true rfl⟩ ⟨Nat.le_refl _, Nat.le_refl _⟩ rfl hl.1 (Nat.le_of_ble_eq_true rfl) dX1_replace_10 (fun r1 u H locs hp w => ?_)
    obtain ⟨rfl, hr1⟩ := hp
    refine lv_if_ne (tgt := 18) hx hb dX1_replace_13 (by decide) (fun c13 => ?_) (fun c13 => ?_)
    · refine lv_iconst (v := nI 0) hx hb dX1_replace_18 (by decide) ?_
      refine lv_istore_n (lv' := [(3, .int (nI 0)), (0, .ref (ad 0)), (1, .int c0), (2, .int v)]) hx hb dX1_replace_19 rfl hl (by decide) rfl (fun ls hl => ?_)
      refine lv_iconst (v := nI 0) hx hb dX1_replace_20 (by decide) ?_
      refine lv_istore (lv' := [(4, .int (nI 0)), (3, .int (nI 0)), (0, .ref (ad 0)), (1, .int c0), (2, .int v)]) hx hb dX1_replace_21 hl (by decide) rfl (fun ls hl => ?_)
      exact loop (L.length + 1) 0 _ (by omega) (Nat.zero_le _) (by rw [st_rp_0]; exact hA) (fun z => z.elim (st_c1x hr0 c5) (st_c1x hr1 c13)) _ _ _ w (lv_sub hl [2, 3, 4, 1, 0] rfl)
    · refine lv_iconst (v := (-1)) hx hb dX1_replace_16 (by decide) ?_
      have hop : st_oReplace c0 v (L, E, f) = (-1, L, E, f) := by unfold st_oReplace; exact if_pos (Or.inr (st_c0 hr1 c13))
      exact hend _ _ _ _ ((-1)) (L.length, f, le, sy, kL, kS) (by rw [hop]; exact ⟨rfl, hA, hB, hn, rfl, hf⟩) w rfl dX1_replace_17
end
section
set_option maxRecDepth 100000
set_option maxHeartbeats 4000000 in
/-- style -/
theorem pm_style (l : Launch) (f : Nat) (le sy kL kS : Nat → Int32) (L E : List Int32) (vi vj mask v : Int32) (hA : st_AR L.length le L) (hB : st_AR L.length sy E) (hn : L.length ≤ 64) (hf : f ≤ L.length) : MMi l yX1_style cX1_style 6 .int (st_rm 1 27) [.int vi, .int vj, .int mask, .int v] (L.length, f, le, sy, kL, kS) (fun r u => r = (st_oStyle vi vj mask v (L, E, f)).1 ∧ st_MR u (st_oStyle vi vj mask v (L, E, f)).2) := by
  intro D ad ca
  refine g_enter_i RX1 rfl (by decide +kernel) (Nat.le_of_ble_eq_true rfl) ?_
  intro p e s m below meth c A Q args ls C w hl hend
  have hx := C.1
  have hb := C.2.1
  have hl : lv_has ls 6 [(0, .ref (ad 0)), (1, .int vi), (2, .int vj), (3, .int mask), (4, .int v)] := hl
  have hBl := hB.1
  refine lv_aload_n hx hb dX1_style_0 rfl (lv_at hl 0 rfl) ?_
  refine lv_iload_n hx hb dX1_style_1 rfl (lv_at hl 1 rfl) ?_
  refine lv_iload_n hx hb dX1_style_2 rfl (lv_at hl 2 rfl) ?_
  refine m_calli (n := 2) (As := [.int vi, .int vj]) (rest := []) C w (mm_isStretch l (L.length) f le sy kL kS vi vj) q280 q282 qs23 q283 rfl (by decide +kernel) rfl ⟨rfl, rfl⟩ ⟨Nat.le_of_ble_eq_true rfl, Nat.le_of_ble_eq_true rfl⟩ ⟨Nat.le_refl _, Nat.le_refl _⟩ rfl hl.1 (Nat.le_of_ble_eq_true rfl) dX1_style_3 (fun r0 u H locs hp w => ?_)
  obtain ⟨rfl, hr0⟩ := hp
  refine lv_if_eq (tgt := 31) hx hb dX1_style_6 (by decide) (fun c6 => ?_) (fun c6 => ?_)
  · refine lv_iconst (v := (-1)) hx hb dX1_style_31 (by decide) ?_
    have hop : st_oStyle vi vj mask v (L, E, f) = (-1, L, E, f) := by unfold st_oStyle; exact if_pos (Or.inl (st_c0 hr0 c6))
    exact hend _ _ _ _ ((-1)) (L.length, f, le, sy, kL, kS) (by rw [hop]; exact ⟨rfl, hA, hB, hn, rfl, hf⟩) w rfl dX1_style_32
  · refine lv_iload_n hx hb dX1_style_9 rfl (lv_at hl 3 rfl) ?_
    refine lv_if_lt (tgt := 31) hx hb dX1_style_10 (by decide) (fun c10 => ?_) (fun c10 => ?_)
    · refine lv_iconst (v := (-1)) hx hb dX1_style_31 (by decide) ?_
      have hop : st_oStyle vi vj mask v (L, E, f) = (-1, L, E, f) := by unfold st_oStyle; exact if_pos (Or.inr (Or.inl c10))
      exact hend _ _ _ _ ((-1)) (L.length, f, le, sy, kL, kS) (by rw [hop]; exact ⟨rfl, hA, hB, hn, rfl, hf⟩) w rfl dX1_style_32
    · refine lv_iload_n hx hb dX1_style_13 rfl (lv_at hl 3 rfl) ?_
      refine lv_bipush (v := nI 15) hx hb dX1_style_14 (by decide) ?_
      refine lv_icmp_gt (tgt := 31) hx hb dX1_style_16 (by decide) (fun c16 => ?_) (fun c16 => ?_)
      · refine lv_iconst (v := (-1)) hx hb dX1_style_31 (by decide) ?_
        have hop : st_oStyle vi vj mask v (L, E, f) = (-1, L, E, f) := by unfold st_oStyle; exact if_pos (Or.inr (Or.inr (Or.inl (Int32.not_le.mpr c16))))
        exact hend _ _ _ _ ((-1)) (L.length, f, le, sy, kL, kS) (by rw [hop]; exact ⟨rfl, hA, hB, hn, rfl, hf⟩) w rfl dX1_style_32
      · refine lv_iload hx hb dX1_style_19 (lv_at hl 4 rfl) ?_
        refine lv_if_lt (tgt := 31) hx hb dX1_style_21 (by decide) (fun c21 => ?_) (fun c21 => ?_)
        · refine lv_iconst (v := (-1)) hx hb dX1_style_31 (by decide) ?_
          have hop : st_oStyle vi vj mask v (L, E, f) = (-1, L, E, f) := by unfold st_oStyle; exact if_pos (Or.inr (Or.inr (Or.inr (Or.inl c21))))
          exact hend _ _ _ _ ((-1)) (L.length, f, le, sy, kL, kS) (by rw [hop]; exact ⟨rfl, hA, hB, hn, rfl, hf⟩) w rfl dX1_style_32
        · refine lv_iload hx hb dX1_style_24 (lv_at hl 4 rfl) ?_
          refine lv_bipush (v := nI 63) hx hb dX1_style_26 (by decide) ?_
          refine lv_icmp_le (tgt := 33) hx hb dX1_style_28 (by decide) (fun c28 => ?_) (fun c28 => ?_)
          · have c16 := Int32.not_lt.mp c16
            have hbdA : ¬ (st_bad L.length vi vj ∨ mask < 0 ∨ ¬ mask ≤ nI 15 ∨ v < 0 ∨ ¬ v ≤ nI 63) := fun z => z.elim (st_c1x hr0 c6) (fun z => z.elim c10 (fun z => z.elim (fun z => z c16) (fun z => z.elim c21 (fun z => z c28))))
            have hbd := st_c1x hr0 c6
            have hbd0 := hbd
            obtain ⟨i, j, rfl, rfl, hij, hj⟩ := st_bad_no (by omega) hbd0
            refine lv_iload_n hx hb dX1_style_33 rfl (lv_at hl 3 rfl) ?_
            refine lv_bipush (v := 8) hx hb dX1_style_34 (by decide) ?_
            refine lv_icmp_ge (tgt := 43) hx hb dX1_style_36 (by decide) (fun c36 => ?_) (fun c36 => ?_)
            · refine lv_iload_n hx hb dX1_style_43 rfl (lv_at hl 3 rfl) ?_
              refine lv_bipush (v := 7) hx hb dX1_style_44 (by decide) ?_
              refine lv_iand hx hb dX1_style_46 ?_
              refine lv_bipush (v := 56) hx hb dX1_style_47 (by decide) ?_
              refine lv_iadd hx hb dX1_style_49 ?_
              refine lv_istore (lv' := [(5, .int ((mask &&& 7) + 56)), (0, .ref (ad 0)), (1, .int (nI i)), (2, .int (nI j)), (3, .int mask), (4, .int v)]) hx hb dX1_style_50 hl (by decide) rfl (fun ls hl => ?_)
              refine lv_aload_n hx hb dX1_style_52 rfl (lv_at hl 1 rfl) ?_
              refine lv_iload_n hx hb dX1_style_53 rfl (lv_at hl 2 rfl) ?_
              refine lv_iload_n hx hb dX1_style_54 rfl (lv_at hl 3 rfl) ?_
              refine lv_iload hx hb dX1_style_55 (lv_at hl 0 rfl) ?_
              refine lv_iload hx hb dX1_style_57 (lv_at hl 5 rfl) ?_
              refine m_calli (n := 4) (As := [.int (nI i), .int (nI j), .int ((mask &&& 7) + 56), .int v]) (rest := []) C w (mm_setParts l (L.length) f le sy kL kS i j ((mask &&& 7) + 56) v E hB hij hj hn) q305 q307 qs26 q308 rfl (by decide +kernel) rfl ⟨rfl, rfl⟩ ⟨Nat.le_of_ble_eq_true rfl, Nat.le_of_ble_eq_true rfl⟩ ⟨Nat.le_refl _, Nat.le_refl _⟩ rfl hl.1 (Nat.le_of_ble_eq_true rfl) dX1_style_59 (fun r u H locs hp w => ?_)
              obtain ⟨rfl, rfl⟩ := hp
              have hop : st_oStyle (nI i) (nI j) mask v (L, E, f) = (nI (st_cnt (st_seg E i j) (fun e => st_mix e ((mask &&& 7) + 56) v)), L, st_map E i j (fun e => st_mix e ((mask &&& 7) + 56) v), f) := by unfold st_oStyle; rw [if_neg hbdA, st_clamp (show i ≤ 64 by omega), st_clamp (show j ≤ 64 by omega), st_bits_hi c10 c16 c36]
              exact hend _ _ _ _ ((nI (st_cnt (st_seg E i j) (fun e => st_mix e ((mask &&& 7) + 56) v)))) (L.length, f, le, st_mf (fun e => st_mix e ((mask &&& 7) + 56) v) sy i j, kL, kS) (by rw [hop]; exact ⟨rfl, hA, st_AR_map hB hij hj, hn, rfl, hf⟩) w rfl dX1_style_62
            · refine lv_iload_n hx hb dX1_style_39 rfl (lv_at hl 3 rfl) ?_
              refine lv_goto (tgt := 50) hx hb dX1_style_40 (by decide) ?_
              refine lv_istore (lv' := [(5, .int mask), (0, .ref (ad 0)), (1, .int (nI i)), (2, .int (nI j)), (3, .int mask), (4, .int v)]) hx hb dX1_style_50 hl (by decide) rfl (fun ls hl => ?_)
              refine lv_aload_n hx hb dX1_style_52 rfl (lv_at hl 1 rfl) ?_
              refine lv_iload_n hx hb dX1_style_53 rfl (lv_at hl 2 rfl) ?_
              refine lv_iload_n hx hb dX1_style_54 rfl (lv_at hl 3 rfl) ?_
              refine lv_iload hx hb dX1_style_55 (lv_at hl 0 rfl) ?_
              refine lv_iload hx hb dX1_style_57 (lv_at hl 5 rfl) ?_
              refine m_calli (n := 4) (As := [.int (nI i), .int (nI j), .int mask, .int v]) (rest := []) C w (mm_setParts l (L.length) f le sy kL kS i j mask v E hB hij hj hn) q305 q307 qs26 q308 rfl (by decide +kernel) rfl ⟨rfl, rfl⟩ ⟨Nat.le_of_ble_eq_true rfl, Nat.le_of_ble_eq_true rfl⟩ ⟨Nat.le_refl _, Nat.le_refl _⟩ rfl hl.1 (Nat.le_of_ble_eq_true rfl) dX1_style_59 (fun r u H locs hp w => ?_)
              obtain ⟨rfl, rfl⟩ := hp
              have hop : st_oStyle (nI i) (nI j) mask v (L, E, f) = (nI (st_cnt (st_seg E i j) (fun e => st_mix e mask v)), L, st_map E i j (fun e => st_mix e mask v), f) := by unfold st_oStyle; rw [if_neg hbdA, st_clamp (show i ≤ 64 by omega), st_clamp (show j ≤ 64 by omega), st_bits_lo c10 c16 c36]
              exact hend _ _ _ _ ((nI (st_cnt (st_seg E i j) (fun e => st_mix e mask v)))) (L.length, f, le, st_mf (fun e => st_mix e mask v) sy i j, kL, kS) (by rw [hop]; exact ⟨rfl, hA, st_AR_map hB hij hj, hn, rfl, hf⟩) w rfl dX1_style_62
          · refine lv_iconst (v := (-1)) hx hb dX1_style_31 (by decide) ?_
            have hop : st_oStyle vi vj mask v (L, E, f) = (-1, L, E, f) := by unfold st_oStyle; exact if_pos (Or.inr (Or.inr (Or.inr (Or.inr c28))))
            exact hend _ _ _ _ ((-1)) (L.length, f, le, sy, kL, kS) (by rw [hop]; exact ⟨rfl, hA, hB, hn, rfl, hf⟩) w rfl dX1_style_32
set_option maxHeartbeats 4000000 in
/-- toggle -/
theorem pm_toggle (l : Launch) (f : Nat) (le sy kL kS : Nat → Int32) (L E : List Int32) (vi vj bt : Int32) (hA : st_AR L.length le L) (hB : st_AR L.length sy E) (hn : L.length ≤ 64) (hf : f ≤ L.length) : MMi l yX1_toggle cX1_toggle 6 .int (st_rm 1 27) [.int vi, .int vj, .int bt] (L.length, f, le, sy, kL, kS) (fun r u => r = (st_oToggle vi vj bt (L, E, f)).1 ∧ st_MR u (st_oToggle vi vj bt (L, E, f)).2) := by
  intro D ad ca
  refine g_enter_i RX1 rfl (by decide +kernel) (Nat.le_of_ble_eq_true rfl) ?_
  intro p e s m below meth c A Q args ls C w hl hend
  have hx := C.1
  have hb := C.2.1
  have hl : lv_has ls 6 [(0, .ref (ad 0)), (1, .int vi), (2, .int vj), (3, .int bt)] := hl
  have hBl := hB.1
  have tail : (bt = 1 ∨ bt = 2 ∨ bt = 4) → ∀ {r0 : Int32}, ¬ r0 = 0 → (r0 = if st_bad L.length vi vj then 0 else 1) → ∀ (H : Heap) (locs : List Loc) (ls : Array Slot), wd D A s (mw ad ca (L.length, f, le, sy, kL, kS)) (mt ca) H locs → lv_has ls 6 [(0, .ref (ad 0)), (1, .int vi), (2, .int vj), (3, .int bt)] → W p l e (st_rm 1 27) s m args below meth c H locs 0 0 Q (F0 m 26 ls []) := by
    intro hbt r0 c6 hr0 H locs ls w hl
    have hbd := st_c1x hr0 c6
    have hbd0 := hbd
    obtain ⟨i, j, rfl, rfl, hij, hj⟩ := st_bad_no (by omega) hbd0
    have hbt1 : ¬ (¬ bt = 1 ∧ ¬ bt = 2 ∧ ¬ bt = 4) := fun z => hbt.elim z.1 (fun y => y.elim z.2.1 z.2.2)
    have hbdA : ¬ (st_bad L.length (nI i) (nI j) ∨ (¬ bt = 1 ∧ ¬ bt = 2 ∧ ¬ bt = 4)) := fun z => z.elim hbd hbt1
    refine lv_iconst (v := nI 1) hx hb dX1_toggle_26 (by decide) ?_
    refine lv_istore (lv' := [(4, .int (nI 1)), (0, .ref (ad 0)), (1, .int (nI i)), (2, .int (nI j)), (3, .int bt)]) hx hb dX1_toggle_27 hl (by decide) rfl (fun ls hl => ?_)
    refine lv_iload_n hx hb dX1_toggle_29 rfl (lv_at hl 2 rfl) ?_
    refine lv_istore (lv' := [(5, .int (nI i)), (4, .int (nI 1)), (0, .ref (ad 0)), (1, .int (nI i)), (2, .int (nI j)), (3, .int bt)]) hx hb dX1_toggle_30 hl (by decide) rfl (fun ls hl => ?_)
    have loop : ∀ (N : Nat) (t z : Nat), j - t < N → (i ≤ t) → (t ≤ j) → (z = 1 ∧ (∀ q, i ≤ q → q < t → ∃ e, E[q]? = some e ∧ ¬ e &&& bt = 0) ∨ z = 0 ∧ ∃ q e, i ≤ q ∧ q < j ∧ E[q]? = some e ∧ e &&& bt = 0) → ∀ (H : Heap) (locs : List Loc) (ls : Array Slot), wd D A s (mw ad ca (L.length, f, le, sy, kL, kS)) (mt ca) H locs → lv_has ls 6 [(0, .ref (ad 0)), (1, .int (nI i)), (2, .int (nI j)), (3, .int bt), (4, .int (nI z)), (5, .int (nI t))] → W p l e (st_rm 1 27) s m args below meth c H locs 0 0 Q (F0 m 32 ls []) := by
      intro N
      induction N with
      | zero => intro t z hN; exact absurd hN (Nat.not_lt_zero _)
      | succ N ih =>
        intro t z hN ht htj hal H locs ls w hl
        have hz : z ≤ 1 := by rcases hal with y | y <;> omega
        refine lv_iload hx hb dX1_toggle_32 (lv_at hl 5 rfl) ?_
        refine lv_iload_n hx hb dX1_toggle_34 rfl (lv_at hl 2 rfl) ?_
        refine n_icmp_ge (tgt := 68) hx hb dX1_toggle_35 (by decide) (by omega) (by omega) (fun c35 => ?_) (fun c35 => ?_)
        · refine lv_aload_n hx hb dX1_toggle_68 rfl (lv_at hl 0 rfl) ?_
          refine lv_iload_n hx hb dX1_toggle_69 rfl (lv_at hl 1 rfl) ?_
          refine lv_iload_n hx hb dX1_toggle_70 rfl (lv_at hl 2 rfl) ?_
          refine lv_iload_n hx hb dX1_toggle_71 rfl (lv_at hl 3 rfl) ?_
          refine lv_iload hx hb dX1_toggle_72 (lv_at hl 4 rfl) ?_
          refine n_if_eq (tgt := 81) hx hb dX1_toggle_74 (by decide) (by omega) (fun c74 => ?_) (fun c74 => ?_)
          · refine lv_iload_n hx hb dX1_toggle_81 rfl (lv_at hl 3 rfl) ?_
            refine m_calli (n := 4) (As := [.int (nI i), .int (nI j), .int bt, .int bt]) (rest := []) C w (mm_setParts l (L.length) f le sy kL kS i j bt bt E hB hij hj hn) q305 q307 qs26 q308 rfl (by decide +kernel) rfl ⟨rfl, rfl⟩ ⟨Nat.le_of_ble_eq_true rfl, Nat.le_of_ble_eq_true rfl⟩ ⟨Nat.le_refl _, Nat.le_refl _⟩ rfl hl.1 (Nat.le_of_ble_eq_true rfl) dX1_toggle_82 (fun r u H locs hp w => ?_)
            obtain ⟨rfl, rfl⟩ := hp
            refine lv_pop hx hb dX1_toggle_85 rfl ?_
            refine lv_iload hx hb dX1_toggle_86 (lv_at hl 4 rfl) ?_
            refine n_if_eq (tgt := 95) hx hb dX1_toggle_88 (by decide) (by omega) (fun c88 => ?_) (fun c88 => ?_)
            · refine lv_iconst (v := nI 1) hx hb dX1_toggle_95 (by decide) ?_
              have hall : st_all (st_seg E i j) bt = false := by rcases hal with y | y; exfalso; omega; obtain ⟨q, e, y1, y2, y3, y4⟩ := y.2; exact st_all_f y1 y2 y3 y4
              have hop : st_oToggle (nI i) (nI j) bt (L, E, f) = (nI 1, L, st_map E i j (fun e => st_mix e bt bt), f) := by unfold st_oToggle; rw [if_neg hbdA, st_clamp (show i ≤ 64 by omega), st_clamp (show j ≤ 64 by omega)]; simp only [hall]; rfl
              exact hend _ _ _ _ ((nI 1)) (L.length, f, le, st_mf (fun e => st_mix e bt bt) sy i j, kL, kS) (by rw [hop]; exact ⟨rfl, hA, st_AR_map hB hij hj, hn, rfl, hf⟩) w rfl dX1_toggle_96
            · exfalso; omega
          · refine lv_iconst (v := nI 0) hx hb dX1_toggle_77 (by decide) ?_
            refine lv_goto (tgt := 82) hx hb dX1_toggle_78 (by decide) ?_
            refine m_calli (n := 4) (As := [.int (nI i), .int (nI j), .int bt, .int (nI 0)]) (rest := []) C w (mm_setParts l (L.length) f le sy kL kS i j bt (nI 0) E hB hij hj hn) q305 q307 qs26 q308 rfl (by decide +kernel) rfl ⟨rfl, rfl⟩ ⟨Nat.le_of_ble_eq_true rfl, Nat.le_of_ble_eq_true rfl⟩ ⟨Nat.le_refl _, Nat.le_refl _⟩ rfl hl.1 (Nat.le_of_ble_eq_true rfl) dX1_toggle_82 (fun r u H locs hp w => ?_)
            obtain ⟨rfl, rfl⟩ := hp
            refine lv_pop hx hb dX1_toggle_85 rfl ?_
            refine lv_iload hx hb dX1_toggle_86 (lv_at hl 4 rfl) ?_
            refine n_if_eq (tgt := 95) hx hb dX1_toggle_88 (by decide) (by omega) (fun c88 => ?_) (fun c88 => ?_)
            · exfalso; omega
            · refine lv_iconst (v := nI 0) hx hb dX1_toggle_91 (by decide) ?_
              refine lv_goto (tgt := 96) hx hb dX1_toggle_92 (by decide) ?_
              have hall : st_all (st_seg E i j) bt = true := by rcases hal with y | y; exact st_all_t hij (by omega) (fun q y1 y2 => y.2 q y1 (by omega)); exfalso; omega
              have hop : st_oToggle (nI i) (nI j) bt (L, E, f) = (nI 0, L, st_map E i j (fun e => st_mix e bt (nI 0)), f) := by unfold st_oToggle; rw [if_neg hbdA, st_clamp (show i ≤ 64 by omega), st_clamp (show j ≤ 64 by omega)]; simp only [hall]; rfl
              exact hend _ _ _ _ ((nI 0)) (L.length, f, le, st_mf (fun e => st_mix e bt (nI 0)) sy i j, kL, kS) (by rw [hop]; exact ⟨rfl, hA, st_AR_map hB hij hj, hn, rfl, hf⟩) w rfl dX1_toggle_96
        · refine lv_iload hx hb dX1_toggle_38 (lv_at hl 4 rfl) ?_
          refine n_if_eq (tgt := 59) hx hb dX1_toggle_40 (by decide) (by omega) (fun c40 => ?_) (fun c40 => ?_)
          · refine lv_iconst (v := nI 0) hx hb dX1_toggle_59 (by decide) ?_
            refine lv_istore (lv' := [(4, .int (nI 0)), (0, .ref (ad 0)), (1, .int (nI i)), (2, .int (nI j)), (3, .int bt), (5, .int (nI t))]) hx hb dX1_toggle_60 hl (by decide) rfl (fun ls hl => ?_)
            refine lv_iinc (v := (nI (t + 1))) (lv' := [(5, .int (nI (t + 1))), (4, .int (nI 0)), (0, .ref (ad 0)), (1, .int (nI i)), (2, .int (nI j)), (3, .int bt)]) hx hb dX1_toggle_62 hl (k := 5) rfl (n_inc _) (by decide) rfl (fun ls hl => ?_)
            refine lv_goto (tgt := 32) hx hb dX1_toggle_65 (by decide) ?_
            exact ih (t + 1) _ (by omega) (by omega) (by omega) (by rcases hal with y | y; exfalso; omega; exact Or.inr ⟨rfl, y.2⟩) _ _ _ w (lv_sub hl [2, 3, 4, 5, 1, 0] rfl)
          · refine lv_aload_n hx hb dX1_toggle_43 rfl (lv_at hl 0 rfl) ?_
            refine m_get C w 1 (v := .ref (ad 2)) q242 (by decide) rfl dX1_toggle_44 ?_
            refine lv_iload hx hb dX1_toggle_47 (lv_at hl 5 rfl) ?_
            refine m_ld C w 1 (n := 64) (f := sy) (i := t) rfl rfl (by omega) (by decide) dX1_toggle_49 ?_
            refine lv_iload_n hx hb dX1_toggle_50 rfl (lv_at hl 3 rfl) ?_
            refine lv_iand hx hb dX1_toggle_51 ?_
            refine lv_if_eq (tgt := 59) hx hb dX1_toggle_52 (by decide) (fun c52 => ?_) (fun c52 => ?_)
            · refine lv_iconst (v := nI 0) hx hb dX1_toggle_59 (by decide) ?_
              refine lv_istore (lv' := [(4, .int (nI 0)), (0, .ref (ad 0)), (1, .int (nI i)), (2, .int (nI j)), (3, .int bt), (5, .int (nI t))]) hx hb dX1_toggle_60 hl (by decide) rfl (fun ls hl => ?_)
              refine lv_iinc (v := (nI (t + 1))) (lv' := [(5, .int (nI (t + 1))), (4, .int (nI 0)), (0, .ref (ad 0)), (1, .int (nI i)), (2, .int (nI j)), (3, .int bt)]) hx hb dX1_toggle_62 hl (k := 5) rfl (n_inc _) (by decide) rfl (fun ls hl => ?_)
              refine lv_goto (tgt := 32) hx hb dX1_toggle_65 (by decide) ?_
              exact ih (t + 1) _ (by omega) (by omega) (by omega) (Or.inr ⟨rfl, t, sy t, ht, c35, hB.2 t (by omega), c52⟩) _ _ _ w (lv_sub hl [2, 3, 4, 5, 1, 0] rfl)
            · refine lv_iconst (v := nI 1) hx hb dX1_toggle_55 (by decide) ?_
              refine lv_goto (tgt := 60) hx hb dX1_toggle_56 (by decide) ?_
              refine lv_istore (lv' := [(4, .int (nI 1)), (0, .ref (ad 0)), (1, .int (nI i)), (2, .int (nI j)), (3, .int bt), (5, .int (nI t))]) hx hb dX1_toggle_60 hl (by decide) rfl (fun ls hl => ?_)
              refine lv_iinc (v := (nI (t + 1))) (lv' := [(5, .int (nI (t + 1))), (4, .int (nI 1)), (0, .ref (ad 0)), (1, .int (nI i)), (2, .int (nI j)), (3, .int bt)]) hx hb dX1_toggle_62 hl (k := 5) rfl (n_inc _) (by decide) rfl (fun ls hl => ?_)
              refine lv_goto (tgt := 32) hx hb dX1_toggle_65 (by decide) ?_
              exact ih (t + 1) _ (by omega) (by omega) (by omega) (by rcases hal with y | y; exact Or.inl ⟨rfl, fun q y1 y2 => by rcases Nat.lt_or_ge q t with y3 | y3; exact y.2 q y1 y3; exact ⟨sy t, by rw [show q = t by omega]; exact hB.2 t (by omega), c52⟩⟩; exfalso; omega) _ _ _ w (lv_sub hl [2, 3, 4, 5, 1, 0] rfl)
    exact loop (j - i + 1) i 1 (by omega) (Nat.le_refl _) (hij) (Or.inl ⟨rfl, fun q y1 y2 => by exfalso; omega⟩) _ _ _ w (lv_sub hl [2, 3, 4, 5, 1, 0] rfl)
  refine lv_aload_n hx hb dX1_toggle_0 rfl (lv_at hl 0 rfl) ?_
  refine lv_iload_n hx hb dX1_toggle_1 rfl (lv_at hl 1 rfl) ?_
  refine lv_iload_n hx hb dX1_toggle_2 rfl (lv_at hl 2 rfl) ?_
  refine m_calli (n := 2) (As := [.int vi, .int vj]) (rest := []) C w (mm_isStretch l (L.length) f le sy kL kS vi vj) q280 q282 qs23 q283 rfl (by decide +kernel) rfl ⟨rfl, rfl⟩ ⟨Nat.le_of_ble_eq_true rfl, Nat.le_of_ble_eq_true rfl⟩ ⟨Nat.le_refl _, Nat.le_refl _⟩ rfl hl.1 (Nat.le_of_ble_eq_true rfl) dX1_toggle_3 (fun r0 u H locs hp w => ?_)
  obtain ⟨rfl, hr0⟩ := hp
  refine lv_if_eq (tgt := 24) hx hb dX1_toggle_6 (by decide) (fun c6 => ?_) (fun c6 => ?_)
  · refine lv_iconst (v := (-1)) hx hb dX1_toggle_24 (by decide) ?_
    have hop : st_oToggle vi vj bt (L, E, f) = (-1, L, E, f) := by unfold st_oToggle; exact if_pos (Or.inl (st_c0 hr0 c6))
    exact hend _ _ _ _ ((-1)) (L.length, f, le, sy, kL, kS) (by rw [hop]; exact ⟨rfl, hA, hB, hn, rfl, hf⟩) w rfl dX1_toggle_25
  · refine lv_iload_n hx hb dX1_toggle_9 rfl (lv_at hl 3 rfl) ?_
    refine lv_iconst (v := 1) hx hb dX1_toggle_10 (by decide) ?_
    refine lv_icmp_eq (tgt := 26) hx hb dX1_toggle_11 (by decide) (fun c11 => ?_) (fun c11 => ?_)
    · exact tail (Or.inl c11) c6 hr0 _ _ _ w (lv_sub hl [0, 1, 2, 3] rfl)
    · refine lv_iload_n hx hb dX1_toggle_14 rfl (lv_at hl 3 rfl) ?_
      refine lv_iconst (v := 2) hx hb dX1_toggle_15 (by decide) ?_
      refine lv_icmp_eq (tgt := 26) hx hb dX1_toggle_16 (by decide) (fun c16 => ?_) (fun c16 => ?_)
      · exact tail (Or.inr (Or.inl c16)) c6 hr0 _ _ _ w (lv_sub hl [0, 1, 2, 3] rfl)
      · refine lv_iload_n hx hb dX1_toggle_19 rfl (lv_at hl 3 rfl) ?_
        refine lv_iconst (v := 4) hx hb dX1_toggle_20 (by decide) ?_
        refine lv_icmp_eq (tgt := 26) hx hb dX1_toggle_21 (by decide) (fun c21 => ?_) (fun c21 => ?_)
        · exact tail (Or.inr (Or.inr c21)) c6 hr0 _ _ _ w (lv_sub hl [0, 1, 2, 3] rfl)
        · refine lv_iconst (v := (-1)) hx hb dX1_toggle_24 (by decide) ?_
          have hop : st_oToggle vi vj bt (L, E, f) = (-1, L, E, f) := by unfold st_oToggle; exact if_pos (Or.inr ⟨c11, c16, c21⟩)
          exact hend _ _ _ _ ((-1)) (L.length, f, le, sy, kL, kS) (by rw [hop]; exact ⟨rfl, hA, hB, hn, rfl, hf⟩) w rfl dX1_toggle_25
end
section
set_option maxRecDepth 100000
set_option maxHeartbeats 4000000 in
/-- runs -/
theorem pm_runs (l : Launch) (f : Nat) (le sy kL kS : Nat → Int32) (L E : List Int32) (hA : st_AR L.length le L) (hB : st_AR L.length sy E) (hn : L.length ≤ 64) (hf : f ≤ L.length) : MMi l yX1_runs cX1_runs 3 .int (st_rm 1 21) [] (L.length, f, le, sy, kL, kS) (fun r u => r = (st_oRuns (L, E, f)).1 ∧ st_MR u (st_oRuns (L, E, f)).2) := by
  intro D ad ca
  refine g_enter_i RX1 rfl (by decide +kernel) (Nat.le_of_ble_eq_true rfl) ?_
  intro p e s m below meth c A Q args ls C w hl hend
  have hx := C.1
  have hb := C.2.1
  have hl : lv_has ls 3 [(0, .ref (ad 0))] := hl
  have hBl := hB.1
  have loop : ∀ (N : Nat) (t : Nat), L.length - t < N → (t ≤ L.length) → ∀ (H : Heap) (locs : List Loc) (ls : Array Slot), wd D A s (mw ad ca (L.length, f, le, sy, kL, kS)) (mt ca) H locs → lv_has ls 3 [(0, .ref (ad 0)), (1, .int (nI (st_nb E t))), (2, .int (nI t))] → W p l e (st_rm 1 21) s m args below meth c H locs 0 0 Q (F0 m 4 ls []) := by
    intro N
    induction N with
    | zero => intro t hN; exact absurd hN (Nat.not_lt_zero _)
    | succ N ih =>
      intro t hN h1 H locs ls w hl
      refine lv_iload_n hx hb dX1_runs_4 rfl (lv_at hl 2 rfl) ?_
      refine lv_aload_n hx hb dX1_runs_5 rfl (lv_at hl 0 rfl) ?_
      refine m_get C w 2 (v := .int (nI (L.length))) q243 (by decide) rfl dX1_runs_6 ?_
      refine n_icmp_ge (tgt := 34) hx hb dX1_runs_9 (by decide) (by omega) (by omega) (fun c9 => ?_) (fun c9 => ?_)
      · refine lv_iload_n hx hb dX1_runs_34 rfl (lv_at hl 1 rfl) ?_
        have hop : st_oRuns  (L, E, f) = (nI (st_nb E t), L, E, f) := by show (nI (st_nb E E.length), L, E, f) = _; rw [hBl, show t = L.length by omega]
        exact hend _ _ _ _ ((nI (st_nb E t))) (L.length, f, le, sy, kL, kS) (by rw [hop]; exact ⟨rfl, hA, hB, hn, rfl, hf⟩) w rfl dX1_runs_35
      · refine lv_aload_n hx hb dX1_runs_12 rfl (lv_at hl 0 rfl) ?_
        refine lv_iload_n hx hb dX1_runs_13 rfl (lv_at hl 2 rfl) ?_
        refine m_calli (n := 1) (As := [.int (nI t)]) (rest := []) C w (mm_isBegin l (L.length) f le sy kL kS t E hB (by omega) hn) q333 q335 qs27 q336 rfl (by decide +kernel) rfl ⟨rfl, rfl⟩ ⟨Nat.le_of_ble_eq_true rfl, Nat.le_of_ble_eq_true rfl⟩ ⟨Nat.le_refl _, Nat.le_refl _⟩ rfl hl.1 (Nat.le_of_ble_eq_true rfl) dX1_runs_14 (fun r0 u H locs hp w => ?_)
        obtain ⟨rfl, hr0⟩ := hp
        refine lv_if_eq (tgt := 26) hx hb dX1_runs_17 (by decide) (fun c17 => ?_) (fun c17 => ?_)
        · refine lv_iload_n hx hb dX1_runs_26 rfl (lv_at hl 1 rfl) ?_
          refine n_top (y := nI (st_nb E (t + 1))) (by rw [st_nb, if_neg (st_b0 hr0 c17)]) ?_
          refine lv_istore_n (lv' := [(1, .int (nI (st_nb E (t + 1)))), (0, .ref (ad 0)), (2, .int (nI t))]) hx hb dX1_runs_27 rfl hl (by decide) rfl (fun ls hl => ?_)
          refine lv_iinc (v := (nI (t + 1))) (lv' := [(2, .int (nI (t + 1))), (1, .int (nI (st_nb E (t + 1)))), (0, .ref (ad 0))]) hx hb dX1_runs_28 hl (k := 2) rfl (n_inc _) (by decide) rfl (fun ls hl => ?_)
          refine lv_goto (tgt := 4) hx hb dX1_runs_31 (by decide) ?_
          exact ih (t + 1) (by omega) (by omega) _ _ _ w (lv_sub hl [2, 1, 0] rfl)
        · refine lv_iload_n hx hb dX1_runs_20 rfl (lv_at hl 1 rfl) ?_
          refine lv_iconst (v := nI 1) hx hb dX1_runs_21 (by decide) ?_
          refine n_iadd hx hb dX1_runs_22 ?_
          refine lv_goto (tgt := 27) hx hb dX1_runs_23 (by decide) ?_
          refine n_top (y := nI (st_nb E (t + 1))) (by rw [st_nb, if_pos (st_b1 hr0 c17)]) ?_
          refine lv_istore_n (lv' := [(1, .int (nI (st_nb E (t + 1)))), (0, .ref (ad 0)), (2, .int (nI t))]) hx hb dX1_runs_27 rfl hl (by decide) rfl (fun ls hl => ?_)
          refine lv_iinc (v := (nI (t + 1))) (lv' := [(2, .int (nI (t + 1))), (1, .int (nI (st_nb E (t + 1)))), (0, .ref (ad 0))]) hx hb dX1_runs_28 hl (k := 2) rfl (n_inc _) (by decide) rfl (fun ls hl => ?_)
          refine lv_goto (tgt := 4) hx hb dX1_runs_31 (by decide) ?_
          exact ih (t + 1) (by omega) (by omega) _ _ _ w (lv_sub hl [2, 1, 0] rfl)
  refine lv_iconst (v := nI 0) hx hb dX1_runs_0 (by decide) ?_
  refine lv_istore_n (lv' := [(1, .int (nI 0)), (0, .ref (ad 0))]) hx hb dX1_runs_1 rfl hl (by decide) rfl (fun ls hl => ?_)
  refine lv_iconst (v := nI 0) hx hb dX1_runs_2 (by decide) ?_
  refine lv_istore_n (lv' := [(2, .int (nI 0)), (1, .int (nI 0)), (0, .ref (ad 0))]) hx hb dX1_runs_3 rfl hl (by decide) rfl (fun ls hl => ?_)
  exact loop (L.length + 1) 0 (by omega) (Nat.zero_le _) _ _ _ w (lv_sub hl [2, 1, 0] rfl)
set_option maxHeartbeats 4000000 in
/-- runBegin -/
theorem pm_runBegin (l : Launch) (f : Nat) (le sy kL kS : Nat → Int32) (L E : List Int32) (v : Int32) (hA : st_AR L.length le L) (hB : st_AR L.length sy E) (hn : L.length ≤ 64) (hf : f ≤ L.length) : MMi l yX1_runBegin cX1_runBegin 4 .int (st_rm 1 21) [.int v] (L.length, f, le, sy, kL, kS) (fun r u => r = (st_oRunBegin v (L, E, f)).1 ∧ st_MR u (st_oRunBegin v (L, E, f)).2 ∧ u = (L.length, f, le, sy, kL, kS)) := by
  intro D ad ca
  refine g_enter_i RX1 rfl (by decide +kernel) (Nat.le_of_ble_eq_true rfl) ?_
  intro p e s m below meth c A Q args ls C w hl hend
  have hx := C.1
  have hb := C.2.1
  have hl : lv_has ls 4 [(0, .ref (ad 0)), (1, .int v)] := hl
  have hBl := hB.1
  have loop : ∀ (N : Nat) (t : Nat), L.length - t < N → (t ≤ L.length) → (∀ p, p < t → ¬ (st_bg E p = true ∧ nI (st_nb E p) = v)) → ∀ (H : Heap) (locs : List Loc) (ls : Array Slot), wd D A s (mw ad ca (L.length, f, le, sy, kL, kS)) (mt ca) H locs → lv_has ls 4 [(0, .ref (ad 0)), (1, .int v), (2, .int (nI (st_nb E t))), (3, .int (nI t))] → W p l e (st_rm 1 21) s m args below meth c H locs 0 0 Q (F0 m 4 ls []) := by
    intro N
    induction N with
    | zero => intro t hN; exact absurd hN (Nat.not_lt_zero _)
    | succ N ih =>
      intro t hN h1 hno H locs ls w hl
      refine lv_iload_n hx hb dX1_runBegin_4 rfl (lv_at hl 3 rfl) ?_
      refine lv_aload_n hx hb dX1_runBegin_5 rfl (lv_at hl 0 rfl) ?_
      refine m_get C w 2 (v := .int (nI (L.length))) q243 (by decide) rfl dX1_runBegin_6 ?_
      refine n_icmp_ge (tgt := 36) hx hb dX1_runBegin_9 (by decide) (by omega) (by omega) (fun c9 => ?_) (fun c9 => ?_)
      · refine lv_bipush (v := (-4)) hx hb dX1_runBegin_36 (by decide) ?_
        have hop : st_oRunBegin v (L, E, f) = (-4, L, E, f) := by unfold st_oRunBegin; dsimp only; rw [st_rbM_none (E := E) (fun p hp => hno p (by omega))]
        exact hend _ _ _ _ ((-4)) (L.length, f, le, sy, kL, kS) (by rw [hop]; exact ⟨rfl, ⟨hA, hB, hn, rfl, hf⟩, rfl⟩) w rfl dX1_runBegin_38
      · refine lv_aload_n hx hb dX1_runBegin_12 rfl (lv_at hl 0 rfl) ?_
        refine lv_iload_n hx hb dX1_runBegin_13 rfl (lv_at hl 3 rfl) ?_
        refine m_calli (n := 1) (As := [.int (nI t)]) (rest := []) C w (mm_isBegin l (L.length) f le sy kL kS t E hB (by omega) hn) q333 q335 qs27 q336 rfl (by decide +kernel) rfl ⟨rfl, rfl⟩ ⟨Nat.le_of_ble_eq_true rfl, Nat.le_of_ble_eq_true rfl⟩ ⟨Nat.le_refl _, Nat.le_refl _⟩ rfl hl.1 (Nat.le_of_ble_eq_true rfl) dX1_runBegin_14 (fun r0 u H locs hp w => ?_)
        obtain ⟨rfl, hr0⟩ := hp
        refine lv_if_eq (tgt := 30) hx hb dX1_runBegin_17 (by decide) (fun c17 => ?_) (fun c17 => ?_)
        · have hnb : st_nb E (t + 1) = st_nb E t := by rw [st_nb, if_neg (st_b0 hr0 c17)]
          rw [← hnb] at hl
          refine lv_iinc (v := (nI (t + 1))) (lv' := [(3, .int (nI (t + 1))), (0, .ref (ad 0)), (1, .int v), (2, .int (nI (st_nb E (t + 1))))]) hx hb dX1_runBegin_30 hl (k := 3) rfl (n_inc _) (by decide) rfl (fun ls hl => ?_)
          refine lv_goto (tgt := 4) hx hb dX1_runBegin_33 (by decide) ?_
          exact ih (t + 1) (by omega) (by omega) (fun p hp => by rcases Nat.lt_or_ge p t with y | y; exact hno p y; rw [show p = t by omega]; exact fun y => st_b0 hr0 c17 y.1) _ _ _ w (lv_sub hl [1, 2, 3, 0] rfl)
        · refine lv_iload_n hx hb dX1_runBegin_20 rfl (lv_at hl 2 rfl) ?_
          refine lv_iload_n hx hb dX1_runBegin_21 rfl (lv_at hl 1 rfl) ?_
          refine lv_icmp_ne (tgt := 27) hx hb dX1_runBegin_22 (by decide) (fun c22 => ?_) (fun c22 => ?_)
          · refine lv_iinc (v := (nI (st_nb E t + 1))) (lv' := [(2, .int (nI (st_nb E t + 1))), (0, .ref (ad 0)), (1, .int v), (3, .int (nI t))]) hx hb dX1_runBegin_27 hl (k := 2) rfl (n_inc _) (by decide) rfl (fun ls hl => ?_)
            have hnb : st_nb E (t + 1) = st_nb E t + 1 := by rw [st_nb, if_pos (st_b1 hr0 c17)]
            rw [← hnb] at hl
            refine lv_iinc (v := (nI (t + 1))) (lv' := [(3, .int (nI (t + 1))), (2, .int (nI (st_nb E (t + 1)))), (0, .ref (ad 0)), (1, .int v)]) hx hb dX1_runBegin_30 hl (k := 3) rfl (n_inc _) (by decide) rfl (fun ls hl => ?_)
            refine lv_goto (tgt := 4) hx hb dX1_runBegin_33 (by decide) ?_
            exact ih (t + 1) (by omega) (by omega) (fun p hp => by rcases Nat.lt_or_ge p t with y | y; exact hno p y; rw [show p = t by omega]; exact fun y => c22 y.2) _ _ _ w (lv_sub hl [2, 3, 1, 0] rfl)
          · refine lv_iload_n hx hb dX1_runBegin_25 rfl (lv_at hl 3 rfl) ?_
            have hop : st_oRunBegin v (L, E, f) = (nI t, L, E, f) := by unfold st_oRunBegin; dsimp only; rw [st_rbM_some (E := E) (t := t) (by omega) (st_b1 hr0 c17) c22 hno]
            exact hend _ _ _ _ ((nI t)) (L.length, f, le, sy, kL, kS) (by rw [hop]; exact ⟨rfl, ⟨hA, hB, hn, rfl, hf⟩, rfl⟩) w rfl dX1_runBegin_26
  refine lv_iconst (v := nI 0) hx hb dX1_runBegin_0 (by decide) ?_
  refine lv_istore_n (lv' := [(2, .int (nI 0)), (0, .ref (ad 0)), (1, .int v)]) hx hb dX1_runBegin_1 rfl hl (by decide) rfl (fun ls hl => ?_)
  refine lv_iconst (v := nI 0) hx hb dX1_runBegin_2 (by decide) ?_
  refine lv_istore_n (lv' := [(3, .int (nI 0)), (2, .int (nI 0)), (0, .ref (ad 0)), (1, .int v)]) hx hb dX1_runBegin_3 rfl hl (by decide) rfl (fun ls hl => ?_)
  exact loop (L.length + 1) 0 (by omega) (Nat.zero_le _) (fun p hp => absurd hp (Nat.not_lt_zero _)) _ _ _ w (lv_sub hl [2, 3, 1, 0] rfl)
set_option maxHeartbeats 4000000 in
/-- runStyle -/
theorem pm_runStyle (l : Launch) (f : Nat) (le sy kL kS : Nat → Int32) (L E : List Int32) (v : Int32) (hA : st_AR L.length le L) (hB : st_AR L.length sy E) (hn : L.length ≤ 64) (hf : f ≤ L.length) : MMi l yX1_runStyle cX1_runStyle 3 .int (st_rm 2 44) [.int v] (L.length, f, le, sy, kL, kS) (fun r u => r = (st_oRunStyle v (L, E, f)).1 ∧ st_MR u (st_oRunStyle v (L, E, f)).2) := by
  intro D ad ca
  refine g_enter_i RX1 rfl (by decide +kernel) (Nat.le_of_ble_eq_true rfl) ?_
  intro p e s m below meth c A Q args ls C w hl hend
  have hx := C.1
  have hb := C.2.1
  have hl : lv_has ls 3 [(0, .ref (ad 0)), (1, .int v)] := hl
  have hBl := hB.1
  refine lv_aload_n hx hb dX1_runStyle_0 rfl (lv_at hl 0 rfl) ?_
  refine lv_iload_n hx hb dX1_runStyle_1 rfl (lv_at hl 1 rfl) ?_
  refine m_calli (n := 1) (As := [.int v]) (rest := []) C w (pm_runBegin l f le sy kL kS L E v hA hB hn hf) q345 q338 q339 q340 rfl (by decide +kernel) rfl ⟨rfl, rfl⟩ ⟨Nat.le_of_ble_eq_true rfl, Nat.le_of_ble_eq_true rfl⟩ ⟨Nat.le_refl _, Nat.le_refl _⟩ rfl hl.1 (Nat.le_of_ble_eq_true rfl) dX1_runStyle_2 (fun rr u H locs hp w => ?_)
  obtain ⟨hrr, _, rfl⟩ := hp
  refine lv_istore_n (lv' := [(2, .int rr), (0, .ref (ad 0)), (1, .int v)]) hx hb dX1_runStyle_5 rfl hl (by decide) rfl (fun ls hl => ?_)
  rcases hrb : st_rb E v with _ | t
  · have hrr : rr = -4 := by rw [hrr]; unfold st_oRunBegin; dsimp only; rw [hrb]
    subst hrr
    refine lv_iload_n hx hb dX1_runStyle_6 rfl (lv_at hl 0 rfl) ?_
    refine lv_if_ge (tgt := 15) hx hb dX1_runStyle_7 (by decide) (fun c7 => ?_) (fun c7 => ?_)
    · exact absurd c7 (by decide)
    · refine lv_bipush (v := (-4)) hx hb dX1_runStyle_10 (by decide) ?_
      refine lv_goto (tgt := 21) hx hb dX1_runStyle_12 (by decide) ?_
      have hop : st_oRunStyle v (L, E, f) = (-4, L, E, f) := by unfold st_oRunStyle; dsimp only; rw [hrb]
      exact hend _ _ _ _ ((-4)) (L.length, f, le, sy, kL, kS) (by rw [hop]; exact ⟨rfl, hA, hB, hn, rfl, hf⟩) w rfl dX1_runStyle_21
  · have hrr : rr = nI t := by rw [hrr]; unfold st_oRunBegin; dsimp only; rw [hrb]
    have htl : t < L.length := by rw [← hBl]; exact st_rb_lt hrb
    subst hrr
    refine lv_iload_n hx hb dX1_runStyle_6 rfl (lv_at hl 0 rfl) ?_
    refine lv_if_ge (tgt := 15) hx hb dX1_runStyle_7 (by decide) (fun c7 => ?_) (fun c7 => ?_)
    · refine lv_aload_n hx hb dX1_runStyle_15 rfl (lv_at hl 1 rfl) ?_
      refine m_get C w 1 (v := .ref (ad 2)) q242 (by decide) rfl dX1_runStyle_16 ?_
      refine lv_iload_n hx hb dX1_runStyle_19 rfl (lv_at hl 0 rfl) ?_
      refine m_ld C w 1 (n := 64) (f := sy) (i := t) rfl rfl (by omega) (by decide) dX1_runStyle_20 ?_
      have hop : st_oRunStyle v (L, E, f) = (sy t, L, E, f) := by unfold st_oRunStyle; dsimp only; rw [hrb]; exact congrArg (fun z => (z, L, E, f)) (st_getD (hB.2 t htl))
      exact hend _ _ _ _ ((sy t)) (L.length, f, le, sy, kL, kS) (by rw [hop]; exact ⟨rfl, hA, hB, hn, rfl, hf⟩) w rfl dX1_runStyle_21
    · exact absurd (Int32.not_lt.mp (nI_pos (show t < 2 ^ 31 by omega))) c7
set_option maxHeartbeats 4000000 in
/-- runOf -/
theorem pm_runOf (l : Launch) (f : Nat) (le sy kL kS : Nat → Int32) (L E : List Int32) (v : Int32) (hA : st_AR L.length le L) (hB : st_AR L.length sy E) (hn : L.length ≤ 64) (hf : f ≤ L.length) : MMi l yX1_runOf cX1_runOf 4 .int (st_rm 1 21) [.int v] (L.length, f, le, sy, kL, kS) (fun r u => r = (st_oRunOf v (L, E, f)).1 ∧ st_MR u (st_oRunOf v (L, E, f)).2) := by
  intro D ad ca
  refine g_enter_i RX1 rfl (by decide +kernel) (Nat.le_of_ble_eq_true rfl) ?_
  intro p e s m below meth c A Q args ls C w hl hend
  have hx := C.1
  have hb := C.2.1
  have hl : lv_has ls 4 [(0, .ref (ad 0)), (1, .int v)] := hl
  have hBl := hB.1
  refine lv_iload_n hx hb dX1_runOf_0 rfl (lv_at hl 1 rfl) ?_
  refine lv_if_lt (tgt := 12) hx hb dX1_runOf_1 (by decide) (fun c1 => ?_) (fun c1 => ?_)
  · refine lv_bipush (v := (-4)) hx hb dX1_runOf_12 (by decide) ?_
    have hop : st_oRunOf v (L, E, f) = (-4, L, E, f) := by unfold st_oRunOf; rw [if_pos (Or.inl c1)]
    exact hend _ _ _ _ ((-4)) (L.length, f, le, sy, kL, kS) (by rw [hop]; exact ⟨rfl, hA, hB, hn, rfl, hf⟩) w rfl dX1_runOf_14
  · refine lv_iload_n hx hb dX1_runOf_4 rfl (lv_at hl 1 rfl) ?_
    refine lv_aload_n hx hb dX1_runOf_5 rfl (lv_at hl 0 rfl) ?_
    refine m_get C w 2 (v := .int (nI (L.length))) q243 (by decide) rfl dX1_runOf_6 ?_
    refine lv_icmp_lt (tgt := 15) hx hb dX1_runOf_9 (by decide) (fun c9 => ?_) (fun c9 => ?_)
    · have hbd : ¬ st_off L.length v := fun z => z.elim c1 (fun z => z c9)
      have hbd0 := hbd
      obtain ⟨q, hq, rfl⟩ := st_off_no (by omega) hbd0
      refine lv_iconst (v := (-1)) hx hb dX1_runOf_15 (by decide) ?_
      refine n_top (y := nI 0 - nI 1) (by decide) ?_
      refine lv_istore_n (lv' := [(2, .int (nI 0 - nI 1)), (0, .ref (ad 0)), (1, .int (nI q))]) hx hb dX1_runOf_16 rfl hl (by decide) rfl (fun ls hl => ?_)
      refine lv_iconst (v := nI 0) hx hb dX1_runOf_17 (by decide) ?_
      refine lv_istore_n (lv' := [(3, .int (nI 0)), (2, .int (nI 0 - nI 1)), (0, .ref (ad 0)), (1, .int (nI q))]) hx hb dX1_runOf_18 rfl hl (by decide) rfl (fun ls hl => ?_)
      have loop : ∀ (N : Nat) (t : Nat), q + 1 - t < N → (t ≤ q + 1) → ∀ (H : Heap) (locs : List Loc) (ls : Array Slot), wd D A s (mw ad ca (L.length, f, le, sy, kL, kS)) (mt ca) H locs → lv_has ls 4 [(0, .ref (ad 0)), (1, .int (nI q)), (2, .int (nI (st_nb E t) - nI 1)), (3, .int (nI t))] → W p l e (st_rm 1 21) s m args below meth c H locs 0 0 Q (F0 m 19 ls []) := by
        intro N
        induction N with
        | zero => intro t hN; exact absurd hN (Nat.not_lt_zero _)
        | succ N ih =>
          intro t hN h1 H locs ls w hl
          refine lv_iload_n hx hb dX1_runOf_19 rfl (lv_at hl 3 rfl) ?_
          refine lv_iload_n hx hb dX1_runOf_20 rfl (lv_at hl 1 rfl) ?_
          refine n_icmp_gt (tgt := 46) hx hb dX1_runOf_21 (by decide) (by omega) (by omega) (fun c21 => ?_) (fun c21 => ?_)
          · refine lv_iload_n hx hb dX1_runOf_46 rfl (lv_at hl 2 rfl) ?_
            have hop : st_oRunOf (nI q) (L, E, f) = (nI (st_nb E t) - nI 1, L, E, f) := by unfold st_oRunOf; rw [if_neg hbd, st_clamp (by omega), show t = q + 1 by omega, pk_sub (st_nb1 E q)]
            exact hend _ _ _ _ ((nI (st_nb E t) - nI 1)) (L.length, f, le, sy, kL, kS) (by rw [hop]; exact ⟨rfl, hA, hB, hn, rfl, hf⟩) w rfl dX1_runOf_47
          · refine lv_aload_n hx hb dX1_runOf_24 rfl (lv_at hl 0 rfl) ?_
            refine lv_iload_n hx hb dX1_runOf_25 rfl (lv_at hl 3 rfl) ?_
            refine m_calli (n := 1) (As := [.int (nI t)]) (rest := []) C w (mm_isBegin l (L.length) f le sy kL kS t E hB (by omega) hn) q333 q335 qs27 q336 rfl (by decide +kernel) rfl ⟨rfl, rfl⟩ ⟨Nat.le_of_ble_eq_true rfl, Nat.le_of_ble_eq_true rfl⟩ ⟨Nat.le_refl _, Nat.le_refl _⟩ rfl hl.1 (Nat.le_of_ble_eq_true rfl) dX1_runOf_26 (fun r0 u H locs hp w => ?_)
            obtain ⟨rfl, hr0⟩ := hp
            refine lv_if_eq (tgt := 38) hx hb dX1_runOf_29 (by decide) (fun c29 => ?_) (fun c29 => ?_)
            · refine lv_iload_n hx hb dX1_runOf_38 rfl (lv_at hl 2 rfl) ?_
              refine n_top (y := nI (st_nb E (t + 1)) - nI 1) (by rw [st_nb, if_neg (st_b0 hr0 c29)]) ?_
              refine lv_istore_n (lv' := [(2, .int (nI (st_nb E (t + 1)) - nI 1)), (0, .ref (ad 0)), (1, .int (nI q)), (3, .int (nI t))]) hx hb dX1_runOf_39 rfl hl (by decide) rfl (fun ls hl => ?_)
              refine lv_iinc (v := (nI (t + 1))) (lv' := [(3, .int (nI (t + 1))), (2, .int (nI (st_nb E (t + 1)) - nI 1)), (0, .ref (ad 0)), (1, .int (nI q))]) hx hb dX1_runOf_40 hl (k := 3) rfl (n_inc _) (by decide) rfl (fun ls hl => ?_)
              refine lv_goto (tgt := 19) hx hb dX1_runOf_43 (by decide) ?_
              exact ih (t + 1) (by omega) (by omega) _ _ _ w (lv_sub hl [2, 3, 1, 0] rfl)
            · refine lv_iload_n hx hb dX1_runOf_32 rfl (lv_at hl 2 rfl) ?_
              refine lv_iconst (v := nI 1) hx hb dX1_runOf_33 (by decide) ?_
              refine lv_iadd hx hb dX1_runOf_34 ?_
              refine lv_goto (tgt := 39) hx hb dX1_runOf_35 (by decide) ?_
              refine n_top (y := nI (st_nb E (t + 1)) - nI 1) (by rw [st_nb, if_pos (st_b1 hr0 c29)]; exact st_d_add _) ?_
              refine lv_istore_n (lv' := [(2, .int (nI (st_nb E (t + 1)) - nI 1)), (0, .ref (ad 0)), (1, .int (nI q)), (3, .int (nI t))]) hx hb dX1_runOf_39 rfl hl (by decide) rfl (fun ls hl => ?_)
              refine lv_iinc (v := (nI (t + 1))) (lv' := [(3, .int (nI (t + 1))), (2, .int (nI (st_nb E (t + 1)) - nI 1)), (0, .ref (ad 0)), (1, .int (nI q))]) hx hb dX1_runOf_40 hl (k := 3) rfl (n_inc _) (by decide) rfl (fun ls hl => ?_)
              refine lv_goto (tgt := 19) hx hb dX1_runOf_43 (by decide) ?_
              exact ih (t + 1) (by omega) (by omega) _ _ _ w (lv_sub hl [2, 3, 1, 0] rfl)
      exact loop (q + 2) 0 (by omega) (Nat.zero_le _) _ _ _ w (lv_sub hl [2, 3, 1, 0] rfl)
    · refine lv_bipush (v := (-4)) hx hb dX1_runOf_12 (by decide) ?_
      have hop : st_oRunOf v (L, E, f) = (-4, L, E, f) := by unfold st_oRunOf; rw [if_pos (Or.inr c9)]
      exact hend _ _ _ _ ((-4)) (L.length, f, le, sy, kL, kS) (by rw [hop]; exact ⟨rfl, hA, hB, hn, rfl, hf⟩) w rfl dX1_runOf_14
set_option maxHeartbeats 4000000 in
/-- having -/
theorem pm_having (l : Launch) (f : Nat) (le sy kL kS : Nat → Int32) (L E : List Int32) (v : Int32) (hA : st_AR L.length le L) (hB : st_AR L.length sy E) (hn : L.length ≤ 64) (hf : f ≤ L.length) : MMi l yX1_having cX1_having 4 .int (st_rm 0 0) [.int v] (L.length, f, le, sy, kL, kS) (fun r u => r = (st_oHaving v (L, E, f)).1 ∧ st_MR u (st_oHaving v (L, E, f)).2) := by
  intro D ad ca
  refine g_enter_i RX1 rfl (by decide +kernel) (Nat.le_of_ble_eq_true rfl) ?_
  intro p e s m below meth c A Q args ls C w hl hend
  have hx := C.1
  have hb := C.2.1
  have hl : lv_has ls 4 [(0, .ref (ad 0)), (1, .int v)] := hl
  have hBl := hB.1
  have loop : ∀ (N : Nat) (t : Nat), L.length - t < N → (t ≤ L.length) → (¬ (v < 0 ∨ ¬ v ≤ nI 7)) → ∀ (H : Heap) (locs : List Loc) (ls : Array Slot), wd D A s (mw ad ca (L.length, f, le, sy, kL, kS)) (mt ca) H locs → lv_has ls 4 [(0, .ref (ad 0)), (1, .int v), (2, .int (nI ((E.take t).countP (fun e => decide (e &&& v = v))))), (3, .int (nI t))] → W p l e (st_rm 0 0) s m args below meth c H locs 0 0 Q (F0 m 16 ls []) := by
    intro N
    induction N with
    | zero => intro t hN; exact absurd hN (Nat.not_lt_zero _)
    | succ N ih =>
      intro t hN h1 hbd H locs ls w hl
      refine lv_iload_n hx hb dX1_having_16 rfl (lv_at hl 3 rfl) ?_
      refine lv_aload_n hx hb dX1_having_17 rfl (lv_at hl 0 rfl) ?_
      refine m_get C w 2 (v := .int (nI (L.length))) q243 (by decide) rfl dX1_having_18 ?_
      refine n_icmp_ge (tgt := 50) hx hb dX1_having_21 (by decide) (by omega) (by omega) (fun c21 => ?_) (fun c21 => ?_)
      · refine lv_iload_n hx hb dX1_having_50 rfl (lv_at hl 2 rfl) ?_
        have hop : st_oHaving v (L, E, f) = (nI ((E.take t).countP (fun e => decide (e &&& v = v))), L, E, f) := by unfold st_oHaving; rw [if_neg hbd, show t = E.length by omega, List.take_length]
        exact hend _ _ _ _ ((nI ((E.take t).countP (fun e => decide (e &&& v = v))))) (L.length, f, le, sy, kL, kS) (by rw [hop]; exact ⟨rfl, hA, hB, hn, rfl, hf⟩) w rfl dX1_having_51
      · have hcs := st_cnt_s (p := fun e => decide (e &&& v = v)) (hB.2 t c21)
        refine lv_aload_n hx hb dX1_having_24 rfl (lv_at hl 0 rfl) ?_
        refine m_get C w 1 (v := .ref (ad 2)) q242 (by decide) rfl dX1_having_25 ?_
        refine lv_iload_n hx hb dX1_having_28 rfl (lv_at hl 3 rfl) ?_
        refine m_ld C w 1 (n := 64) (f := sy) (i := t) rfl rfl (by omega) (by decide) dX1_having_29 ?_
        refine lv_iload_n hx hb dX1_having_30 rfl (lv_at hl 1 rfl) ?_
        refine lv_iand hx hb dX1_having_31 ?_
        refine lv_iload_n hx hb dX1_having_32 rfl (lv_at hl 1 rfl) ?_
        refine lv_icmp_ne (tgt := 42) hx hb dX1_having_33 (by decide) (fun c33 => ?_) (fun c33 => ?_)
        · refine lv_iload_n hx hb dX1_having_42 rfl (lv_at hl 2 rfl) ?_
          rw [if_neg (by simpa using c33)] at hcs
          change _ = List.countP _ (List.take t E) at hcs
          refine n_top (y := nI ((E.take (t + 1)).countP (fun e => decide (e &&& v = v)))) (by rw [hcs]) ?_
          refine lv_istore_n (lv' := [(2, .int (nI ((E.take (t + 1)).countP (fun e => decide (e &&& v = v))))), (0, .ref (ad 0)), (1, .int v), (3, .int (nI t))]) hx hb dX1_having_43 rfl hl (by decide) rfl (fun ls hl => ?_)
          refine lv_iinc (v := (nI (t + 1))) (lv' := [(3, .int (nI (t + 1))), (2, .int (nI ((E.take (t + 1)).countP (fun e => decide (e &&& v = v))))), (0, .ref (ad 0)), (1, .int v)]) hx hb dX1_having_44 hl (k := 3) rfl (n_inc _) (by decide) rfl (fun ls hl => ?_)
          refine lv_goto (tgt := 16) hx hb dX1_having_47 (by decide) ?_
          exact ih (t + 1) (by omega) (by omega) (hbd) _ _ _ w (lv_sub hl [2, 3, 1, 0] rfl)
        · refine lv_iload_n hx hb dX1_having_36 rfl (lv_at hl 2 rfl) ?_
          refine lv_iconst (v := nI 1) hx hb dX1_having_37 (by decide) ?_
          refine n_iadd hx hb dX1_having_38 ?_
          refine lv_goto (tgt := 43) hx hb dX1_having_39 (by decide) ?_
          rw [if_pos (by simpa using c33)] at hcs
          refine n_top (y := nI ((E.take (t + 1)).countP (fun e => decide (e &&& v = v)))) (by rw [hcs]) ?_
          refine lv_istore_n (lv' := [(2, .int (nI ((E.take (t + 1)).countP (fun e => decide (e &&& v = v))))), (0, .ref (ad 0)), (1, .int v), (3, .int (nI t))]) hx hb dX1_having_43 rfl hl (by decide) rfl (fun ls hl => ?_)
          refine lv_iinc (v := (nI (t + 1))) (lv' := [(3, .int (nI (t + 1))), (2, .int (nI ((E.take (t + 1)).countP (fun e => decide (e &&& v = v))))), (0, .ref (ad 0)), (1, .int v)]) hx hb dX1_having_44 hl (k := 3) rfl (n_inc _) (by decide) rfl (fun ls hl => ?_)
          refine lv_goto (tgt := 16) hx hb dX1_having_47 (by decide) ?_
          exact ih (t + 1) (by omega) (by omega) (hbd) _ _ _ w (lv_sub hl [2, 3, 1, 0] rfl)
  refine lv_iload_n hx hb dX1_having_0 rfl (lv_at hl 1 rfl) ?_
  refine lv_if_lt (tgt := 10) hx hb dX1_having_1 (by decide) (fun c1 => ?_) (fun c1 => ?_)
  · refine lv_iconst (v := (-1)) hx hb dX1_having_10 (by decide) ?_
    have hop : st_oHaving v (L, E, f) = (-1, L, E, f) := by unfold st_oHaving; rw [if_pos (Or.inl c1)]
    exact hend _ _ _ _ ((-1)) (L.length, f, le, sy, kL, kS) (by rw [hop]; exact ⟨rfl, hA, hB, hn, rfl, hf⟩) w rfl dX1_having_11
  · refine lv_iload_n hx hb dX1_having_4 rfl (lv_at hl 1 rfl) ?_
    refine lv_bipush (v := nI 7) hx hb dX1_having_5 (by decide) ?_
    refine lv_icmp_le (tgt := 12) hx hb dX1_having_7 (by decide) (fun c7 => ?_) (fun c7 => ?_)
    · refine lv_iconst (v := nI 0) hx hb dX1_having_12 (by decide) ?_
      refine lv_istore_n (lv' := [(2, .int (nI 0)), (0, .ref (ad 0)), (1, .int v)]) hx hb dX1_having_13 rfl hl (by decide) rfl (fun ls hl => ?_)
      refine lv_iconst (v := nI 0) hx hb dX1_having_14 (by decide) ?_
      refine lv_istore_n (lv' := [(3, .int (nI 0)), (2, .int (nI 0)), (0, .ref (ad 0)), (1, .int v)]) hx hb dX1_having_15 rfl hl (by decide) rfl (fun ls hl => ?_)
      exact loop (L.length + 1) 0 (by omega) (Nat.zero_le _) (fun z => z.elim c1 (fun z => z c7)) _ _ _ w (lv_sub hl [2, 3, 1, 0] rfl)
    · refine lv_iconst (v := (-1)) hx hb dX1_having_10 (by decide) ?_
      have hop : st_oHaving v (L, E, f) = (-1, L, E, f) := by unfold st_oHaving; rw [if_pos (Or.inr c7)]
      exact hend _ _ _ _ ((-1)) (L.length, f, le, sy, kL, kS) (by rw [hop]; exact ⟨rfl, hA, hB, hn, rfl, hf⟩) w rfl dX1_having_11
set_option maxHeartbeats 4000000 in
/-- digest -/
theorem pm_digest (l : Launch) (f : Nat) (le sy kL kS : Nat → Int32) (L E : List Int32) (hA : st_AR L.length le L) (hB : st_AR L.length sy E) (hn : L.length ≤ 64) (hf : f ≤ L.length) : MMi l yX1_digest cX1_digest 3 .int (st_rm 0 0) [] (L.length, f, le, sy, kL, kS) (fun r u => r = (st_oDigest (L, E, f)).1 ∧ st_MR u (st_oDigest (L, E, f)).2) := by
  intro D ad ca
  refine g_enter_i RX1 rfl (by decide +kernel) (Nat.le_of_ble_eq_true rfl) ?_
  intro p e s m below meth c A Q args ls C w hl hend
  have hx := C.1
  have hb := C.2.1
  have hl : lv_has ls 3 [(0, .ref (ad 0))] := hl
  have hBl := hB.1
  have loop : ∀ (N : Nat) (t : Nat), L.length - t < N → (t ≤ L.length) → ∀ (H : Heap) (locs : List Loc) (ls : Array Slot), wd D A s (mw ad ca (L.length, f, le, sy, kL, kS)) (mt ca) H locs → lv_has ls 3 [(0, .ref (ad 0)), (1, .int (st_dg L E t)), (2, .int (nI t))] → W p l e (st_rm 0 0) s m args below meth c H locs 0 0 Q (F0 m 4 ls []) := by
    intro N
    induction N with
    | zero => intro t hN; exact absurd hN (Nat.not_lt_zero _)
    | succ N ih =>
      intro t hN h1 H locs ls w hl
      refine lv_iload_n hx hb dX1_digest_4 rfl (lv_at hl 2 rfl) ?_
      refine lv_aload_n hx hb dX1_digest_5 rfl (lv_at hl 0 rfl) ?_
      refine m_get C w 2 (v := .int (nI (L.length))) q243 (by decide) rfl dX1_digest_6 ?_
      refine n_icmp_ge (tgt := 41) hx hb dX1_digest_9 (by decide) (by omega) (by omega) (fun c9 => ?_) (fun c9 => ?_)
      · refine lv_iload_n hx hb dX1_digest_41 rfl (lv_at hl 1 rfl) ?_
        have hop : st_oDigest  (L, E, f) = (st_dg L E t, L, E, f) := by unfold st_oDigest; rw [show t = L.length by omega]
        exact hend _ _ _ _ ((st_dg L E t)) (L.length, f, le, sy, kL, kS) (by rw [hop]; exact ⟨rfl, hA, hB, hn, rfl, hf⟩) w rfl dX1_digest_42
      · refine lv_iload_n hx hb dX1_digest_12 rfl (lv_at hl 1 rfl) ?_
        refine lv_iload_n hx hb dX1_digest_13 rfl (lv_at hl 2 rfl) ?_
        refine lv_iconst (v := nI 1) hx hb dX1_digest_14 (by decide) ?_
        refine n_iadd hx hb dX1_digest_15 ?_
        refine lv_bipush (v := nI 64) hx hb dX1_digest_16 (by decide) ?_
        refine lv_aload_n hx hb dX1_digest_18 rfl (lv_at hl 0 rfl) ?_
        refine m_get C w 0 (v := .ref (ad 1)) q241 (by decide) rfl dX1_digest_19 ?_
        refine lv_iload_n hx hb dX1_digest_22 rfl (lv_at hl 2 rfl) ?_
        refine m_ld C w 0 (n := 64) (f := le) (i := t) rfl rfl (by omega) (by decide) dX1_digest_23 ?_
        refine lv_imul hx hb dX1_digest_24 ?_
        refine lv_aload_n hx hb dX1_digest_25 rfl (lv_at hl 0 rfl) ?_
        refine m_get C w 1 (v := .ref (ad 2)) q242 (by decide) rfl dX1_digest_26 ?_
        refine lv_iload_n hx hb dX1_digest_29 rfl (lv_at hl 2 rfl) ?_
        refine m_ld C w 1 (n := 64) (f := sy) (i := t) rfl rfl (by omega) (by decide) dX1_digest_30 ?_
        refine lv_iadd hx hb dX1_digest_31 ?_
        refine lv_imul hx hb dX1_digest_32 ?_
        refine lv_iadd hx hb dX1_digest_33 ?_
        refine n_top (y := st_dg L E (t + 1)) (by rw [st_dg, st_getD (hA.2 t c9), st_getD (hB.2 t c9)]) ?_
        refine lv_istore_n (lv' := [(1, .int (st_dg L E (t + 1))), (0, .ref (ad 0)), (2, .int (nI t))]) hx hb dX1_digest_34 rfl hl (by decide) rfl (fun ls hl => ?_)
        refine lv_iinc (v := (nI (t + 1))) (lv' := [(2, .int (nI (t + 1))), (1, .int (st_dg L E (t + 1))), (0, .ref (ad 0))]) hx hb dX1_digest_35 hl (k := 2) rfl (n_inc _) (by decide) rfl (fun ls hl => ?_)
        refine lv_goto (tgt := 4) hx hb dX1_digest_38 (by decide) ?_
        exact ih (t + 1) (by omega) (by omega) _ _ _ w (lv_sub hl [2, 1, 0] rfl)
  refine lv_iconst (v := nI 0) hx hb dX1_digest_0 (by decide) ?_
  refine lv_istore_n (lv' := [(1, .int (nI 0)), (0, .ref (ad 0))]) hx hb dX1_digest_1 rfl hl (by decide) rfl (fun ls hl => ?_)
  refine lv_iconst (v := nI 0) hx hb dX1_digest_2 (by decide) ?_
  refine lv_istore_n (lv' := [(2, .int (nI 0)), (1, .int (nI 0)), (0, .ref (ad 0))]) hx hb dX1_digest_3 rfl hl (by decide) rfl (fun ls hl => ?_)
  exact loop (L.length + 1) 0 (by omega) (Nat.zero_le _) _ _ _ w (lv_sub hl [2, 1, 0] rfl)
end
section
set_option maxRecDepth 100000
set_option maxHeartbeats 4000000 in
/-- cellOf(p): the cell of place p -/
theorem m_cellOf (l : Launch) (n g k f d b : Nat) (cell : Nat → Int32) (size : Nat → Nat) (look hL hS : Nat → Int32) (q : Nat) (hn : n ≤ 64) (hg : g ≤ n) (hq : q < n) : XMi l yX0_cellOf cX0_cellOf 2 .int (st_rm 0 0) [.int (nI q)] (n, g, k, f, d, b, cell, size, look, hL, hS) (fun r u => r = nI (st_ci n g q) ∧ u = (n, g, k, f, d, b, cell, size, look, hL, hS)) := by
  intro D ad ca
  refine g_enter_i RX0 rfl (by decide +kernel) (Nat.le_of_ble_eq_true rfl) ?_
  intro p e s m below meth c A Q args ls C w hl hend
  have hx := C.1
  have hb := C.2.1
  have hl : lv_has ls 2 [(0, .ref (ad 0)), (1, .int (nI q))] := hl
  refine lv_iload_n hx hb dX0_cellOf_0 rfl (lv_at hl 1 rfl) ?_
  refine lv_aload_n hx hb dX0_cellOf_1 rfl (lv_at hl 0 rfl) ?_
  refine x_get C w 1 (v := .int (nI g)) q40 (by decide) rfl dX0_cellOf_2 ?_
  refine n_icmp_ge (tgt := 12) hx hb dX0_cellOf_5 (by decide) (by omega) (by omega) (fun c5 => ?_) (fun c5 => ?_)
  · refine lv_iload_n hx hb dX0_cellOf_12 rfl (lv_at hl 1 rfl) ?_
    refine lv_bipush (v := nI 64) hx hb dX0_cellOf_13 (by decide) ?_
    refine n_iadd hx hb dX0_cellOf_15 ?_
    refine lv_aload_n hx hb dX0_cellOf_16 rfl (lv_at hl 0 rfl) ?_
    refine x_get C w 0 (v := .int (nI n)) q39 (by decide) rfl dX0_cellOf_17 ?_
    refine n_isub hx hb (by omega) dX0_cellOf_20 ?_
    exact hend _ _ _ _ ((nI ((q + 64) - n))) (n, g, k, f, d, b, cell, size, look, hL, hS) (⟨by rw [st_ci, if_neg (Nat.not_lt.mpr c5)], rfl⟩) w rfl dX0_cellOf_21
  · refine lv_iload_n hx hb dX0_cellOf_8 rfl (lv_at hl 1 rfl) ?_
    refine lv_goto (tgt := 21) hx hb dX0_cellOf_9 (by decide) ?_
    exact hend _ _ _ _ ((nI q)) (n, g, k, f, d, b, cell, size, look, hL, hS) (⟨by rw [st_ci, if_pos c5], rfl⟩) w rfl dX0_cellOf_21
set_option maxHeartbeats 4000000 in
/-- moveGap(p): the gap is at p, no letter has changed -/
theorem m_moveGap (l : Launch) (n g k f d b : Nat) (cell : Nat → Int32) (size : Nat → Nat) (look hL hS : Nat → Int32) (q : Nat) (hn : n ≤ 64) (hg : g ≤ n) (hq : q ≤ n) : XMv l yX0_moveGap cX0_moveGap 4 (st_rm 0 0) [.int (nI q)] (n, g, k, f, d, b, cell, size, look, hL, hS) (fun u => u = (n, q, k, f, d, b, st_mg n g q cell, size, look, hL, hS)) := by
  intro D ad ca
  refine g_enter_v RX0 rfl (by decide +kernel) (Nat.le_of_ble_eq_true rfl) ?_
  intro p e s m below meth c A Q args ls C w hl hend
  have hx := C.1
  have hb := C.2.1
  have hl : lv_has ls 4 [(0, .ref (ad 0)), (1, .int (nI q))] := hl
  have loop2 : ∀ (N : Nat) (i : Nat) (c2 : Nat → Int32), q - i < N → (g ≤ i) → (i ≤ q ∨ i = g) → (c2 = st_c2 n g q i cell) → ∀ (H : Heap) (locs : List Loc) (ls : Array Slot), wd D A s (xw ad ca (n, g, k, f, d, b, c2, size, look, hL, hS)) (xt ca) H locs → lv_has ls 4 [(0, .ref (ad 0)), (1, .int (nI q)), (2, .int (nI (64 - n))), (3, .int (nI i))] → W p l e (st_rm 0 0) s m args below meth c H locs 0 0 Q (F0 m 45 ls []) := by
    intro N
    induction N with
    | zero => intro i c2 hN; exact absurd hN (Nat.not_lt_zero _)
    | succ N ih =>
      intro i c2 hN h1 h2 hc H locs ls w hl
      refine lv_iload_n hx hb dX0_moveGap_45 rfl (lv_at hl 3 rfl) ?_
      refine lv_iload_n hx hb dX0_moveGap_46 rfl (lv_at hl 1 rfl) ?_
      refine n_icmp_ge (tgt := 70) hx hb dX0_moveGap_47 (by decide) (by omega) (by omega) (fun c47 => ?_) (fun c47 => ?_)
      · refine lv_aload_n hx hb dX0_moveGap_70 rfl (lv_at hl 0 rfl) ?_
        refine lv_iload_n hx hb dX0_moveGap_71 rfl (lv_at hl 1 rfl) ?_
        refine x_put C w 1 (n, q, k, f, d, b, c2, size, look, hL, hS) q40 (by decide) rfl rfl rfl dX0_moveGap_72 (fun H locs w => ?_)
        exact hend _ _ _ _ (n, q, k, f, d, b, c2, size, look, hL, hS) (by rw [hc, st_c2_e c47 h2]) w dX0_moveGap_75
      · refine lv_aload_n hx hb dX0_moveGap_50 rfl (lv_at hl 0 rfl) ?_
        refine x_get C w 2 (v := .ref (ad 1)) q41 (by decide) rfl dX0_moveGap_51 ?_
        refine lv_iload_n hx hb dX0_moveGap_54 rfl (lv_at hl 3 rfl) ?_
        refine lv_aload_n hx hb dX0_moveGap_55 rfl (lv_at hl 0 rfl) ?_
        refine x_get C w 2 (v := .ref (ad 1)) q41 (by decide) rfl dX0_moveGap_56 ?_
        refine lv_iload_n hx hb dX0_moveGap_59 rfl (lv_at hl 3 rfl) ?_
        refine lv_iload_n hx hb dX0_moveGap_60 rfl (lv_at hl 2 rfl) ?_
        refine n_iadd hx hb dX0_moveGap_61 ?_
        refine x_ld C w 0 (n := 64) (f := c2) (i := i + (64 - n)) rfl rfl (by omega) (by decide) dX0_moveGap_62 ?_
        refine x_st C w 0 (n := 64) (f := c2) (i := i) (n, g, k, f, d, b, upd c2 i (c2 (i + (64 - n))), size, look, hL, hS) rfl rfl (by omega) (by decide) rfl dX0_moveGap_63 (fun H locs w => ?_)
        refine lv_iinc (v := (nI (i + 1))) (lv' := [(3, .int (nI (i + 1))), (0, .ref (ad 0)), (1, .int (nI q)), (2, .int (nI (64 - n)))]) hx hb dX0_moveGap_64 hl (k := 3) rfl (n_inc _) (by decide) rfl (fun ls hl => ?_)
        refine lv_goto (tgt := 45) hx hb dX0_moveGap_67 (by decide) ?_
        exact ih (i + 1) _ (by omega) (by omega) (by omega) (by rw [hc]; exact st_c2_s h1 c47) _ _ _ w (lv_sub hl [1, 2, 3, 0] rfl)
  have loop1 : ∀ (N : Nat) (j : Nat) (c1 : Nat → Int32), j < N → (j ≤ g) → (q ≤ j ∨ j = g) → (c1 = st_c1 n g j cell) → ∀ (H : Heap) (locs : List Loc) (ls : Array Slot), wd D A s (xw ad ca (n, g, k, f, d, b, c1, size, look, hL, hS)) (xt ca) H locs → lv_has ls 4 [(0, .ref (ad 0)), (1, .int (nI q)), (2, .int (nI (64 - n))), (3, .int (nI j - nI 1))] → W p l e (st_rm 0 0) s m args below meth c H locs 0 0 Q (F0 m 15 ls []) := by
    intro N
    induction N with
    | zero => intro j c1 hN; exact absurd hN (Nat.not_lt_zero _)
    | succ N ih =>
      intro j c1 hN h1 h2 hc H locs ls w hl
      refine lv_iload_n hx hb dX0_moveGap_15 rfl (lv_at hl 3 rfl) ?_
      refine lv_iload_n hx hb dX0_moveGap_16 rfl (lv_at hl 1 rfl) ?_
      refine d_icmp_lt (tgt := 40) hx hb dX0_moveGap_17 (by decide) (by omega) (by omega) (fun c17 => ?_) (fun c17 => ?_)
      · refine lv_aload_n hx hb dX0_moveGap_40 rfl (lv_at hl 0 rfl) ?_
        refine x_get C w 1 (v := .int (nI g)) q40 (by decide) rfl dX0_moveGap_41 ?_
        refine lv_istore_n (lv' := [(3, .int (nI g)), (0, .ref (ad 0)), (1, .int (nI q)), (2, .int (nI (64 - n)))]) hx hb dX0_moveGap_44 rfl hl (by decide) rfl (fun ls hl => ?_)
        exact loop2 (q - g + 1) g _ (by omega) (Nat.le_refl _) (Or.inr rfl) (by rw [hc]; exact st_c1_e c17 h2) _ _ _ w (lv_sub hl [1, 2, 3, 0] rfl)
      · obtain ⟨i, rfl⟩ : ∃ i, j = i + 1 := ⟨j - 1, by omega⟩
        rw [dn_succ] at hl
        refine lv_aload_n hx hb dX0_moveGap_20 rfl (lv_at hl 0 rfl) ?_
        refine x_get C w 2 (v := .ref (ad 1)) q41 (by decide) rfl dX0_moveGap_21 ?_
        refine lv_iload_n hx hb dX0_moveGap_24 rfl (lv_at hl 3 rfl) ?_
        refine lv_iload_n hx hb dX0_moveGap_25 rfl (lv_at hl 2 rfl) ?_
        refine n_iadd hx hb dX0_moveGap_26 ?_
        refine lv_aload_n hx hb dX0_moveGap_27 rfl (lv_at hl 0 rfl) ?_
        refine x_get C w 2 (v := .ref (ad 1)) q41 (by decide) rfl dX0_moveGap_28 ?_
        refine lv_iload_n hx hb dX0_moveGap_31 rfl (lv_at hl 3 rfl) ?_
        refine x_ld C w 0 (n := 64) (f := c1) (i := i) rfl rfl (by omega) (by decide) dX0_moveGap_32 ?_
        refine x_st C w 0 (n := 64) (f := c1) (i := i + (64 - n)) (n, g, k, f, d, b, upd c1 (i + (64 - n)) (c1 i), size, look, hL, hS) rfl rfl (by omega) (by decide) rfl dX0_moveGap_33 (fun H locs w => ?_)
        refine lv_iinc (v := (nI i - nI 1)) (lv' := [(3, .int (nI i - nI 1)), (0, .ref (ad 0)), (1, .int (nI q)), (2, .int (nI (64 - n)))]) hx hb dX0_moveGap_34 hl (k := 3) rfl (n_dec _) (by decide) rfl (fun ls hl => ?_)
        refine lv_goto (tgt := 15) hx hb dX0_moveGap_37 (by decide) ?_
        exact ih i _ (by omega) (by omega) (by omega) (by rw [hc]; exact st_c1_s h1) _ _ _ w (lv_sub hl [1, 2, 3, 0] rfl)
  refine lv_bipush (v := nI 64) hx hb dX0_moveGap_0 (by decide) ?_
  refine lv_aload_n hx hb dX0_moveGap_2 rfl (lv_at hl 0 rfl) ?_
  refine x_get C w 0 (v := .int (nI n)) q39 (by decide) rfl dX0_moveGap_3 ?_
  refine n_isub hx hb (by omega) dX0_moveGap_6 ?_
  refine lv_istore_n (lv' := [(2, .int (nI (64 - n))), (0, .ref (ad 0)), (1, .int (nI q))]) hx hb dX0_moveGap_7 rfl hl (by decide) rfl (fun ls hl => ?_)
  refine lv_aload_n hx hb dX0_moveGap_8 rfl (lv_at hl 1 rfl) ?_
  refine x_get C w 1 (v := .int (nI g)) q40 (by decide) rfl dX0_moveGap_9 ?_
  refine lv_iconst (v := nI 1) hx hb dX0_moveGap_12 (by decide) ?_
  refine lv_isub hx hb dX0_moveGap_13 ?_
  refine lv_istore_n (lv' := [(3, .int (nI g - nI 1)), (2, .int (nI (64 - n))), (0, .ref (ad 0)), (1, .int (nI q))]) hx hb dX0_moveGap_14 rfl hl (by decide) rfl (fun ls hl => ?_)
  exact loop1 (g + 1) g _ (by omega) (Nat.le_refl _) (Or.inr rfl) (st_c1_0 n g cell) _ _ _ w (lv_sub hl [2, 3, 1, 0] rfl)
set_option maxHeartbeats 4000000 in
/-- putLetter(p, c) -/
theorem m_putLetter (l : Launch) (n g k f d b : Nat) (cell : Nat → Int32) (size : Nat → Nat) (look hL hS : Nat → Int32) (q : Nat) (v : Int32) (L : List Int32) (hL0 : st_XL n g cell L) (hn : n < 64) (hq : q ≤ n) : XMv l yX0_putLetter cX0_putLetter 3 (st_rm 1 23) [.int (nI q), .int v] (n, g, k, f, d, b, cell, size, look, hL, hS) (fun u => ∃ cell', u = (n + 1, q + 1, k, f, d, b, cell', size, look, hL, hS) ∧ st_XL (n + 1) (q + 1) cell' (st_ins L q [v])) := by
  intro D ad ca
  refine g_enter_v RX0 rfl (by decide +kernel) (Nat.le_of_ble_eq_true rfl) ?_
  intro p e s m below meth c A Q args ls C w hl hend
  have hx := C.1
  have hb := C.2.1
  have hl : lv_has ls 3 [(0, .ref (ad 0)), (1, .int (nI q)), (2, .int v)] := hl
  have hg := hL0.2.2.1
  refine lv_aload_n hx hb dX0_putLetter_0 rfl (lv_at hl 0 rfl) ?_
  refine lv_iload_n hx hb dX0_putLetter_1 rfl (lv_at hl 1 rfl) ?_
  refine x_callv (n := 1) (As := [.int (nI q)]) (rest := []) C w (m_moveGap l n g k f d b cell size look hL hS q (by omega) (by omega) (by omega)) q98 q100 qs5 q101 rfl (by decide +kernel) rfl ⟨rfl, rfl⟩ ⟨Nat.le_of_ble_eq_true rfl, Nat.le_of_ble_eq_true rfl⟩ ⟨Nat.le_refl _, Nat.le_refl _⟩ rfl hl.1 (Nat.le_of_ble_eq_true rfl) dX0_putLetter_2 (fun u H locs hp w => ?_)
  subst hp
  refine lv_aload_n hx hb dX0_putLetter_5 rfl (lv_at hl 0 rfl) ?_
  refine x_get C w 2 (v := .ref (ad 1)) q41 (by decide) rfl dX0_putLetter_6 ?_
  refine lv_aload_n hx hb dX0_putLetter_9 rfl (lv_at hl 0 rfl) ?_
  refine x_get C w 1 (v := .int (nI q)) q40 (by decide) rfl dX0_putLetter_10 ?_
  refine lv_iload_n hx hb dX0_putLetter_13 rfl (lv_at hl 2 rfl) ?_
  refine x_st C w 0 (n := 64) (f := st_mg n g q cell) (i := q) (n, q, k, f, d, b, upd (st_mg n g q cell) q v, size, look, hL, hS) rfl rfl (by omega) (by decide) rfl dX0_putLetter_14 (fun H locs w => ?_)
  refine lv_aload_n hx hb dX0_putLetter_15 rfl (lv_at hl 0 rfl) ?_
  refine lv_dup hx hb dX0_putLetter_16 rfl ?_
  refine x_get C w 1 (v := .int (nI q)) q40 (by decide) rfl dX0_putLetter_17 ?_
  refine lv_iconst (v := nI 1) hx hb dX0_putLetter_20 (by decide) ?_
  refine n_iadd hx hb dX0_putLetter_21 ?_
  refine x_put C w 1 (n, q + 1, k, f, d, b, upd (st_mg n g q cell) q v, size, look, hL, hS) q40 (by decide) rfl rfl rfl dX0_putLetter_22 (fun H locs w => ?_)
  refine lv_aload_n hx hb dX0_putLetter_25 rfl (lv_at hl 0 rfl) ?_
  refine lv_dup hx hb dX0_putLetter_26 rfl ?_
  refine x_get C w 0 (v := .int (nI n)) q39 (by decide) rfl dX0_putLetter_27 ?_
  refine lv_iconst (v := nI 1) hx hb dX0_putLetter_30 (by decide) ?_
  refine n_iadd hx hb dX0_putLetter_31 ?_
  refine x_put C w 0 (n + 1, q + 1, k, f, d, b, upd (st_mg n g q cell) q v, size, look, hL, hS) q39 (by decide) rfl rfl rfl dX0_putLetter_32 (fun H locs w => ?_)
  exact hend _ _ _ _ (n + 1, q + 1, k, f, d, b, upd (st_mg n g q cell) q v, size, look, hL, hS) (⟨_, rfl, st_XL_put (st_XL_mg hL0 hq) hn⟩) w dX0_putLetter_35
set_option maxHeartbeats 4000000 in
/-- dropLetters(i, j) -/
theorem m_dropLetters (l : Launch) (n g k f d b : Nat) (cell : Nat → Int32) (size : Nat → Nat) (look hL hS : Nat → Int32) (i j : Nat) (L : List Int32) (hL0 : st_XL n g cell L) (hi : i ≤ j) (hj : j ≤ n) : XMv l yX0_dropLetters cX0_dropLetters 3 (st_rm 1 23) [.int (nI i), .int (nI j)] (n, g, k, f, d, b, cell, size, look, hL, hS) (fun u => ∃ cell', u = (n - (j - i), i, k, f, d, b, cell', size, look, hL, hS) ∧ st_XL (n - (j - i)) i cell' (st_del L i j)) := by
  intro D ad ca
  refine g_enter_v RX0 rfl (by decide +kernel) (Nat.le_of_ble_eq_true rfl) ?_
  intro p e s m below meth c A Q args ls C w hl hend
  have hx := C.1
  have hb := C.2.1
  have hl : lv_has ls 3 [(0, .ref (ad 0)), (1, .int (nI i)), (2, .int (nI j))] := hl
  have hg := hL0.2.2.1
  have hn := hL0.2.1
  refine lv_aload_n hx hb dX0_dropLetters_0 rfl (lv_at hl 0 rfl) ?_
  refine lv_iload_n hx hb dX0_dropLetters_1 rfl (lv_at hl 2 rfl) ?_
  refine x_callv (n := 1) (As := [.int (nI j)]) (rest := []) C w (m_moveGap l n g k f d b cell size look hL hS j (by omega) (by omega) (by omega)) q98 q100 qs5 q101 rfl (by decide +kernel) rfl ⟨rfl, rfl⟩ ⟨Nat.le_of_ble_eq_true rfl, Nat.le_of_ble_eq_true rfl⟩ ⟨Nat.le_refl _, Nat.le_refl _⟩ rfl hl.1 (Nat.le_of_ble_eq_true rfl) dX0_dropLetters_2 (fun u H locs hp w => ?_)
  subst hp
  refine lv_aload_n hx hb dX0_dropLetters_5 rfl (lv_at hl 0 rfl) ?_
  refine lv_iload_n hx hb dX0_dropLetters_6 rfl (lv_at hl 1 rfl) ?_
  refine x_put C w 1 (n, i, k, f, d, b, st_mg n g j cell, size, look, hL, hS) q40 (by decide) rfl rfl rfl dX0_dropLetters_7 (fun H locs w => ?_)
  refine lv_aload_n hx hb dX0_dropLetters_10 rfl (lv_at hl 0 rfl) ?_
  refine lv_aload_n hx hb dX0_dropLetters_11 rfl (lv_at hl 0 rfl) ?_
  refine x_get C w 0 (v := .int (nI n)) q39 (by decide) rfl dX0_dropLetters_12 ?_
  refine lv_iload_n hx hb dX0_dropLetters_15 rfl (lv_at hl 2 rfl) ?_
  refine lv_iload_n hx hb dX0_dropLetters_16 rfl (lv_at hl 1 rfl) ?_
  refine n_isub hx hb (by omega) dX0_dropLetters_17 ?_
  refine n_isub hx hb (by omega) dX0_dropLetters_18 ?_
  refine x_put C w 0 (n - (j - i), i, k, f, d, b, st_mg n g j cell, size, look, hL, hS) q39 (by decide) rfl rfl rfl dX0_dropLetters_19 (fun H locs w => ?_)
  exact hend _ _ _ _ (n - (j - i), i, k, f, d, b, st_mg n g j cell, size, look, hL, hS) (⟨_, rfl, st_XL_drop (st_XL_mg hL0 hj) hi hj⟩) w dX0_dropLetters_22
set_option maxHeartbeats 4000000 in
/-- runAt(p): the run of place p; begun is its first place -/
theorem m_runAt (l : Launch) (n g k f d b : Nat) (cell : Nat → Int32) (size : Nat → Nat) (look hL hS : Nat → Int32) (q : Nat) (hk : k ≤ 68) (hps : st_ps size k ≤ 64) (hq : q ≤ 64) : XMi l yX0_runAt cX0_runAt 4 .int (st_rm 0 0) [.int (nI q)] (n, g, k, f, d, b, cell, size, look, hL, hS) (fun r u => ∃ i, r = nI i ∧ u = (n, g, k, f, d, st_ps size i, cell, size, look, hL, hS) ∧ i ≤ k ∧ st_ps size i ≤ q ∧ (i < k → q < st_ps size i + size i)) := by
  intro D ad ca
  refine g_enter_i RX0 rfl (by decide +kernel) (Nat.le_of_ble_eq_true rfl) ?_
  intro p e s m below meth c A Q args ls C w hl hend
  have hx := C.1
  have hb := C.2.1
  have hl : lv_has ls 4 [(0, .ref (ad 0)), (1, .int (nI q))] := hl
  have loop : ∀ (N : Nat) (i : Nat), k - i < N → (i ≤ k) → (st_ps size i ≤ q) → ∀ (H : Heap) (locs : List Loc) (ls : Array Slot), wd D A s (xw ad ca (n, g, k, f, d, st_ps size i, cell, size, look, hL, hS)) (xt ca) H locs → lv_has ls 4 [(0, .ref (ad 0)), (1, .int (nI q)), (2, .int (nI i)), (3, .int (nI i))] → W p l e (st_rm 0 0) s m args below meth c H locs 0 0 Q (F0 m 9 ls []) := by
    intro N
    induction N with
    | zero => intro i hN; exact absurd hN (Nat.not_lt_zero _)
    | succ N ih =>
      intro i hN h1 h2 H locs ls w hl
      refine lv_iload_n hx hb dX0_runAt_9 rfl (lv_at hl 3 rfl) ?_
      refine lv_aload_n hx hb dX0_runAt_10 rfl (lv_at hl 0 rfl) ?_
      refine x_get C w 3 (v := .int (nI k)) q42 (by decide) rfl dX0_runAt_11 ?_
      refine n_icmp_ge (tgt := 56) hx hb dX0_runAt_14 (by decide) (by omega) (by omega) (fun c14 => ?_) (fun c14 => ?_)
      · refine lv_iload_n hx hb dX0_runAt_56 rfl (lv_at hl 2 rfl) ?_
        exact hend _ _ _ _ ((nI i)) (n, g, k, f, d, st_ps size i, cell, size, look, hL, hS) (⟨i, rfl, rfl, h1, h2, fun h => absurd h (by omega)⟩) w rfl dX0_runAt_57
      · have hm := st_ps_le size (show i + 1 ≤ k by omega)
        have hm1 := st_ps_s size i
        refine lv_aload_n hx hb dX0_runAt_17 rfl (lv_at hl 0 rfl) ?_
        refine x_get C w 10 (v := .int (nI (st_ps size i))) q49 (by decide) rfl dX0_runAt_18 ?_
        refine lv_aload_n hx hb dX0_runAt_21 rfl (lv_at hl 0 rfl) ?_
        refine x_get C w 4 (v := .ref (ad 2)) q43 (by decide) rfl dX0_runAt_22 ?_
        refine lv_iload_n hx hb dX0_runAt_25 rfl (lv_at hl 2 rfl) ?_
        refine x_ld C w 1 (n := 68) (f := fun j => nI (size j)) (i := i) rfl rfl (by omega) (by decide) dX0_runAt_26 ?_
        refine n_iadd hx hb dX0_runAt_27 ?_
        refine lv_iload_n hx hb dX0_runAt_28 rfl (lv_at hl 1 rfl) ?_
        refine n_icmp_gt (tgt := 56) hx hb dX0_runAt_29 (by decide) (by omega) (by omega) (fun c29 => ?_) (fun c29 => ?_)
        · refine lv_iload_n hx hb dX0_runAt_56 rfl (lv_at hl 2 rfl) ?_
          exact hend _ _ _ _ ((nI i)) (n, g, k, f, d, st_ps size i, cell, size, look, hL, hS) (⟨i, rfl, rfl, h1, h2, fun _ => c29⟩) w rfl dX0_runAt_57
        · refine lv_aload_n hx hb dX0_runAt_32 rfl (lv_at hl 0 rfl) ?_
          refine lv_aload_n hx hb dX0_runAt_33 rfl (lv_at hl 0 rfl) ?_
          refine x_get C w 10 (v := .int (nI (st_ps size i))) q49 (by decide) rfl dX0_runAt_34 ?_
          refine lv_aload_n hx hb dX0_runAt_37 rfl (lv_at hl 0 rfl) ?_
          refine x_get C w 4 (v := .ref (ad 2)) q43 (by decide) rfl dX0_runAt_38 ?_
          refine lv_iload_n hx hb dX0_runAt_41 rfl (lv_at hl 2 rfl) ?_
          refine x_ld C w 1 (n := 68) (f := fun j => nI (size j)) (i := i) rfl rfl (by omega) (by decide) dX0_runAt_42 ?_
          refine n_iadd hx hb dX0_runAt_43 ?_
          refine x_put C w 10 (n, g, k, f, d, (st_ps size i) + (size i), cell, size, look, hL, hS) q49 (by decide) rfl rfl rfl dX0_runAt_44 (fun H locs w => ?_)
          refine lv_iinc (v := (nI (i + 1))) (lv' := [(2, .int (nI (i + 1))), (0, .ref (ad 0)), (1, .int (nI q)), (3, .int (nI i))]) hx hb dX0_runAt_47 hl (k := 2) rfl (n_inc _) (by decide) rfl (fun ls hl => ?_)
          refine lv_iinc (v := (nI (i + 1))) (lv' := [(3, .int (nI (i + 1))), (2, .int (nI (i + 1))), (0, .ref (ad 0)), (1, .int (nI q))]) hx hb dX0_runAt_50 hl (k := 3) rfl (n_inc _) (by decide) rfl (fun ls hl => ?_)
          refine lv_goto (tgt := 9) hx hb dX0_runAt_53 (by decide) ?_
          exact ih (i + 1) (by omega) (by omega) (by rw [st_ps_s]; exact c29) _ _ _ w (lv_sub hl [2, 3, 1, 0] rfl)
  refine lv_iconst (v := nI 0) hx hb dX0_runAt_0 (by decide) ?_
  refine lv_istore_n (lv' := [(2, .int (nI 0)), (0, .ref (ad 0)), (1, .int (nI q))]) hx hb dX0_runAt_1 rfl hl (by decide) rfl (fun ls hl => ?_)
  refine lv_aload_n hx hb dX0_runAt_2 rfl (lv_at hl 1 rfl) ?_
  refine lv_iconst (v := nI 0) hx hb dX0_runAt_3 (by decide) ?_
  refine x_put C w 10 (n, g, k, f, d, 0, cell, size, look, hL, hS) q49 (by decide) rfl rfl rfl dX0_runAt_4 (fun H locs w => ?_)
  refine lv_iconst (v := nI 0) hx hb dX0_runAt_7 (by decide) ?_
  refine lv_istore_n (lv' := [(3, .int (nI 0)), (2, .int (nI 0)), (0, .ref (ad 0)), (1, .int (nI q))]) hx hb dX0_runAt_8 rfl hl (by decide) rfl (fun ls hl => ?_)
  exact loop (k + 1) 0 (by omega) (Nat.zero_le _) (Nat.zero_le _) _ _ _ w (lv_sub hl [2, 3, 1, 0] rfl)
set_option maxHeartbeats 4000000 in
/-- openRun(r) -/
theorem m_openRun (l : Launch) (n g k f d b : Nat) (cell : Nat → Int32) (size : Nat → Nat) (look hL hS : Nat → Int32) (r : Nat) (hr : r ≤ k) (hk : k ≤ 67) : XMv l yX0_openRun cX0_openRun 3 (st_rm 0 0) [.int (nI r)] (n, g, k, f, d, b, cell, size, look, hL, hS) (fun u => u = (n, g, k + 1, f, d, b, cell, st_opn size k r, st_opn look k r, hL, hS)) := by
  intro D ad ca
  refine g_enter_v RX0 rfl (by decide +kernel) (Nat.le_of_ble_eq_true rfl) ?_
  intro p e s m below meth c A Q args ls C w hl hend
  have hx := C.1
  have hb := C.2.1
  have hl : lv_has ls 3 [(0, .ref (ad 0)), (1, .int (nI r))] := hl
  have loop : ∀ (N : Nat) (i : Nat) (sz : Nat → Nat) (lk : Nat → Int32), i < N → (i ≤ k) → (r ≤ i) → (sz = st_opn size k i) → (lk = st_opn look k i) → ∀ (H : Heap) (locs : List Loc) (ls : Array Slot), wd D A s (xw ad ca (n, g, k, f, d, b, cell, sz, lk, hL, hS)) (xt ca) H locs → lv_has ls 3 [(0, .ref (ad 0)), (1, .int (nI r)), (2, .int (nI i))] → W p l e (st_rm 0 0) s m args below meth c H locs 0 0 Q (F0 m 5 ls []) := by
    intro N
    induction N with
    | zero => intro i sz lk hN; exact absurd hN (Nat.not_lt_zero _)
    | succ N ih =>
      intro i sz lk hN h1 h2 hs hl1 H locs ls w hl
      refine lv_iload_n hx hb dX0_openRun_5 rfl (lv_at hl 2 rfl) ?_
      refine lv_iload_n hx hb dX0_openRun_6 rfl (lv_at hl 1 rfl) ?_
      refine n_icmp_le (tgt := 44) hx hb dX0_openRun_7 (by decide) (by omega) (by omega) (fun c7 => ?_) (fun c7 => ?_)
      · refine lv_aload_n hx hb dX0_openRun_44 rfl (lv_at hl 0 rfl) ?_
        refine lv_dup hx hb dX0_openRun_45 rfl ?_
        refine x_get C w 3 (v := .int (nI k)) q42 (by decide) rfl dX0_openRun_46 ?_
        refine lv_iconst (v := nI 1) hx hb dX0_openRun_49 (by decide) ?_
        refine n_iadd hx hb dX0_openRun_50 ?_
        refine x_put C w 3 (n, g, k + 1, f, d, b, cell, sz, lk, hL, hS) q42 (by decide) rfl rfl rfl dX0_openRun_51 (fun H locs w => ?_)
        exact hend _ _ _ _ (n, g, k + 1, f, d, b, cell, sz, lk, hL, hS) (by rw [hs, hl1, show i = r by omega]) w dX0_openRun_54
      · refine lv_aload_n hx hb dX0_openRun_10 rfl (lv_at hl 0 rfl) ?_
        refine x_get C w 4 (v := .ref (ad 2)) q43 (by decide) rfl dX0_openRun_11 ?_
        refine lv_iload_n hx hb dX0_openRun_14 rfl (lv_at hl 2 rfl) ?_
        refine lv_aload_n hx hb dX0_openRun_15 rfl (lv_at hl 0 rfl) ?_
        refine x_get C w 4 (v := .ref (ad 2)) q43 (by decide) rfl dX0_openRun_16 ?_
        refine lv_iload_n hx hb dX0_openRun_19 rfl (lv_at hl 2 rfl) ?_
        refine lv_iconst (v := nI 1) hx hb dX0_openRun_20 (by decide) ?_
        refine n_isub hx hb (by omega) dX0_openRun_21 ?_
        refine x_ld C w 1 (n := 68) (f := fun j => nI (sz j)) (i := i - 1) rfl rfl (by omega) (by decide) dX0_openRun_22 ?_
        refine x_stN C w (i := i) (v := sz (i - 1)) (f := sz) (n, g, k, f, d, b, cell, updN sz i (sz (i - 1)), lk, hL, hS) rfl (by omega) rfl dX0_openRun_23 (fun H locs w => ?_)
        refine lv_aload_n hx hb dX0_openRun_24 rfl (lv_at hl 0 rfl) ?_
        refine x_get C w 5 (v := .ref (ad 3)) q44 (by decide) rfl dX0_openRun_25 ?_
        refine lv_iload_n hx hb dX0_openRun_28 rfl (lv_at hl 2 rfl) ?_
        refine lv_aload_n hx hb dX0_openRun_29 rfl (lv_at hl 0 rfl) ?_
        refine x_get C w 5 (v := .ref (ad 3)) q44 (by decide) rfl dX0_openRun_30 ?_
        refine lv_iload_n hx hb dX0_openRun_33 rfl (lv_at hl 2 rfl) ?_
        refine lv_iconst (v := nI 1) hx hb dX0_openRun_34 (by decide) ?_
        refine n_isub hx hb (by omega) dX0_openRun_35 ?_
        refine x_ld C w 2 (n := 68) (f := lk) (i := i - 1) rfl rfl (by omega) (by decide) dX0_openRun_36 ?_
        refine x_st C w 2 (n := 68) (f := lk) (i := i) (n, g, k, f, d, b, cell, updN sz i (sz (i - 1)), upd lk i (lk (i - 1)), hL, hS) rfl rfl (by omega) (by decide) rfl dX0_openRun_37 (fun H locs w => ?_)
        refine lv_iinc (v := (nI (i - 1))) (lv' := [(2, .int (nI (i - 1))), (0, .ref (ad 0)), (1, .int (nI r))]) hx hb dX0_openRun_38 hl (k := 2) rfl (n_decn (by omega)) (by decide) rfl (fun ls hl => ?_)
        refine lv_goto (tgt := 5) hx hb dX0_openRun_41 (by decide) ?_
        exact ih (i - 1) _ _ (by omega) (by omega) (by omega) (by rw [hs]; exact st_opn_sN (by omega) h1) (by rw [hl1]; exact st_opn_s (by omega) h1) _ _ _ w (lv_sub hl [1, 2, 0] rfl)
  refine lv_aload_n hx hb dX0_openRun_0 rfl (lv_at hl 0 rfl) ?_
  refine x_get C w 3 (v := .int (nI k)) q42 (by decide) rfl dX0_openRun_1 ?_
  refine lv_istore_n (lv' := [(2, .int (nI k)), (0, .ref (ad 0)), (1, .int (nI r))]) hx hb dX0_openRun_4 rfl hl (by decide) rfl (fun ls hl => ?_)
  exact loop (k + 1) k _ _ (by omega) (Nat.le_refl _) (hr) (st_opn_0 size k) (st_opn_0 look k) _ _ _ w (lv_sub hl [1, 2, 0] rfl)
set_option maxHeartbeats 4000000 in
/-- closeRun(r) -/
theorem m_closeRun (l : Launch) (n g k f d b : Nat) (cell : Nat → Int32) (size : Nat → Nat) (look hL hS : Nat → Int32) (r : Nat) (hr : r < k) (hk : k ≤ 68) : XMv l yX0_closeRun cX0_closeRun 3 (st_rm 0 0) [.int (nI r)] (n, g, k, f, d, b, cell, size, look, hL, hS) (fun u => u = (n, g, k - 1, f, d, b, cell, st_cls size r (k - 1), st_cls look r (k - 1), hL, hS)) := by
  intro D ad ca
  refine g_enter_v RX0 rfl (by decide +kernel) (Nat.le_of_ble_eq_true rfl) ?_
  intro p e s m below meth c A Q args ls C w hl hend
  have hx := C.1
  have hb := C.2.1
  have hl : lv_has ls 3 [(0, .ref (ad 0)), (1, .int (nI r))] := hl
  have loop : ∀ (N : Nat) (i : Nat) (sz : Nat → Nat) (lk : Nat → Int32), k - i < N → (i ≤ k - 1) → (r ≤ i) → (sz = st_cls size r i) → (lk = st_cls look r i) → ∀ (H : Heap) (locs : List Loc) (ls : Array Slot), wd D A s (xw ad ca (n, g, k - 1, f, d, b, cell, sz, lk, hL, hS)) (xt ca) H locs → lv_has ls 3 [(0, .ref (ad 0)), (1, .int (nI r)), (2, .int (nI i))] → W p l e (st_rm 0 0) s m args below meth c H locs 0 0 Q (F0 m 12 ls []) := by
    intro N
    induction N with
    | zero => intro i sz lk hN; exact absurd hN (Nat.not_lt_zero _)
    | succ N ih =>
      intro i sz lk hN h1 h2 hs hl1 H locs ls w hl
      refine lv_iload_n hx hb dX0_closeRun_12 rfl (lv_at hl 2 rfl) ?_
      refine lv_aload_n hx hb dX0_closeRun_13 rfl (lv_at hl 0 rfl) ?_
      refine x_get C w 3 (v := .int (nI (k - 1))) q42 (by decide) rfl dX0_closeRun_14 ?_
      refine n_icmp_ge (tgt := 54) hx hb dX0_closeRun_17 (by decide) (by omega) (by omega) (fun c17 => ?_) (fun c17 => ?_)
      · exact hend _ _ _ _ (n, g, k - 1, f, d, b, cell, sz, lk, hL, hS) (by rw [hs, hl1, show i = k - 1 by omega]) w dX0_closeRun_54
      · refine lv_aload_n hx hb dX0_closeRun_20 rfl (lv_at hl 0 rfl) ?_
        refine x_get C w 4 (v := .ref (ad 2)) q43 (by decide) rfl dX0_closeRun_21 ?_
        refine lv_iload_n hx hb dX0_closeRun_24 rfl (lv_at hl 2 rfl) ?_
        refine lv_aload_n hx hb dX0_closeRun_25 rfl (lv_at hl 0 rfl) ?_
        refine x_get C w 4 (v := .ref (ad 2)) q43 (by decide) rfl dX0_closeRun_26 ?_
        refine lv_iload_n hx hb dX0_closeRun_29 rfl (lv_at hl 2 rfl) ?_
        refine lv_iconst (v := nI 1) hx hb dX0_closeRun_30 (by decide) ?_
        refine n_iadd hx hb dX0_closeRun_31 ?_
        refine x_ld C w 1 (n := 68) (f := fun j => nI (sz j)) (i := i + 1) rfl rfl (by omega) (by decide) dX0_closeRun_32 ?_
        refine x_stN C w (i := i) (v := sz (i + 1)) (f := sz) (n, g, k - 1, f, d, b, cell, updN sz i (sz (i + 1)), lk, hL, hS) rfl (by omega) rfl dX0_closeRun_33 (fun H locs w => ?_)
        refine lv_aload_n hx hb dX0_closeRun_34 rfl (lv_at hl 0 rfl) ?_
        refine x_get C w 5 (v := .ref (ad 3)) q44 (by decide) rfl dX0_closeRun_35 ?_
        refine lv_iload_n hx hb dX0_closeRun_38 rfl (lv_at hl 2 rfl) ?_
        refine lv_aload_n hx hb dX0_closeRun_39 rfl (lv_at hl 0 rfl) ?_
        refine x_get C w 5 (v := .ref (ad 3)) q44 (by decide) rfl dX0_closeRun_40 ?_
        refine lv_iload_n hx hb dX0_closeRun_43 rfl (lv_at hl 2 rfl) ?_
        refine lv_iconst (v := nI 1) hx hb dX0_closeRun_44 (by decide) ?_
        refine n_iadd hx hb dX0_closeRun_45 ?_
        refine x_ld C w 2 (n := 68) (f := lk) (i := i + 1) rfl rfl (by omega) (by decide) dX0_closeRun_46 ?_
        refine x_st C w 2 (n := 68) (f := lk) (i := i) (n, g, k - 1, f, d, b, cell, updN sz i (sz (i + 1)), upd lk i (lk (i + 1)), hL, hS) rfl rfl (by omega) (by decide) rfl dX0_closeRun_47 (fun H locs w => ?_)
        refine lv_iinc (v := (nI (i + 1))) (lv' := [(2, .int (nI (i + 1))), (0, .ref (ad 0)), (1, .int (nI r))]) hx hb dX0_closeRun_48 hl (k := 2) rfl (n_inc _) (by decide) rfl (fun ls hl => ?_)
        refine lv_goto (tgt := 12) hx hb dX0_closeRun_51 (by decide) ?_
        exact ih (i + 1) _ _ (by omega) (by omega) (by omega) (by rw [hs]; exact st_cls_sN h2) (by rw [hl1]; exact st_cls_s h2) _ _ _ w (lv_sub hl [1, 2, 0] rfl)
  refine lv_aload_n hx hb dX0_closeRun_0 rfl (lv_at hl 0 rfl) ?_
  refine lv_dup hx hb dX0_closeRun_1 rfl ?_
  refine x_get C w 3 (v := .int (nI k)) q42 (by decide) rfl dX0_closeRun_2 ?_
  refine lv_iconst (v := nI 1) hx hb dX0_closeRun_5 (by decide) ?_
  refine n_isub hx hb (by omega) dX0_closeRun_6 ?_
  refine x_put C w 3 (n, g, k - 1, f, d, b, cell, size, look, hL, hS) q42 (by decide) rfl rfl rfl dX0_closeRun_7 (fun H locs w => ?_)
  refine lv_iload_n hx hb dX0_closeRun_10 rfl (lv_at hl 1 rfl) ?_
  refine lv_istore_n (lv' := [(2, .int (nI r)), (0, .ref (ad 0)), (1, .int (nI r))]) hx hb dX0_closeRun_11 rfl hl (by decide) rfl (fun ls hl => ?_)
  exact loop (k + 1) r _ _ (by omega) (by omega) (Nat.le_refl _) (st_cls_0 size r) (st_cls_0 look r) _ _ _ w (lv_sub hl [1, 2, 0] rfl)
set_option maxHeartbeats 4000000 in
/-- moveFlag(p, m) -/
theorem m_moveFlag (l : Launch) (n g k f d b : Nat) (cell : Nat → Int32) (size : Nat → Nat) (look hL hS : Nat → Int32) (q a : Nat) (hq : q ≤ 64) (hf : f ≤ 64) : XMv l yX0_moveFlag cX0_moveFlag 3 (st_rm 0 0) [.int (nI q), .int (nI a)] (n, g, k, f, d, b, cell, size, look, hL, hS) (fun u => u = (n, g, k, if q < f then f + a else f, d, b, cell, size, look, hL, hS)) := by
  intro D ad ca
  refine g_enter_v RX0 rfl (by decide +kernel) (Nat.le_of_ble_eq_true rfl) ?_
  intro p e s m below meth c A Q args ls C w hl hend
  have hx := C.1
  have hb := C.2.1
  have hl : lv_has ls 3 [(0, .ref (ad 0)), (1, .int (nI q)), (2, .int (nI a))] := hl
  refine lv_iload_n hx hb dX0_moveFlag_0 rfl (lv_at hl 1 rfl) ?_
  refine lv_aload_n hx hb dX0_moveFlag_1 rfl (lv_at hl 0 rfl) ?_
  refine x_get C w 6 (v := .int (nI f)) q45 (by decide) rfl dX0_moveFlag_2 ?_
  refine n_icmp_ge (tgt := 18) hx hb dX0_moveFlag_5 (by decide) (by omega) (by omega) (fun c5 => ?_) (fun c5 => ?_)
  · exact hend _ _ _ _ (n, g, k, f, d, b, cell, size, look, hL, hS) (by rw [if_neg (Nat.not_lt.mpr c5)]) w dX0_moveFlag_18
  · refine lv_aload_n hx hb dX0_moveFlag_8 rfl (lv_at hl 0 rfl) ?_
    refine lv_aload_n hx hb dX0_moveFlag_9 rfl (lv_at hl 0 rfl) ?_
    refine x_get C w 6 (v := .int (nI f)) q45 (by decide) rfl dX0_moveFlag_10 ?_
    refine lv_iload_n hx hb dX0_moveFlag_13 rfl (lv_at hl 2 rfl) ?_
    refine n_iadd hx hb dX0_moveFlag_14 ?_
    refine x_put C w 6 (n, g, k, f + a, d, b, cell, size, look, hL, hS) q45 (by decide) rfl rfl rfl dX0_moveFlag_15 (fun H locs w => ?_)
    exact hend _ _ _ _ (n, g, k, f + a, d, b, cell, size, look, hL, hS) (by rw [if_pos c5]) w dX0_moveFlag_18
end
section
set_option maxRecDepth 100000
set_option maxHeartbeats 4000000 in
/-- cutAt(p): the runs cut at p -/
theorem m_cutAt (l : Launch) (n g k f d b : Nat) (cell : Nat → Int32) (size : Nat → Nat) (look hL hS : Nat → Int32) (q : Nat) (hp0 : st_Pos (st_rl k size look)) (hps : st_ps size k ≤ 64) (hq : q ≤ st_ps size k) : XMi l yX0_cutAt cX0_cutAt 3 .int (st_rm 1 23) [.int (nI q)] (n, g, k, f, d, b, cell, size, look, hL, hS) (fun r u => ∃ i k' b' size' look', r = nI i ∧ u = (n, g, k', f, d, b', cell, size', look', hL, hS) ∧ i = (st_cut (st_rl k size look) q).1.length ∧ st_rl k' size' look' = (st_cut (st_rl k size look) q).1 ++ (st_cut (st_rl k size look) q).2) := by
  intro D ad ca
  refine g_enter_i RX0 rfl (by decide +kernel) (Nat.le_of_ble_eq_true rfl) ?_
  intro p e s m below meth c A Q args ls C w hl hend
  have hx := C.1
  have hb := C.2.1
  have hl : lv_has ls 3 [(0, .ref (ad 0)), (1, .int (nI q))] := hl
  have hk : k ≤ st_ps size k := st_ps_k (st_Pos_rl hp0)
  refine lv_aload_n hx hb dX0_cutAt_0 rfl (lv_at hl 0 rfl) ?_
  refine lv_iload_n hx hb dX0_cutAt_1 rfl (lv_at hl 1 rfl) ?_
  refine x_calli (n := 1) (As := [.int (nI q)]) (rest := []) C w (m_runAt l n g k f d b cell size look hL hS q (by omega) (by omega) (by omega)) q86 q88 qs2 q89 rfl (by decide +kernel) rfl ⟨rfl, rfl⟩ ⟨Nat.le_of_ble_eq_true rfl, Nat.le_of_ble_eq_true rfl⟩ ⟨Nat.le_refl _, Nat.le_refl _⟩ rfl hl.1 (Nat.le_of_ble_eq_true rfl) dX0_cutAt_2 (fun r u H locs hp w => ?_)
  obtain ⟨i, rfl, rfl, i0, i1, i2⟩ := hp
  refine lv_istore_n (lv' := [(2, .int (nI i)), (0, .ref (ad 0)), (1, .int (nI q))]) hx hb dX0_cutAt_5 rfl hl (by decide) rfl (fun ls hl => ?_)
  refine lv_iload_n hx hb dX0_cutAt_6 rfl (lv_at hl 0 rfl) ?_
  refine lv_aload_n hx hb dX0_cutAt_7 rfl (lv_at hl 1 rfl) ?_
  refine x_get C w 3 (v := .int (nI k)) q42 (by decide) rfl dX0_cutAt_8 ?_
  refine n_icmp_ge (tgt := 65) hx hb dX0_cutAt_11 (by decide) (by omega) (by omega) (fun c11 => ?_) (fun c11 => ?_)
  · refine lv_iload_n hx hb dX0_cutAt_65 rfl (lv_at hl 0 rfl) ?_
    have hcut := st_cut_no (look := look) i0 i1 i2 (Or.inl c11)
    exact hend _ _ _ _ ((nI i)) (n, g, k, f, d, st_ps size i, cell, size, look, hL, hS) (⟨i, _, _, _, _, rfl, rfl, by rw [hcut, st_rl_len], by rw [hcut, st_rl_td size look i0]⟩) w rfl dX0_cutAt_66
  · refine lv_aload_n hx hb dX0_cutAt_14 rfl (lv_at hl 1 rfl) ?_
    refine x_get C w 10 (v := .int (nI (st_ps size i))) q49 (by decide) rfl dX0_cutAt_15 ?_
    refine lv_iload_n hx hb dX0_cutAt_18 rfl (lv_at hl 2 rfl) ?_
    refine n_icmp_ge (tgt := 65) hx hb dX0_cutAt_19 (by decide) (by omega) (by omega) (fun c19 => ?_) (fun c19 => ?_)
    · refine lv_iload_n hx hb dX0_cutAt_65 rfl (lv_at hl 0 rfl) ?_
      have hcut := st_cut_no (look := look) i0 i1 i2 (Or.inr c19)
      exact hend _ _ _ _ ((nI i)) (n, g, k, f, d, st_ps size i, cell, size, look, hL, hS) (⟨i, _, _, _, _, rfl, rfl, by rw [hcut, st_rl_len], by rw [hcut, st_rl_td size look i0]⟩) w rfl dX0_cutAt_66
    · have hm := st_ps_le size (show i + 1 ≤ k by omega)
      have hm1 := st_ps_s size i
      have i3 := i2 c11
      refine lv_aload_n hx hb dX0_cutAt_22 rfl (lv_at hl 1 rfl) ?_
      refine lv_iload_n hx hb dX0_cutAt_23 rfl (lv_at hl 0 rfl) ?_
      refine x_callv (n := 1) (As := [.int (nI i)]) (rest := []) C w (m_openRun l n g k f d (st_ps size i) cell size look hL hS i (by omega) (by omega)) q110 q112 qs8 q113 rfl (by decide +kernel) rfl ⟨rfl, rfl⟩ ⟨Nat.le_of_ble_eq_true rfl, Nat.le_of_ble_eq_true rfl⟩ ⟨Nat.le_refl _, Nat.le_refl _⟩ rfl hl.1 (Nat.le_of_ble_eq_true rfl) dX0_cutAt_24 (fun u H locs hp w => ?_)
      subst hp
      refine lv_aload_n hx hb dX0_cutAt_27 rfl (lv_at hl 1 rfl) ?_
      refine x_get C w 4 (v := .ref (ad 2)) q43 (by decide) rfl dX0_cutAt_28 ?_
      refine lv_iload_n hx hb dX0_cutAt_31 rfl (lv_at hl 0 rfl) ?_
      refine lv_iload_n hx hb dX0_cutAt_32 rfl (lv_at hl 2 rfl) ?_
      refine lv_aload_n hx hb dX0_cutAt_33 rfl (lv_at hl 1 rfl) ?_
      refine x_get C w 10 (v := .int (nI (st_ps size i))) q49 (by decide) rfl dX0_cutAt_34 ?_
      refine n_isub hx hb (by omega) dX0_cutAt_37 ?_
      refine x_stN C w (i := i) (v := q - (st_ps size i)) (f := st_opn size k i) (n, g, k + 1, f, d, st_ps size i, cell, updN (st_opn size k i) i (q - (st_ps size i)), st_opn look k i, hL, hS) rfl (by omega) rfl dX0_cutAt_38 (fun H locs w => ?_)
      refine lv_aload_n hx hb dX0_cutAt_39 rfl (lv_at hl 1 rfl) ?_
      refine x_get C w 4 (v := .ref (ad 2)) q43 (by decide) rfl dX0_cutAt_40 ?_
      refine lv_iload_n hx hb dX0_cutAt_43 rfl (lv_at hl 0 rfl) ?_
      refine lv_iconst (v := nI 1) hx hb dX0_cutAt_44 (by decide) ?_
      refine n_iadd hx hb dX0_cutAt_45 ?_
      refine lv_aload_n hx hb dX0_cutAt_46 rfl (lv_at hl 1 rfl) ?_
      refine x_get C w 4 (v := .ref (ad 2)) q43 (by decide) rfl dX0_cutAt_47 ?_
      refine lv_iload_n hx hb dX0_cutAt_50 rfl (lv_at hl 0 rfl) ?_
      refine lv_iconst (v := nI 1) hx hb dX0_cutAt_51 (by decide) ?_
      refine n_iadd hx hb dX0_cutAt_52 ?_
      refine x_ld C w 1 (n := 68) (f := fun j => nI ((updN (st_opn size k i) i (q - (st_ps size i))) j)) (i := i + 1) rfl rfl (by omega) (by decide) dX0_cutAt_53 ?_
      refine lv_aload_n hx hb dX0_cutAt_54 rfl (lv_at hl 1 rfl) ?_
      refine x_get C w 4 (v := .ref (ad 2)) q43 (by decide) rfl dX0_cutAt_55 ?_
      refine lv_iload_n hx hb dX0_cutAt_58 rfl (lv_at hl 0 rfl) ?_
      refine x_ld C w 1 (n := 68) (f := fun j => nI ((updN (st_opn size k i) i (q - (st_ps size i))) j)) (i := i) rfl rfl (by omega) (by decide) dX0_cutAt_59 ?_
      refine n_isub hx hb (st_cut_sub c11 (by omega)) dX0_cutAt_60 ?_
      refine x_stN C w (i := i + 1) (v := ((updN (st_opn size k i) i (q - (st_ps size i))) (i + 1)) - ((updN (st_opn size k i) i (q - (st_ps size i))) i)) (f := updN (st_opn size k i) i (q - (st_ps size i))) (n, g, k + 1, f, d, st_ps size i, cell, updN (updN (st_opn size k i) i (q - (st_ps size i))) (i + 1) (((updN (st_opn size k i) i (q - (st_ps size i))) (i + 1)) - ((updN (st_opn size k i) i (q - (st_ps size i))) i)), st_opn look k i, hL, hS) rfl (by omega) rfl dX0_cutAt_61 (fun H locs w => ?_)
      refine lv_iinc (v := (nI (i + 1))) (lv' := [(2, .int (nI (i + 1))), (0, .ref (ad 0)), (1, .int (nI q))]) hx hb dX0_cutAt_62 hl (k := 0) rfl (n_inc _) (by decide) rfl (fun ls hl => ?_)
      refine lv_iload_n hx hb dX0_cutAt_65 rfl (lv_at hl 0 rfl) ?_
      have hcut := st_cut_yes (look := look) c11 c19 i3
      exact hend _ _ _ _ ((nI (i + 1))) (n, g, k + 1, f, d, st_ps size i, cell, updN (updN (st_opn size k i) i (q - (st_ps size i))) (i + 1) (((updN (st_opn size k i) i (q - (st_ps size i))) (i + 1)) - ((updN (st_opn size k i) i (q - (st_ps size i))) i)), st_opn look k i, hL, hS) (⟨i + 1, _, _, _, _, rfl, rfl, by rw [hcut]; simp [st_rl_len], by rw [st_rl_cut c11, hcut, st_rl_take size look (Nat.le_of_lt c11)]; simp⟩) w rfl dX0_cutAt_66
set_option maxHeartbeats 4000000 in
/-- joinRuns() -/
theorem m_joinRuns (l : Launch) (n g k f d b : Nat) (cell : Nat → Int32) (size : Nat → Nat) (look hL hS : Nat → Int32) (hk : k ≤ 67) : XMv l yX0_joinRuns cX0_joinRuns 2 (st_rm 1 22) [] (n, g, k, f, d, b, cell, size, look, hL, hS) (fun u => ∃ k' size' look', u = (n, g, k', f, d, b, cell, size', look', hL, hS) ∧ st_rl k' size' look' = st_jn (st_rl k size look)) := by
  intro D ad ca
  refine g_enter_v RX0 rfl (by decide +kernel) (Nat.le_of_ble_eq_true rfl) ?_
  intro p e s m below meth c A Q args ls C w hl hend
  have hx := C.1
  have hb := C.2.1
  have hl : lv_has ls 2 [(0, .ref (ad 0))] := hl
  have loop : ∀ (N : Nat) (j : Nat) (k1 : Nat) (sz : Nat → Nat) (lk : Nat → Int32), j < N → (j ≤ k) → (st_rl k1 sz lk = (st_rl k size look).take (j - 1) ++ st_jn ((st_rl k size look).drop (j - 1))) → ∀ (H : Heap) (locs : List Loc) (ls : Array Slot), wd D A s (xw ad ca (n, g, k1, f, d, b, cell, sz, lk, hL, hS)) (xt ca) H locs → lv_has ls 2 [(0, .ref (ad 0)), (1, .int (nI j - nI 1))] → W p l e (st_rm 1 22) s m args below meth c H locs 0 0 Q (F0 m 7 ls []) := by
    intro N
    induction N with
    | zero => intro j k1 sz lk hN; exact absurd hN (Nat.not_lt_zero _)
    | succ N ih =>
      intro j k1 sz lk hN h1 h2 H locs ls w hl
      refine lv_iload_n hx hb dX0_joinRuns_7 rfl (lv_at hl 1 rfl) ?_
      refine d_if_le (tgt := 62) hx hb dX0_joinRuns_8 (by decide) (by omega) (fun c8 => ?_) (fun c8 => ?_)
      · exact hend _ _ _ _ (n, g, k1, f, d, b, cell, sz, lk, hL, hS) (⟨_, _, _, rfl, by rw [h2, show j - 1 = 0 by omega]; rfl⟩) w dX0_joinRuns_62
      · obtain ⟨i, rfl⟩ : ∃ i, j = i + 1 + 1 := ⟨j - 2, by omega⟩
        rw [dn_succ] at hl
        obtain ⟨s1, s2, s3, s4⟩ := st_jn_step (show i + 1 < k by omega) h2
        refine lv_aload_n hx hb dX0_joinRuns_11 rfl (lv_at hl 0 rfl) ?_
        refine x_get C w 5 (v := .ref (ad 3)) q44 (by decide) rfl dX0_joinRuns_12 ?_
        refine lv_iload_n hx hb dX0_joinRuns_15 rfl (lv_at hl 1 rfl) ?_
        refine x_ld C w 2 (n := 68) (f := lk) (i := i + 1) rfl rfl (by omega) (by decide) dX0_joinRuns_16 ?_
        refine lv_aload_n hx hb dX0_joinRuns_17 rfl (lv_at hl 0 rfl) ?_
        refine x_get C w 5 (v := .ref (ad 3)) q44 (by decide) rfl dX0_joinRuns_18 ?_
        refine lv_iload_n hx hb dX0_joinRuns_21 rfl (lv_at hl 1 rfl) ?_
        refine lv_iconst (v := nI 1) hx hb dX0_joinRuns_22 (by decide) ?_
        refine n_isub hx hb (by omega) dX0_joinRuns_23 ?_
        refine n_top (y := nI i) rfl ?_
        refine x_ld C w 2 (n := 68) (f := lk) (i := i) rfl rfl (by omega) (by decide) dX0_joinRuns_24 ?_
        refine lv_icmp_ne (tgt := 56) hx hb dX0_joinRuns_25 (by decide) (fun c25 => ?_) (fun c25 => ?_)
        · refine lv_iinc (v := (nI (i + 1) - nI 1)) (lv' := [(1, .int (nI (i + 1) - nI 1)), (0, .ref (ad 0))]) hx hb dX0_joinRuns_56 hl (k := 1) rfl (n_dec _) (by decide) rfl (fun ls hl => ?_)
          refine lv_goto (tgt := 7) hx hb dX0_joinRuns_59 (by decide) ?_
          exact ih (i + 1) _ _ _ (by omega) (by omega) (s4 c25) _ _ _ w (lv_sub hl [1, 0] rfl)
        · refine lv_aload_n hx hb dX0_joinRuns_28 rfl (lv_at hl 0 rfl) ?_
          refine x_get C w 4 (v := .ref (ad 2)) q43 (by decide) rfl dX0_joinRuns_29 ?_
          refine lv_iload_n hx hb dX0_joinRuns_32 rfl (lv_at hl 1 rfl) ?_
          refine lv_iconst (v := nI 1) hx hb dX0_joinRuns_33 (by decide) ?_
          refine n_isub hx hb (by omega) dX0_joinRuns_34 ?_
          refine n_top (y := nI i) rfl ?_
          refine lv_aload_n hx hb dX0_joinRuns_35 rfl (lv_at hl 0 rfl) ?_
          refine x_get C w 4 (v := .ref (ad 2)) q43 (by decide) rfl dX0_joinRuns_36 ?_
          refine lv_iload_n hx hb dX0_joinRuns_39 rfl (lv_at hl 1 rfl) ?_
          refine lv_iconst (v := nI 1) hx hb dX0_joinRuns_40 (by decide) ?_
          refine n_isub hx hb (by omega) dX0_joinRuns_41 ?_
          refine n_top (y := nI i) rfl ?_
          refine x_ld C w 1 (n := 68) (f := fun j => nI (sz j)) (i := i) rfl rfl (by omega) (by decide) dX0_joinRuns_42 ?_
          refine lv_aload_n hx hb dX0_joinRuns_43 rfl (lv_at hl 0 rfl) ?_
          refine x_get C w 4 (v := .ref (ad 2)) q43 (by decide) rfl dX0_joinRuns_44 ?_
          refine lv_iload_n hx hb dX0_joinRuns_47 rfl (lv_at hl 1 rfl) ?_
          refine x_ld C w 1 (n := 68) (f := fun j => nI (sz j)) (i := i + 1) rfl rfl (by omega) (by decide) dX0_joinRuns_48 ?_
          refine n_iadd hx hb dX0_joinRuns_49 ?_
          refine x_stN C w (i := i) (v := (sz i) + (sz (i + 1))) (f := sz) (n, g, k1, f, d, b, cell, updN sz i ((sz i) + (sz (i + 1))), lk, hL, hS) rfl (by omega) rfl dX0_joinRuns_50 (fun H locs w => ?_)
          refine lv_aload_n hx hb dX0_joinRuns_51 rfl (lv_at hl 0 rfl) ?_
          refine lv_iload_n hx hb dX0_joinRuns_52 rfl (lv_at hl 1 rfl) ?_
          refine x_callv (n := 1) (As := [.int (nI (i + 1))]) (rest := []) C w (m_closeRun l n g k1 f d b cell (updN sz i ((sz i) + (sz (i + 1)))) lk hL hS (i + 1) (by omega) (by omega)) q118 q120 qs10 q121 rfl (by decide +kernel) rfl ⟨rfl, rfl⟩ ⟨Nat.le_of_ble_eq_true rfl, Nat.le_of_ble_eq_true rfl⟩ ⟨Nat.le_refl _, Nat.le_refl _⟩ rfl hl.1 (Nat.le_of_ble_eq_true rfl) dX0_joinRuns_53 (fun u H locs hp w => ?_)
          subst hp
          refine lv_iinc (v := (nI (i + 1) - nI 1)) (lv' := [(1, .int (nI (i + 1) - nI 1)), (0, .ref (ad 0))]) hx hb dX0_joinRuns_56 hl (k := 1) rfl (n_dec _) (by decide) rfl (fun ls hl => ?_)
          refine lv_goto (tgt := 7) hx hb dX0_joinRuns_59 (by decide) ?_
          exact ih (i + 1) _ _ _ (by omega) (by omega) (by rw [st_rl_join s1]; exact s3 c25) _ _ _ w (lv_sub hl [1, 0] rfl)
  refine lv_aload_n hx hb dX0_joinRuns_0 rfl (lv_at hl 0 rfl) ?_
  refine x_get C w 3 (v := .int (nI k)) q42 (by decide) rfl dX0_joinRuns_1 ?_
  refine lv_iconst (v := nI 1) hx hb dX0_joinRuns_4 (by decide) ?_
  refine lv_isub hx hb dX0_joinRuns_5 ?_
  refine lv_istore_n (lv' := [(1, .int (nI k - nI 1)), (0, .ref (ad 0))]) hx hb dX0_joinRuns_6 rfl hl (by decide) rfl (fun ls hl => ?_)
  exact loop (k + 1) k _ _ _ (by omega) (Nat.le_refl _) (st_jn_0 size look) _ _ _ w (lv_sub hl [1, 0] rfl)
set_option maxHeartbeats 4000000 in
/-- putStyles(p, k, s) -/
theorem m_putStyles (l : Launch) (n g k f d b : Nat) (cell : Nat → Int32) (size : Nat → Nat) (look hL hS : Nat → Int32) (q c0 : Nat) (v : Int32) (E : List Int32) (hE : st_XE k size look E) (hq : q ≤ E.length) (hc : E.length + c0 ≤ 64) : XMv l yX0_putStyles cX0_putStyles 5 (st_rm 2 46) [.int (nI q), .int (nI c0), .int v] (n, g, k, f, d, b, cell, size, look, hL, hS) (fun u => ∃ k' b' size' look', u = (n, g, k', f, d, b', cell, size', look', hL, hS) ∧ st_XE k' size' look' (st_ins E q (List.replicate c0 v))) := by
  intro D ad ca
  refine g_enter_v RX0 rfl (by decide +kernel) (Nat.le_of_ble_eq_true rfl) ?_
  intro p e s m below meth c A Q args ls C w hl hend
  have hx := C.1
  have hb := C.2.1
  have hl : lv_has ls 5 [(0, .ref (ad 0)), (1, .int (nI q)), (2, .int (nI c0)), (3, .int v)] := hl
  have he := st_XE_len hE
  refine lv_iload_n hx hb dX0_putStyles_0 rfl (lv_at hl 2 rfl) ?_
  refine n_if_ne (tgt := 5) hx hb dX0_putStyles_1 (by decide) (by omega) (fun c1 => ?_) (fun c1 => ?_)
  · refine lv_aload_n hx hb dX0_putStyles_5 rfl (lv_at hl 0 rfl) ?_
    refine lv_iload_n hx hb dX0_putStyles_6 rfl (lv_at hl 1 rfl) ?_
    refine x_calli (n := 1) (As := [.int (nI q)]) (rest := []) C w (m_cutAt l n g k f d b cell size look hL hS q (st_XE_pos hE) (by omega) (by omega)) q106 q108 qs7 q109 rfl (by decide +kernel) rfl ⟨rfl, rfl⟩ ⟨Nat.le_of_ble_eq_true rfl, Nat.le_of_ble_eq_true rfl⟩ ⟨Nat.le_refl _, Nat.le_refl _⟩ rfl hl.1 (Nat.le_of_ble_eq_true rfl) dX0_putStyles_7 (fun r u H locs hp w => ?_)
    obtain ⟨i, k1, b1, sz, lk, rfl, rfl, hi, hrl⟩ := hp
    refine lv_istore (lv' := [(4, .int (nI i)), (0, .ref (ad 0)), (1, .int (nI q)), (2, .int (nI c0)), (3, .int v)]) hx hb dX0_putStyles_10 hl (by decide) rfl (fun ls hl => ?_)
    have hck := st_cut_k (st_XE_pos hE) hrl
    have htk := st_rl_tk hrl
    refine lv_aload_n hx hb dX0_putStyles_12 rfl (lv_at hl 1 rfl) ?_
    refine lv_iload hx hb dX0_putStyles_13 (lv_at hl 0 rfl) ?_
    refine x_callv (n := 1) (As := [.int (nI i)]) (rest := []) C w (m_openRun l n g k1 f d b1 cell sz lk hL hS i (by omega) (by omega)) q110 q112 qs8 q113 rfl (by decide +kernel) rfl ⟨rfl, rfl⟩ ⟨Nat.le_of_ble_eq_true rfl, Nat.le_of_ble_eq_true rfl⟩ ⟨Nat.le_refl _, Nat.le_refl _⟩ rfl hl.1 (Nat.le_of_ble_eq_true rfl) dX0_putStyles_15 (fun u H locs hp w => ?_)
    subst hp
    refine lv_aload_n hx hb dX0_putStyles_18 rfl (lv_at hl 1 rfl) ?_
    refine x_get C w 4 (v := .ref (ad 2)) q43 (by decide) rfl dX0_putStyles_19 ?_
    refine lv_iload hx hb dX0_putStyles_22 (lv_at hl 0 rfl) ?_
    refine lv_iload_n hx hb dX0_putStyles_24 rfl (lv_at hl 3 rfl) ?_
    refine x_stN C w (i := i) (v := c0) (f := st_opn sz k1 i) (n, g, k1 + 1, f, d, b1, cell, updN (st_opn sz k1 i) i c0, st_opn lk k1 i, hL, hS) rfl (by omega) rfl dX0_putStyles_25 (fun H locs w => ?_)
    refine lv_aload_n hx hb dX0_putStyles_26 rfl (lv_at hl 1 rfl) ?_
    refine x_get C w 5 (v := .ref (ad 3)) q44 (by decide) rfl dX0_putStyles_27 ?_
    refine lv_iload hx hb dX0_putStyles_30 (lv_at hl 0 rfl) ?_
    refine lv_iload_n hx hb dX0_putStyles_32 rfl (lv_at hl 4 rfl) ?_
    refine x_st C w 2 (n := 68) (f := st_opn lk k1 i) (i := i) (n, g, k1 + 1, f, d, b1, cell, updN (st_opn sz k1 i) i c0, upd (st_opn lk k1 i) i v, hL, hS) rfl rfl (by omega) (by decide) rfl dX0_putStyles_33 (fun H locs w => ?_)
    refine lv_aload_n hx hb dX0_putStyles_34 rfl (lv_at hl 1 rfl) ?_
    refine x_callv (n := 0) (As := []) (rest := []) C w (m_joinRuns l n g (k1 + 1) f d b1 cell (updN (st_opn sz k1 i) i c0) (upd (st_opn lk k1 i) i v) hL hS (by omega)) q114 q116 qs9 q117 rfl (by decide +kernel) rfl ⟨rfl, rfl⟩ ⟨Nat.le_of_ble_eq_true rfl, Nat.le_of_ble_eq_true rfl⟩ ⟨Nat.le_refl _, Nat.le_refl _⟩ rfl hl.1 (Nat.le_of_ble_eq_true rfl) dX0_putStyles_35 (fun u H locs hp w => ?_)
    obtain ⟨k2, sz2, lk2, rfl, hj⟩ := hp
    rw [st_rl_open (by omega), hi] at hj
    exact hend _ _ _ _ (n, g, k2, f, d, b1, cell, sz2, lk2, hL, hS) (⟨_, _, _, _, rfl, st_XE_put hE (Nat.pos_of_ne_zero c1) hrl hj⟩) w dX0_putStyles_38
  · exact hend _ _ _ _ (n, g, k, f, d, b, cell, size, look, hL, hS) (⟨_, _, _, _, rfl, by rw [c1]; show st_XE k size look (st_ins E q []); rw [st_ins_nil]; exact hE⟩) w dX0_putStyles_4
set_option maxHeartbeats 4000000 in
/-- dropStyles(i, j) -/
theorem m_dropStyles (l : Launch) (n g k f d b : Nat) (cell : Nat → Int32) (size : Nat → Nat) (look hL hS : Nat → Int32) (i j : Nat) (E : List Int32) (hE : st_XE k size look E) (hij : i ≤ j) (hj : j ≤ E.length) (hl0 : E.length ≤ 64) : XMv l yX0_dropStyles cX0_dropStyles 6 (st_rm 2 46) [.int (nI i), .int (nI j)] (n, g, k, f, d, b, cell, size, look, hL, hS) (fun u => ∃ k' b' size' look', u = (n, g, k', f, d, b', cell, size', look', hL, hS) ∧ st_XE k' size' look' (st_del E i j)) := by
  intro D ad ca
  refine g_enter_v RX0 rfl (by decide +kernel) (Nat.le_of_ble_eq_true rfl) ?_
  intro p e s m below meth c A Q args ls C w hl hend
  have hx := C.1
  have hb := C.2.1
  have hl : lv_has ls 6 [(0, .ref (ad 0)), (1, .int (nI i)), (2, .int (nI j))] := hl
  have he := st_XE_len hE
  have loop : ∀ (N : Nat) (Md A0 B0 : List (Nat × Int32)) (t k1 b1 : Nat) (sz : Nat → Nat) (lk : Nat → Int32), Md.length < N → (t + Md.length ≤ 64) → ((st_ex Md).length ≤ 64) → (st_Pos A0) → (st_Pos Md) → (st_Pos B0) → (st_ex A0 = E.take i) → (st_ex B0 = E.drop j) → (k1 ≤ 64) → (st_rl k1 sz lk = A0 ++ (Md ++ B0)) → ∀ (H : Heap) (locs : List Loc) (ls : Array Slot), wd D A s (xw ad ca (n, g, k1, f, d, b1, cell, sz, lk, hL, hS)) (xt ca) H locs → lv_has ls 6 [(0, .ref (ad 0)), (1, .int (nI i)), (2, .int (nI j)), (3, .int (nI (A0.length))), (4, .int (nI ((st_ex Md).length))), (5, .int (nI t))] → W p l e (st_rm 2 46) s m args below meth c H locs 0 0 Q (F0 m 26 ls []) := by
    intro N
    induction N with
    | zero => intro Md A0 B0 t k1 b1 sz lk hN; exact absurd hN (Nat.not_lt_zero _)
    | succ N ih =>
      intro Md A0 B0 t k1 b1 sz lk hN ht hM0 hpA hpM hpB eA eB hk1 hrl H locs ls w hl
      refine lv_iload hx hb dX0_dropStyles_26 (lv_at hl 5 rfl) ?_
      refine lv_bipush (v := nI 64) hx hb dX0_dropStyles_28 (by decide) ?_
      refine n_icmp_ge (tgt := 60) hx hb dX0_dropStyles_30 (by decide) (by omega) (by omega) (fun c30 => ?_) (fun c30 => ?_)
      · have hM : Md = [] := List.eq_nil_of_length_eq_zero (by omega)
        subst hM
        rw [List.nil_append] at hrl
        refine lv_aload_n hx hb dX0_dropStyles_60 rfl (lv_at hl 0 rfl) ?_
        refine x_callv (n := 0) (As := []) (rest := []) C w (m_joinRuns l n g k1 f d b1 cell sz lk hL hS (by omega)) q114 q116 qs9 q117 rfl (by decide +kernel) rfl ⟨rfl, rfl⟩ ⟨Nat.le_of_ble_eq_true rfl, Nat.le_of_ble_eq_true rfl⟩ ⟨Nat.le_refl _, Nat.le_refl _⟩ rfl hl.1 (Nat.le_of_ble_eq_true rfl) dX0_dropStyles_61 (fun u H locs hp w => ?_)
        obtain ⟨k2, sz2, lk2, rfl, hj2⟩ := hp
        exact hend _ _ _ _ (n, g, k2, f, d, b1, cell, sz2, lk2, hL, hS) (⟨_, _, _, _, rfl, st_XE_del hpA hpB (by rw [hj2, hrl]) eA eB⟩) w dX0_dropStyles_64
      · refine lv_iload hx hb dX0_dropStyles_33 (lv_at hl 4 rfl) ?_
        refine n_if_le (tgt := 60) hx hb dX0_dropStyles_35 (by decide) (by omega) (fun c35 => ?_) (fun c35 => ?_)
        · have hM : Md = [] := st_ex_nil hpM c35
          subst hM
          rw [List.nil_append] at hrl
          refine lv_aload_n hx hb dX0_dropStyles_60 rfl (lv_at hl 0 rfl) ?_
          refine x_callv (n := 0) (As := []) (rest := []) C w (m_joinRuns l n g k1 f d b1 cell sz lk hL hS (by omega)) q114 q116 qs9 q117 rfl (by decide +kernel) rfl ⟨rfl, rfl⟩ ⟨Nat.le_of_ble_eq_true rfl, Nat.le_of_ble_eq_true rfl⟩ ⟨Nat.le_refl _, Nat.le_refl _⟩ rfl hl.1 (Nat.le_of_ble_eq_true rfl) dX0_dropStyles_61 (fun u H locs hp w => ?_)
          obtain ⟨k2, sz2, lk2, rfl, hj2⟩ := hp
          exact hend _ _ _ _ (n, g, k2, f, d, b1, cell, sz2, lk2, hL, hS) (⟨_, _, _, _, rfl, st_XE_del hpA hpB (by rw [hj2, hrl]) eA eB⟩) w dX0_dropStyles_64
        · rcases Md with _ | ⟨x, Md⟩
          · exfalso; simp [st_ex] at c35
          obtain ⟨hx1, hx1b, hx1c⟩ := st_rl_nth hrl
          have hx2 := st_ex_cl x Md
          have hx3 := st_rl_tk hrl
          have hx4 := st_rl_tk1 hrl
          rw [List.length_cons] at ht hN
          refine lv_iload hx hb dX0_dropStyles_38 (lv_at hl 4 rfl) ?_
          refine lv_aload_n hx hb dX0_dropStyles_40 rfl (lv_at hl 0 rfl) ?_
          refine x_get C w 4 (v := .ref (ad 2)) q43 (by decide) rfl dX0_dropStyles_41 ?_
          refine lv_iload_n hx hb dX0_dropStyles_44 rfl (lv_at hl 3 rfl) ?_
          refine x_ld C w 1 (n := 68) (f := fun j => nI (sz j)) (i := A0.length) rfl rfl (by omega) (by decide) dX0_dropStyles_45 ?_
          refine n_isub hx hb (by omega) dX0_dropStyles_46 ?_
          refine lv_istore (lv' := [(4, .int (nI (((st_ex (x :: Md)).length) - (sz (A0.length))))), (0, .ref (ad 0)), (1, .int (nI i)), (2, .int (nI j)), (3, .int (nI (A0.length))), (5, .int (nI t))]) hx hb dX0_dropStyles_47 hl (by decide) rfl (fun ls hl => ?_)
          rw [show (st_ex (x :: Md)).length - sz A0.length = (st_ex Md).length by omega] at hl
          refine lv_aload_n hx hb dX0_dropStyles_49 rfl (lv_at hl 1 rfl) ?_
          refine lv_iload_n hx hb dX0_dropStyles_50 rfl (lv_at hl 4 rfl) ?_
          refine x_callv (n := 1) (As := [.int (nI (A0.length))]) (rest := []) C w (m_closeRun l n g k1 f d b1 cell sz lk hL hS (A0.length) (by omega) (by omega)) q118 q120 qs10 q121 rfl (by decide +kernel) rfl ⟨rfl, rfl⟩ ⟨Nat.le_of_ble_eq_true rfl, Nat.le_of_ble_eq_true rfl⟩ ⟨Nat.le_refl _, Nat.le_refl _⟩ rfl hl.1 (Nat.le_of_ble_eq_true rfl) dX0_dropStyles_51 (fun u H locs hp w => ?_)
          subst hp
          refine lv_iinc (v := (nI (t + 1))) (lv' := [(5, .int (nI (t + 1))), (4, .int (nI ((st_ex Md).length))), (0, .ref (ad 0)), (1, .int (nI i)), (2, .int (nI j)), (3, .int (nI (A0.length)))]) hx hb dX0_dropStyles_54 hl (k := 5) rfl (n_inc _) (by decide) rfl (fun ls hl => ?_)
          refine lv_goto (tgt := 26) hx hb dX0_dropStyles_57 (by decide) ?_
          exact ih Md A0 B0 (t + 1) _ _ _ _ (by omega) (by omega) (by omega) (hpA) (fun a ha => hpM a (List.mem_cons_of_mem _ ha)) (hpB) (eA) (eB) (by omega) (by rw [st_rl_close hx1, hx3.1, hx4]; rfl) _ _ _ w (lv_sub hl [2, 3, 4, 5, 1, 0] rfl)
  refine lv_iload_n hx hb dX0_dropStyles_0 rfl (lv_at hl 1 rfl) ?_
  refine lv_iload_n hx hb dX0_dropStyles_1 rfl (lv_at hl 2 rfl) ?_
  refine n_icmp_ne (tgt := 6) hx hb dX0_dropStyles_2 (by decide) (by omega) (by omega) (fun c2 => ?_) (fun c2 => ?_)
  · refine lv_aload_n hx hb dX0_dropStyles_6 rfl (lv_at hl 0 rfl) ?_
    refine lv_iload_n hx hb dX0_dropStyles_7 rfl (lv_at hl 2 rfl) ?_
    refine x_calli (n := 1) (As := [.int (nI j)]) (rest := []) C w (m_cutAt l n g k f d b cell size look hL hS j (st_XE_pos hE) (by omega) (by omega)) q106 q108 qs7 q109 rfl (by decide +kernel) rfl ⟨rfl, rfl⟩ ⟨Nat.le_of_ble_eq_true rfl, Nat.le_of_ble_eq_true rfl⟩ ⟨Nat.le_refl _, Nat.le_refl _⟩ rfl hl.1 (Nat.le_of_ble_eq_true rfl) dX0_dropStyles_8 (fun r u H locs hp w => ?_)
    obtain ⟨i1, k1, b1, sz1, lk1, rfl, rfl, hi1, hrl1⟩ := hp
    have hck1 := st_cut_k (st_XE_pos hE) hrl1
    refine lv_pop hx hb dX0_dropStyles_11 rfl ?_
    refine lv_aload_n hx hb dX0_dropStyles_12 rfl (lv_at hl 0 rfl) ?_
    refine lv_iload_n hx hb dX0_dropStyles_13 rfl (lv_at hl 1 rfl) ?_
    refine x_calli (n := 1) (As := [.int (nI i)]) (rest := []) C w (m_cutAt l n g k1 f d b1 cell sz1 lk1 hL hS i hck1.1 (by omega) (by omega)) q106 q108 qs7 q109 rfl (by decide +kernel) rfl ⟨rfl, rfl⟩ ⟨Nat.le_of_ble_eq_true rfl, Nat.le_of_ble_eq_true rfl⟩ ⟨Nat.le_refl _, Nat.le_refl _⟩ rfl hl.1 (Nat.le_of_ble_eq_true rfl) dX0_dropStyles_14 (fun r u H locs hp w => ?_)
    obtain ⟨i2, k2, b2, sz2, lk2, rfl, rfl, hi2, hrl2⟩ := hp
    refine lv_istore_n (lv' := [(3, .int (nI i2)), (0, .ref (ad 0)), (1, .int (nI i)), (2, .int (nI j))]) hx hb dX0_dropStyles_17 rfl hl (by decide) rfl (fun ls hl => ?_)
    refine lv_iload_n hx hb dX0_dropStyles_18 rfl (lv_at hl 3 rfl) ?_
    refine lv_iload_n hx hb dX0_dropStyles_19 rfl (lv_at hl 2 rfl) ?_
    refine n_isub hx hb (by omega) dX0_dropStyles_20 ?_
    refine lv_istore (lv' := [(4, .int (nI (j - i))), (3, .int (nI i2)), (0, .ref (ad 0)), (1, .int (nI i)), (2, .int (nI j))]) hx hb dX0_dropStyles_21 hl (by decide) rfl (fun ls hl => ?_)
    refine lv_iconst (v := nI 0) hx hb dX0_dropStyles_23 (by decide) ?_
    refine lv_istore (lv' := [(5, .int (nI 0)), (4, .int (nI (j - i))), (3, .int (nI i2)), (0, .ref (ad 0)), (1, .int (nI i)), (2, .int (nI j))]) hx hb dX0_dropStyles_24 hl (by decide) rfl (fun ls hl => ?_)
    have hck2 := st_cut_k hck1.1 hrl2
    obtain ⟨A0, Md, B0, eA1, eM1, pA, pM, pB, xA, xM, xB⟩ := st_cut2 (i := i) (j := j) (st_XE_pos hE) (by omega) (by rw [st_ex_rl]; omega)
    rw [hrl1] at hi2 hrl2
    rw [eA1] at hi2 hrl2
    rw [eM1] at hrl2
    rw [hE.2] at xA xM xB
    subst hi2
    have hM : j - i = (st_ex Md).length := by rw [xM, List.length_drop, List.length_take]; omega
    have hM2 := st_Pos_len pM
    rw [hM] at hl
    exact loop (Md.length + 1) Md A0 B0 0 _ _ _ _ (by omega) (by omega) (by omega) (pA) (pM) (pB) (xA) (xB) (by omega) (hrl2) _ _ _ w (lv_sub hl [3, 4, 5, 2, 1, 0] rfl)
  · exact hend _ _ _ _ (n, g, k, f, d, b, cell, size, look, hL, hS) (⟨_, _, _, _, rfl, by rw [c2, st_del_same]; exact hE⟩) w dX0_dropStyles_5
end
section
set_option maxRecDepth 100000
set_option maxHeartbeats 4000000 in
/-- bad(i, j) -/
theorem m_bad (l : Launch) (n g k f d b : Nat) (cell : Nat → Int32) (size : Nat → Nat) (look hL hS : Nat → Int32) (i j : Int32) : XMi l yX0_bad cX0_bad 3 .boolean (st_rm 0 0) [.int i, .int j] (n, g, k, f, d, b, cell, size, look, hL, hS) (fun r u => u = (n, g, k, f, d, b, cell, size, look, hL, hS) ∧ r = if st_bad n i j then 1 else 0) := by
  intro D ad ca
  refine g_enter_i RX0 rfl (by decide +kernel) (Nat.le_of_ble_eq_true rfl) ?_
  intro p e s m below meth c A Q args ls C w hl hend
  have hx := C.1
  have hb := C.2.1
  have hl : lv_has ls 3 [(0, .ref (ad 0)), (1, .int i), (2, .int j)] := hl
  refine lv_iload_n hx hb dX0_bad_0 rfl (lv_at hl 1 rfl) ?_
  refine lv_if_lt (tgt := 17) hx hb dX0_bad_1 (by decide) (fun c1 => ?_) (fun c1 => ?_)
  · refine lv_iconst (v := nI 1) hx hb dX0_bad_17 (by decide) ?_
    refine lv_goto (tgt := 22) hx hb dX0_bad_18 (by decide) ?_
    exact hend _ _ _ _ ((nI 1)) (n, g, k, f, d, b, cell, size, look, hL, hS) (⟨rfl, by rw [if_pos (Or.inl c1)]; rfl⟩) w (by decide) dX0_bad_22
  · refine lv_iload_n hx hb dX0_bad_4 rfl (lv_at hl 1 rfl) ?_
    refine lv_iload_n hx hb dX0_bad_5 rfl (lv_at hl 2 rfl) ?_
    refine lv_icmp_gt (tgt := 17) hx hb dX0_bad_6 (by decide) (fun c6 => ?_) (fun c6 => ?_)
    · refine lv_iconst (v := nI 1) hx hb dX0_bad_17 (by decide) ?_
      refine lv_goto (tgt := 22) hx hb dX0_bad_18 (by decide) ?_
      exact hend _ _ _ _ ((nI 1)) (n, g, k, f, d, b, cell, size, look, hL, hS) (⟨rfl, by rw [if_pos (Or.inr (Or.inl c6))]; rfl⟩) w (by decide) dX0_bad_22
    · refine lv_iload_n hx hb dX0_bad_9 rfl (lv_at hl 2 rfl) ?_
      refine lv_aload_n hx hb dX0_bad_10 rfl (lv_at hl 0 rfl) ?_
      refine x_get C w 0 (v := .int (nI n)) q39 (by decide) rfl dX0_bad_11 ?_
      refine lv_icmp_le (tgt := 21) hx hb dX0_bad_14 (by decide) (fun c14 => ?_) (fun c14 => ?_)
      · refine lv_iconst (v := nI 0) hx hb dX0_bad_21 (by decide) ?_
        exact hend _ _ _ _ ((nI 0)) (n, g, k, f, d, b, cell, size, look, hL, hS) (⟨rfl, by rw [if_neg (fun q => q.elim c1 (fun q => q.elim c6 (fun q => q c14)))]; rfl⟩) w (by decide) dX0_bad_22
      · refine lv_iconst (v := nI 1) hx hb dX0_bad_17 (by decide) ?_
        refine lv_goto (tgt := 22) hx hb dX0_bad_18 (by decide) ?_
        exact hend _ _ _ _ ((nI 1)) (n, g, k, f, d, b, cell, size, look, hL, hS) (⟨rfl, by rw [if_pos (Or.inr (Or.inr c14))]; rfl⟩) w (by decide) dX0_bad_22
set_option maxHeartbeats 4000000 in
/-- badLetter(c) -/
theorem m_badLetter (l : Launch) (n g k f d b : Nat) (cell : Nat → Int32) (size : Nat → Nat) (look hL hS : Nat → Int32) (v : Int32) : XMi l yX0_badLetter cX0_badLetter 2 .boolean (st_rm 0 0) [.int v] (n, g, k, f, d, b, cell, size, look, hL, hS) (fun r u => u = (n, g, k, f, d, b, cell, size, look, hL, hS) ∧ r = if st_badL v then 1 else 0) := by
  intro D ad ca
  refine g_enter_i RX0 rfl (by decide +kernel) (Nat.le_of_ble_eq_true rfl) ?_
  intro p e s m below meth c A Q args ls C w hl hend
  have hx := C.1
  have hb := C.2.1
  have hl : lv_has ls 2 [(0, .ref (ad 0)), (1, .int v)] := hl
  refine lv_iload_n hx hb dX0_badLetter_0 rfl (lv_at hl 1 rfl) ?_
  refine lv_if_lt (tgt := 10) hx hb dX0_badLetter_1 (by decide) (fun c1 => ?_) (fun c1 => ?_)
  · refine lv_iconst (v := nI 1) hx hb dX0_badLetter_10 (by decide) ?_
    refine lv_goto (tgt := 15) hx hb dX0_badLetter_11 (by decide) ?_
    exact hend _ _ _ _ ((nI 1)) (n, g, k, f, d, b, cell, size, look, hL, hS) (⟨rfl, by rw [if_pos (Or.inl c1)]; rfl⟩) w (by decide) dX0_badLetter_15
  · refine lv_iload_n hx hb dX0_badLetter_4 rfl (lv_at hl 1 rfl) ?_
    refine lv_bipush (v := nI 25) hx hb dX0_badLetter_5 (by decide) ?_
    refine lv_icmp_le (tgt := 14) hx hb dX0_badLetter_7 (by decide) (fun c7 => ?_) (fun c7 => ?_)
    · refine lv_iconst (v := nI 0) hx hb dX0_badLetter_14 (by decide) ?_
      exact hend _ _ _ _ ((nI 0)) (n, g, k, f, d, b, cell, size, look, hL, hS) (⟨rfl, by rw [if_neg (fun q => q.elim c1 (fun q => q c7))]; rfl⟩) w (by decide) dX0_badLetter_15
    · refine lv_iconst (v := nI 1) hx hb dX0_badLetter_10 (by decide) ?_
      refine lv_goto (tgt := 15) hx hb dX0_badLetter_11 (by decide) ?_
      exact hend _ _ _ _ ((nI 1)) (n, g, k, f, d, b, cell, size, look, hL, hS) (⟨rfl, by rw [if_pos (Or.inr c7)]; rfl⟩) w (by decide) dX0_badLetter_15
set_option maxHeartbeats 4000000 in
/-- off(p) -/
theorem m_off (l : Launch) (n g k f d b : Nat) (cell : Nat → Int32) (size : Nat → Nat) (look hL hS : Nat → Int32) (q : Int32) : XMi l yX0_off cX0_off 2 .boolean (st_rm 0 0) [.int q] (n, g, k, f, d, b, cell, size, look, hL, hS) (fun r u => u = (n, g, k, f, d, b, cell, size, look, hL, hS) ∧ r = if st_off n q then 1 else 0) := by
  intro D ad ca
  refine g_enter_i RX0 rfl (by decide +kernel) (Nat.le_of_ble_eq_true rfl) ?_
  intro p e s m below meth c A Q args ls C w hl hend
  have hx := C.1
  have hb := C.2.1
  have hl : lv_has ls 2 [(0, .ref (ad 0)), (1, .int q)] := hl
  refine lv_iload_n hx hb dX0_off_0 rfl (lv_at hl 1 rfl) ?_
  refine lv_if_lt (tgt := 12) hx hb dX0_off_1 (by decide) (fun c1 => ?_) (fun c1 => ?_)
  · refine lv_iconst (v := nI 1) hx hb dX0_off_12 (by decide) ?_
    refine lv_goto (tgt := 17) hx hb dX0_off_13 (by decide) ?_
    exact hend _ _ _ _ ((nI 1)) (n, g, k, f, d, b, cell, size, look, hL, hS) (⟨rfl, by rw [if_pos (Or.inl c1)]; rfl⟩) w (by decide) dX0_off_17
  · refine lv_iload_n hx hb dX0_off_4 rfl (lv_at hl 1 rfl) ?_
    refine lv_aload_n hx hb dX0_off_5 rfl (lv_at hl 0 rfl) ?_
    refine x_get C w 0 (v := .int (nI n)) q39 (by decide) rfl dX0_off_6 ?_
    refine lv_icmp_lt (tgt := 16) hx hb dX0_off_9 (by decide) (fun c9 => ?_) (fun c9 => ?_)
    · refine lv_iconst (v := nI 0) hx hb dX0_off_16 (by decide) ?_
      exact hend _ _ _ _ ((nI 0)) (n, g, k, f, d, b, cell, size, look, hL, hS) (⟨rfl, by rw [if_neg (fun q => q.elim c1 (fun q => q c9))]; rfl⟩) w (by decide) dX0_off_17
    · refine lv_iconst (v := nI 1) hx hb dX0_off_12 (by decide) ?_
      refine lv_goto (tgt := 17) hx hb dX0_off_13 (by decide) ?_
      exact hend _ _ _ _ ((nI 1)) (n, g, k, f, d, b, cell, size, look, hL, hS) (⟨rfl, by rw [if_pos (Or.inr c9)]; rfl⟩) w (by decide) dX0_off_17
set_option maxHeartbeats 4000000 in
/-- mixed(old, mask, s) -/
theorem m_mixed (l : Launch) (n g k f d b : Nat) (cell : Nat → Int32) (size : Nat → Nat) (look hL hS : Nat → Int32) (o mask v : Int32) : XMi l yX0_mixed cX0_mixed 5 .int (st_rm 0 0) [.int o, .int mask, .int v] (n, g, k, f, d, b, cell, size, look, hL, hS) (fun r u => u = (n, g, k, f, d, b, cell, size, look, hL, hS) ∧ r = st_mix o (st_bits mask) v) := by
  intro D ad ca
  refine g_enter_i RX0 rfl (by decide +kernel) (Nat.le_of_ble_eq_true rfl) ?_
  intro p e s m below meth c A Q args ls C w hl hend
  have hx := C.1
  have hb := C.2.1
  have hl : lv_has ls 5 [(0, .ref (ad 0)), (1, .int o), (2, .int mask), (3, .int v)] := hl
  refine lv_iload_n hx hb dX0_mixed_0 rfl (lv_at hl 2 rfl) ?_
  refine lv_bipush (v := 7) hx hb dX0_mixed_1 (by decide) ?_
  refine lv_iand hx hb dX0_mixed_3 ?_
  refine lv_istore (lv' := [(4, .int (mask &&& 7)), (0, .ref (ad 0)), (1, .int o), (2, .int mask), (3, .int v)]) hx hb dX0_mixed_4 hl (by decide) rfl (fun ls hl => ?_)
  refine lv_iload_n hx hb dX0_mixed_6 rfl (lv_at hl 3 rfl) ?_
  refine lv_bipush (v := 8) hx hb dX0_mixed_7 (by decide) ?_
  refine lv_icmp_lt (tgt := 19) hx hb dX0_mixed_9 (by decide) (fun c9 => ?_) (fun c9 => ?_)
  · refine lv_iload_n hx hb dX0_mixed_19 rfl (lv_at hl 2 rfl) ?_
    refine lv_iload hx hb dX0_mixed_20 (lv_at hl 0 rfl) ?_
    refine lv_iconst (v := (-1)) hx hb dX0_mixed_22 (by decide) ?_
    refine lv_ixor hx hb dX0_mixed_23 ?_
    refine lv_iand hx hb dX0_mixed_24 ?_
    refine lv_iload_n hx hb dX0_mixed_25 rfl (lv_at hl 4 rfl) ?_
    refine lv_iload hx hb dX0_mixed_26 (lv_at hl 0 rfl) ?_
    refine lv_iand hx hb dX0_mixed_28 ?_
    refine lv_ior hx hb dX0_mixed_29 ?_
    exact hend _ _ _ _ (((o &&& ((mask &&& 7) ^^^ (-1))) ||| (v &&& (mask &&& 7)))) (n, g, k, f, d, b, cell, size, look, hL, hS) (⟨rfl, by rw [st_bits, if_pos c9]; rfl⟩) w rfl dX0_mixed_30
  · refine lv_iload hx hb dX0_mixed_12 (lv_at hl 0 rfl) ?_
    refine lv_bipush (v := 56) hx hb dX0_mixed_14 (by decide) ?_
    refine lv_ior hx hb dX0_mixed_16 ?_
    refine lv_istore (lv' := [(4, .int ((mask &&& 7) ||| 56)), (0, .ref (ad 0)), (1, .int o), (2, .int mask), (3, .int v)]) hx hb dX0_mixed_17 hl (by decide) rfl (fun ls hl => ?_)
    refine lv_iload_n hx hb dX0_mixed_19 rfl (lv_at hl 2 rfl) ?_
    refine lv_iload hx hb dX0_mixed_20 (lv_at hl 0 rfl) ?_
    refine lv_iconst (v := (-1)) hx hb dX0_mixed_22 (by decide) ?_
    refine lv_ixor hx hb dX0_mixed_23 ?_
    refine lv_iand hx hb dX0_mixed_24 ?_
    refine lv_iload_n hx hb dX0_mixed_25 rfl (lv_at hl 4 rfl) ?_
    refine lv_iload hx hb dX0_mixed_26 (lv_at hl 0 rfl) ?_
    refine lv_iand hx hb dX0_mixed_28 ?_
    refine lv_ior hx hb dX0_mixed_29 ?_
    exact hend _ _ _ _ (((o &&& (((mask &&& 7) ||| 56) ^^^ (-1))) ||| (v &&& ((mask &&& 7) ||| 56)))) (n, g, k, f, d, b, cell, size, look, hL, hS) (⟨rfl, by rw [st_bits, if_neg c9]; rfl⟩) w rfl dX0_mixed_30
set_option maxHeartbeats 4000000 in
/-- styleHere(p): the style at p -/
theorem m_styleHere (l : Launch) (n g k f d b : Nat) (cell : Nat → Int32) (size : Nat → Nat) (look hL hS : Nat → Int32) (q : Nat) (E : List Int32) (hE : st_XE k size look E) (hq : q < E.length) (hl0 : E.length ≤ 64) : XMi l yX0_styleHere cX0_styleHere 3 .int (st_rm 1 23) [.int (nI q)] (n, g, k, f, d, b, cell, size, look, hL, hS) (fun r u => ∃ b', u = (n, g, k, f, d, b', cell, size, look, hL, hS) ∧ E[q]? = some r) := by
  intro D ad ca
  refine g_enter_i RX0 rfl (by decide +kernel) (Nat.le_of_ble_eq_true rfl) ?_
  intro p e s m below meth c A Q args ls C w hl hend
  have hx := C.1
  have hb := C.2.1
  have hl : lv_has ls 3 [(0, .ref (ad 0)), (1, .int (nI q))] := hl
  have he := st_XE_len hE
  have hek := st_XE_k hE
  refine lv_aload_n hx hb dX0_styleHere_0 rfl (lv_at hl 0 rfl) ?_
  refine lv_iload_n hx hb dX0_styleHere_1 rfl (lv_at hl 1 rfl) ?_
  refine x_calli (n := 1) (As := [.int (nI q)]) (rest := []) C w (m_runAt l n g k f d b cell size look hL hS q (by omega) (by omega) (by omega)) q86 q88 qs2 q89 rfl (by decide +kernel) rfl ⟨rfl, rfl⟩ ⟨Nat.le_of_ble_eq_true rfl, Nat.le_of_ble_eq_true rfl⟩ ⟨Nat.le_refl _, Nat.le_refl _⟩ rfl hl.1 (Nat.le_of_ble_eq_true rfl) dX0_styleHere_2 (fun r u H locs hp w => ?_)
  obtain ⟨i, rfl, rfl, i0, i1, i2⟩ := hp
  refine lv_istore_n (lv' := [(2, .int (nI i)), (0, .ref (ad 0)), (1, .int (nI q))]) hx hb dX0_styleHere_5 rfl hl (by decide) rfl (fun ls hl => ?_)
  have hik : i < k := by rcases Nat.lt_or_ge i k with z | z; exact z; exfalso; rw [show i = k by omega] at i1; omega
  have i3 := i2 hik
  refine lv_aload_n hx hb dX0_styleHere_6 rfl (lv_at hl 1 rfl) ?_
  refine x_get C w 5 (v := .ref (ad 3)) q44 (by decide) rfl dX0_styleHere_7 ?_
  refine lv_iload_n hx hb dX0_styleHere_10 rfl (lv_at hl 0 rfl) ?_
  refine x_ld C w 2 (n := 68) (f := look) (i := i) rfl rfl (by omega) (by decide) dX0_styleHere_11 ?_
  exact hend _ _ _ _ ((look i)) (n, g, k, f, d, st_ps size i, cell, size, look, hL, hS) (⟨_, rfl, st_XE_at hE hik i1 i3⟩) w rfl dX0_styleHere_12
set_option maxHeartbeats 4000000 in
/-- insert(p, c, k, s) -/
theorem m_insert (l : Launch) (n g k f d b : Nat) (cell : Nat → Int32) (size : Nat → Nat) (look hL hS : Nat → Int32) (q : Nat) (c0 : Int32) (a : Nat) (v : Int32) (L E : List Int32) (hX : st_XL n g cell L) (hE : st_XE k size look E) (hLE : E.length = n) (hq : q ≤ n) (ha : n + a ≤ 64) (hf : f ≤ 64) : XMv l yX0_insert cX0_insert 6 (st_rm 3 70) [.int (nI q), .int c0, .int (nI a), .int v] (n, g, k, f, d, b, cell, size, look, hL, hS) (fun u => ∃ g' k' b' cell' size' look', u = (n + a, g', k', if q < f then f + a else f, d, b', cell', size', look', hL, hS) ∧ st_XL (n + a) g' cell' (st_ins L q (List.replicate a c0)) ∧ st_XE k' size' look' (st_ins E q (List.replicate a v))) := by
  intro D ad ca
  refine g_enter_v RX0 rfl (by decide +kernel) (Nat.le_of_ble_eq_true rfl) ?_
  intro p e s m below meth c A Q args ls C w hl hend
  have hx := C.1
  have hb := C.2.1
  have hl : lv_has ls 6 [(0, .ref (ad 0)), (1, .int (nI q)), (2, .int c0), (3, .int (nI a)), (4, .int v)] := hl
  have loop : ∀ (N : Nat) (t g1 : Nat) (cl : Nat → Int32), a - t < N → (t ≤ a) → (st_XL (n + t) g1 cl (st_ins L q (List.replicate t c0))) → ∀ (H : Heap) (locs : List Loc) (ls : Array Slot), wd D A s (xw ad ca (n + t, g1, k, f, d, b, cl, size, look, hL, hS)) (xt ca) H locs → lv_has ls 6 [(0, .ref (ad 0)), (1, .int (nI q)), (2, .int c0), (3, .int (nI a)), (4, .int v), (5, .int (nI t))] → W p l e (st_rm 3 70) s m args below meth c H locs 0 0 Q (F0 m 3 ls []) := by
    intro N
    induction N with
    | zero => intro t g1 cl hN; exact absurd hN (Nat.not_lt_zero _)
    | succ N ih =>
      intro t g1 cl hN h1 hX1 H locs ls w hl
      refine lv_iload hx hb dX0_insert_3 (lv_at hl 5 rfl) ?_
      refine lv_iload_n hx hb dX0_insert_5 rfl (lv_at hl 3 rfl) ?_
      refine n_icmp_ge (tgt := 21) hx hb dX0_insert_6 (by decide) (by omega) (by omega) (fun c6 => ?_) (fun c6 => ?_)
      · obtain rfl : a = t := by omega
        refine lv_aload_n hx hb dX0_insert_21 rfl (lv_at hl 0 rfl) ?_
        refine lv_iload_n hx hb dX0_insert_22 rfl (lv_at hl 1 rfl) ?_
        refine lv_iload_n hx hb dX0_insert_23 rfl (lv_at hl 3 rfl) ?_
        refine lv_iload hx hb dX0_insert_24 (lv_at hl 4 rfl) ?_
        refine x_callv (n := 3) (As := [.int (nI q), .int (nI a), .int v]) (rest := []) C w (m_putStyles l (n + a) g1 k f d b cl size look hL hS q a v E hE (by omega) (by omega)) q102 q104 qs6 q105 rfl (by decide +kernel) rfl ⟨rfl, rfl⟩ ⟨Nat.le_of_ble_eq_true rfl, Nat.le_of_ble_eq_true rfl⟩ ⟨Nat.le_refl _, Nat.le_refl _⟩ rfl hl.1 (Nat.le_of_ble_eq_true rfl) dX0_insert_26 (fun u H locs hp w => ?_)
        obtain ⟨k2, b2, sz2, lk2, rfl, hE2⟩ := hp
        refine lv_aload_n hx hb dX0_insert_29 rfl (lv_at hl 0 rfl) ?_
        refine lv_iload_n hx hb dX0_insert_30 rfl (lv_at hl 1 rfl) ?_
        refine lv_iload_n hx hb dX0_insert_31 rfl (lv_at hl 3 rfl) ?_
        refine x_callv (n := 2) (As := [.int (nI q), .int (nI a)]) (rest := []) C w (m_moveFlag l (n + a) g1 k2 f d b2 cl sz2 lk2 hL hS q a (by omega) (by omega)) q122 q124 qs11 q125 rfl (by decide +kernel) rfl ⟨rfl, rfl⟩ ⟨Nat.le_of_ble_eq_true rfl, Nat.le_of_ble_eq_true rfl⟩ ⟨Nat.le_refl _, Nat.le_refl _⟩ rfl hl.1 (Nat.le_of_ble_eq_true rfl) dX0_insert_32 (fun u H locs hp w => ?_)
        subst hp
        exact hend _ _ _ _ (n + a, g1, k2, if q < f then f + a else f, d, b2, cl, sz2, lk2, hL, hS) (⟨_, _, _, _, _, _, rfl, hX1, hE2⟩) w dX0_insert_35
      · refine lv_aload_n hx hb dX0_insert_9 rfl (lv_at hl 0 rfl) ?_
        refine lv_iload_n hx hb dX0_insert_10 rfl (lv_at hl 1 rfl) ?_
        refine lv_iload_n hx hb dX0_insert_11 rfl (lv_at hl 2 rfl) ?_
        refine x_callv (n := 2) (As := [.int (nI q), .int c0]) (rest := []) C w (m_putLetter l (n + t) g1 k f d b cl size look hL hS q c0 (st_ins L q (List.replicate t c0)) hX1 (by omega) (by omega)) q94 q96 qs4 q97 rfl (by decide +kernel) rfl ⟨rfl, rfl⟩ ⟨Nat.le_of_ble_eq_true rfl, Nat.le_of_ble_eq_true rfl⟩ ⟨Nat.le_refl _, Nat.le_refl _⟩ rfl hl.1 (Nat.le_of_ble_eq_true rfl) dX0_insert_12 (fun u H locs hp w => ?_)
        obtain ⟨cl1, rfl, hX2⟩ := hp
        refine lv_iinc (v := (nI (t + 1))) (lv' := [(5, .int (nI (t + 1))), (0, .ref (ad 0)), (1, .int (nI q)), (2, .int c0), (3, .int (nI a)), (4, .int v)]) hx hb dX0_insert_15 hl (k := 5) rfl (n_inc _) (by decide) rfl (fun ls hl => ?_)
        refine lv_goto (tgt := 3) hx hb dX0_insert_18 (by decide) ?_
        exact ih (t + 1) _ _ (by omega) (by omega) (by rw [st_ins_a (by rw [hX.1]; exact hq)] at hX2; exact hX2) _ _ _ w (lv_sub hl [1, 2, 3, 4, 5, 0] rfl)
  refine lv_iconst (v := nI 0) hx hb dX0_insert_0 (by decide) ?_
  refine lv_istore (lv' := [(5, .int (nI 0)), (0, .ref (ad 0)), (1, .int (nI q)), (2, .int c0), (3, .int (nI a)), (4, .int v)]) hx hb dX0_insert_1 hl (by decide) rfl (fun ls hl => ?_)
  exact loop (a + 1) 0 _ _ (by omega) (Nat.zero_le _) (by show st_XL n g cell (st_ins L q []); rw [st_ins_nil]; exact hX) _ _ _ w (lv_sub hl [1, 2, 3, 4, 5, 0] rfl)
set_option maxHeartbeats 4000000 in
/-- delete(i, j) -/
theorem m_delete (l : Launch) (n g k f d b : Nat) (cell : Nat → Int32) (size : Nat → Nat) (look hL hS : Nat → Int32) (i j : Nat) (L E : List Int32) (hX : st_XL n g cell L) (hE : st_XE k size look E) (hLE : E.length = n) (hij : i ≤ j) (hj : j ≤ n) (hf : f ≤ 64) : XMv l yX0_delete cX0_delete 3 (st_rm 3 71) [.int (nI i), .int (nI j)] (n, g, k, f, d, b, cell, size, look, hL, hS) (fun u => ∃ g' k' b' cell' size' look', u = (n - (j - i), g', k', st_dfl f i j, d, b', cell', size', look', hL, hS) ∧ st_XL (n - (j - i)) g' cell' (st_del L i j) ∧ st_XE k' size' look' (st_del E i j)) := by
  intro D ad ca
  refine g_enter_v RX0 rfl (by decide +kernel) (Nat.le_of_ble_eq_true rfl) ?_
  intro p e s m below meth c A Q args ls C w hl hend
  have hx := C.1
  have hb := C.2.1
  have hl : lv_has ls 3 [(0, .ref (ad 0)), (1, .int (nI i)), (2, .int (nI j))] := hl
  have hn := hX.2.1
  refine lv_aload_n hx hb dX0_delete_0 rfl (lv_at hl 0 rfl) ?_
  refine lv_iload_n hx hb dX0_delete_1 rfl (lv_at hl 1 rfl) ?_
  refine lv_iload_n hx hb dX0_delete_2 rfl (lv_at hl 2 rfl) ?_
  refine x_callv (n := 2) (As := [.int (nI i), .int (nI j)]) (rest := []) C w (m_dropLetters l n g k f d b cell size look hL hS i j L hX hij hj) q142 q144 qs14 q145 rfl (by decide +kernel) rfl ⟨rfl, rfl⟩ ⟨Nat.le_of_ble_eq_true rfl, Nat.le_of_ble_eq_true rfl⟩ ⟨Nat.le_refl _, Nat.le_refl _⟩ rfl hl.1 (Nat.le_of_ble_eq_true rfl) dX0_delete_3 (fun u H locs hp w => ?_)
  obtain ⟨cl, rfl, hX2⟩ := hp
  refine lv_aload_n hx hb dX0_delete_6 rfl (lv_at hl 0 rfl) ?_
  refine lv_iload_n hx hb dX0_delete_7 rfl (lv_at hl 1 rfl) ?_
  refine lv_iload_n hx hb dX0_delete_8 rfl (lv_at hl 2 rfl) ?_
  refine x_callv (n := 2) (As := [.int (nI i), .int (nI j)]) (rest := []) C w (m_dropStyles l (n - (j - i)) i k f d b cl size look hL hS i j E hE hij (by omega) (by omega)) q146 q148 qs15 q149 rfl (by decide +kernel) rfl ⟨rfl, rfl⟩ ⟨Nat.le_of_ble_eq_true rfl, Nat.le_of_ble_eq_true rfl⟩ ⟨Nat.le_refl _, Nat.le_refl _⟩ rfl hl.1 (Nat.le_of_ble_eq_true rfl) dX0_delete_9 (fun u H locs hp w => ?_)
  obtain ⟨k2, b2, sz2, lk2, rfl, hE2⟩ := hp
  refine lv_aload_n hx hb dX0_delete_12 rfl (lv_at hl 0 rfl) ?_
  refine x_get C w 6 (v := .int (nI f)) q45 (by decide) rfl dX0_delete_13 ?_
  refine lv_iload_n hx hb dX0_delete_16 rfl (lv_at hl 2 rfl) ?_
  refine n_icmp_lt (tgt := 35) hx hb dX0_delete_17 (by decide) (by omega) (by omega) (fun c17 => ?_) (fun c17 => ?_)
  · refine lv_aload_n hx hb dX0_delete_35 rfl (lv_at hl 0 rfl) ?_
    refine x_get C w 6 (v := .int (nI f)) q45 (by decide) rfl dX0_delete_36 ?_
    refine lv_iload_n hx hb dX0_delete_39 rfl (lv_at hl 1 rfl) ?_
    refine n_icmp_le (tgt := 48) hx hb dX0_delete_40 (by decide) (by omega) (by omega) (fun c40 => ?_) (fun c40 => ?_)
    · exact hend _ _ _ _ (n - (j - i), i, k2, f, d, b2, cl, sz2, lk2, hL, hS) (⟨_, _, _, _, _, _, by rw [st_dfl, if_neg (Nat.not_le.mpr c17), if_neg (Nat.not_lt.mpr c40)], hX2, hE2⟩) w dX0_delete_48
    · refine lv_aload_n hx hb dX0_delete_43 rfl (lv_at hl 0 rfl) ?_
      refine lv_iload_n hx hb dX0_delete_44 rfl (lv_at hl 1 rfl) ?_
      refine x_put C w 6 (n - (j - i), i, k2, i, d, b2, cl, sz2, lk2, hL, hS) q45 (by decide) rfl rfl rfl dX0_delete_45 (fun H locs w => ?_)
      exact hend _ _ _ _ (n - (j - i), i, k2, i, d, b2, cl, sz2, lk2, hL, hS) (⟨_, _, _, _, _, _, by rw [st_dfl, if_neg (Nat.not_le.mpr c17), if_pos c40], hX2, hE2⟩) w dX0_delete_48
  · refine lv_aload_n hx hb dX0_delete_20 rfl (lv_at hl 0 rfl) ?_
    refine lv_aload_n hx hb dX0_delete_21 rfl (lv_at hl 0 rfl) ?_
    refine x_get C w 6 (v := .int (nI f)) q45 (by decide) rfl dX0_delete_22 ?_
    refine lv_iload_n hx hb dX0_delete_25 rfl (lv_at hl 2 rfl) ?_
    refine lv_iload_n hx hb dX0_delete_26 rfl (lv_at hl 1 rfl) ?_
    refine n_isub hx hb (by omega) dX0_delete_27 ?_
    refine n_isub hx hb (by omega) dX0_delete_28 ?_
    refine x_put C w 6 (n - (j - i), i, k2, f - (j - i), d, b2, cl, sz2, lk2, hL, hS) q45 (by decide) rfl rfl rfl dX0_delete_29 (fun H locs w => ?_)
    refine lv_goto (tgt := 48) hx hb dX0_delete_32 (by decide) ?_
    exact hend _ _ _ _ (n - (j - i), i, k2, f - (j - i), d, b2, cl, sz2, lk2, hL, hS) (⟨_, _, _, _, _, _, by rw [st_dfl, if_pos c17], hX2, hE2⟩) w dX0_delete_48
set_option maxHeartbeats 4000000 in
/-- hold(i, j) -/
theorem m_hold (l : Launch) (n g k f d b : Nat) (cell : Nat → Int32) (size : Nat → Nat) (look hL hS : Nat → Int32) (i j : Nat) (L E : List Int32) (hX : st_XL n g cell L) (hE : st_XE k size look E) (hLE : E.length = n) (hij : i ≤ j) (hj : j ≤ n) : XMv l yX0_hold cX0_hold 6 (st_rm 1 23) [.int (nI i), .int (nI j)] (n, g, k, f, d, b, cell, size, look, hL, hS) (fun u => ∃ b' hL' hS', u = (n, g, k, f, j - i, b', cell, size, look, hL', hS') ∧ (∀ x, x < j - i → L[i + x]? = some (hL' x)) ∧ (∀ x, x < j - i → E[i + x]? = some (hS' x))) := by
  intro D ad ca
  refine g_enter_v RX0 rfl (by decide +kernel) (Nat.le_of_ble_eq_true rfl) ?_
  intro p e s m below meth c A Q args ls C w hl hend
  have hx := C.1
  have hb := C.2.1
  have hl : lv_has ls 6 [(0, .ref (ad 0)), (1, .int (nI i)), (2, .int (nI j))] := hl
  have hn := hX.2.1
  have hg := hX.2.2.1
  have he := st_XE_len hE
  have hek := st_XE_k hE
  have hpos := st_Pos_rl (st_XE_pos hE)
  have loop : ∀ (N : Nat) (t r en b1 : Nat) (h1 h2 : Nat → Int32), j - i - t < N → (t ≤ j - i) → (r ≤ 64) → (en ≤ 64) → (i < j → r < k ∧ st_ps size r ≤ i + t ∧ i + t ≤ st_ps size r + size r ∧ en = st_ps size r + size r) → (∀ x, x < t → L[i + x]? = some (h1 x)) → (∀ x, x < t → E[i + x]? = some (h2 x)) → ∀ (H : Heap) (locs : List Loc) (ls : Array Slot), wd D A s (xw ad ca (n, g, k, f, j - i, b1, cell, size, look, h1, h2)) (xt ca) H locs → lv_has ls 6 [(0, .ref (ad 0)), (1, .int (nI i)), (2, .int (nI j)), (3, .int (nI r)), (4, .int (nI en)), (5, .int (nI t))] → W p l e (st_rm 1 23) s m args below meth c H locs 0 0 Q (F0 m 41 ls []) := by
    intro N
    induction N with
    | zero => intro t r en b1 h1 h2 hN; exact absurd hN (Nat.not_lt_zero _)
    | succ N ih =>
      intro t r en b1 h1 h2 hN ht hr hen hin hI1 hI2 H locs ls w hl
      refine lv_iload hx hb dX0_hold_41 (lv_at hl 5 rfl) ?_
      refine lv_aload_n hx hb dX0_hold_43 rfl (lv_at hl 0 rfl) ?_
      refine x_get C w 7 (v := .int (nI (j - i))) q46 (by decide) rfl dX0_hold_44 ?_
      refine n_icmp_ge (tgt := 122) hx hb dX0_hold_47 (by decide) (by omega) (by omega) (fun c47 => ?_) (fun c47 => ?_)
      · exact hend _ _ _ _ (n, g, k, f, j - i, b1, cell, size, look, h1, h2) (⟨_, _, _, rfl, fun x hx => hI1 x (by omega), fun x hx => hI2 x (by omega)⟩) w dX0_hold_122
      · obtain ⟨g1, g2, g3, g4⟩ := hin (by omega)
        have hm := st_ps_le size (show r + 1 ≤ k by omega)
        have hm1 := st_ps_s size r
        refine lv_iload_n hx hb dX0_hold_50 rfl (lv_at hl 1 rfl) ?_
        refine lv_iload hx hb dX0_hold_51 (lv_at hl 5 rfl) ?_
        refine n_iadd hx hb dX0_hold_53 ?_
        refine lv_iload hx hb dX0_hold_54 (lv_at hl 4 rfl) ?_
        refine n_icmp_lt (tgt := 83) hx hb dX0_hold_56 (by decide) (by omega) (by omega) (fun c56 => ?_) (fun c56 => ?_)
        · refine lv_aload_n hx hb dX0_hold_83 rfl (lv_at hl 0 rfl) ?_
          refine x_get C w 8 (v := .ref (ad 4)) q47 (by decide) rfl dX0_hold_84 ?_
          refine lv_iload hx hb dX0_hold_87 (lv_at hl 5 rfl) ?_
          refine lv_aload_n hx hb dX0_hold_89 rfl (lv_at hl 0 rfl) ?_
          refine x_get C w 2 (v := .ref (ad 1)) q41 (by decide) rfl dX0_hold_90 ?_
          refine lv_aload_n hx hb dX0_hold_93 rfl (lv_at hl 0 rfl) ?_
          refine lv_iload_n hx hb dX0_hold_94 rfl (lv_at hl 1 rfl) ?_
          refine lv_iload hx hb dX0_hold_95 (lv_at hl 5 rfl) ?_
          refine n_iadd hx hb dX0_hold_97 ?_
          refine x_calli (n := 1) (As := [.int (nI (i + t))]) (rest := [.ref (ad 1), .int (nI t), .ref (ad 4)]) C w (m_cellOf l n g k f (j - i) b1 cell size look h1 h2 (i + t) (by omega) (by omega) (by omega)) q158 q160 qs17 q161 rfl (by decide +kernel) rfl ⟨rfl, rfl⟩ ⟨Nat.le_of_ble_eq_true rfl, Nat.le_of_ble_eq_true rfl⟩ ⟨Nat.le_refl _, Nat.le_refl _⟩ rfl hl.1 (Nat.le_of_ble_eq_true rfl) dX0_hold_98 (fun r u H locs hp w => ?_)
          obtain ⟨rfl, rfl⟩ := hp
          refine x_ld C w 0 (n := 64) (f := cell) (i := st_ci n g (i + t)) rfl rfl (st_ci_lt (by omega) (by omega) (by omega)) (by decide) dX0_hold_101 ?_
          refine x_st C w 3 (n := 64) (f := h1) (i := t) (n, g, k, f, j - i, b1, cell, size, look, upd h1 t (cell (st_ci n g (i + t))), h2) rfl rfl (by omega) (by decide) rfl dX0_hold_102 (fun H locs w => ?_)
          refine lv_aload_n hx hb dX0_hold_103 rfl (lv_at hl 0 rfl) ?_
          refine x_get C w 9 (v := .ref (ad 5)) q48 (by decide) rfl dX0_hold_104 ?_
          refine lv_iload hx hb dX0_hold_107 (lv_at hl 5 rfl) ?_
          refine lv_aload_n hx hb dX0_hold_109 rfl (lv_at hl 0 rfl) ?_
          refine x_get C w 5 (v := .ref (ad 3)) q44 (by decide) rfl dX0_hold_110 ?_
          refine lv_iload_n hx hb dX0_hold_113 rfl (lv_at hl 3 rfl) ?_
          refine x_ld C w 2 (n := 68) (f := look) (i := r) rfl rfl (by omega) (by decide) dX0_hold_114 ?_
          refine x_st C w 4 (n := 64) (f := h2) (i := t) (n, g, k, f, j - i, b1, cell, size, look, upd h1 t (cell (st_ci n g (i + t))), upd h2 t (look r)) rfl rfl (by omega) (by decide) rfl dX0_hold_115 (fun H locs w => ?_)
          refine lv_iinc (v := (nI (t + 1))) (lv' := [(5, .int (nI (t + 1))), (0, .ref (ad 0)), (1, .int (nI i)), (2, .int (nI j)), (3, .int (nI r)), (4, .int (nI en))]) hx hb dX0_hold_116 hl (k := 5) rfl (n_inc _) (by decide) rfl (fun ls hl => ?_)
          refine lv_goto (tgt := 41) hx hb dX0_hold_119 (by decide) ?_
          exact ih (t + 1) _ _ _ _ _ (by omega) (by omega) (by omega) (by omega) (fun _ => ⟨g1, by omega, by omega, by omega⟩) (st_hold_s hI1 (hX.2.2.2 (i + t) (by omega))) (st_hold_s hI2 (st_XE_at hE g1 (by omega) (by omega))) _ _ _ w (lv_sub hl [1, 2, 3, 4, 5, 0] rfl)
        · refine lv_iload_n hx hb dX0_hold_59 rfl (lv_at hl 3 rfl) ?_
          refine lv_iconst (v := nI 1) hx hb dX0_hold_60 (by decide) ?_
          refine n_iadd hx hb dX0_hold_61 ?_
          refine lv_aload_n hx hb dX0_hold_62 rfl (lv_at hl 0 rfl) ?_
          refine x_get C w 3 (v := .int (nI k)) q42 (by decide) rfl dX0_hold_63 ?_
          refine n_icmp_ge (tgt := 83) hx hb dX0_hold_66 (by decide) (by omega) (by omega) (fun c66 => ?_) (fun c66 => ?_)
          · exfalso; rw [show k = r + 1 by omega] at he; omega
          · have hm2 := st_ps_le size (show r + 1 + 1 ≤ k by omega)
            have hm3 := st_ps_s size (r + 1)
            have hp2 := hpos (r + 1) c66
            refine lv_iinc (v := (nI (r + 1))) (lv' := [(3, .int (nI (r + 1))), (0, .ref (ad 0)), (1, .int (nI i)), (2, .int (nI j)), (4, .int (nI en)), (5, .int (nI t))]) hx hb dX0_hold_69 hl (k := 3) rfl (n_inc _) (by decide) rfl (fun ls hl => ?_)
            refine lv_iload hx hb dX0_hold_72 (lv_at hl 4 rfl) ?_
            refine lv_aload_n hx hb dX0_hold_74 rfl (lv_at hl 1 rfl) ?_
            refine x_get C w 4 (v := .ref (ad 2)) q43 (by decide) rfl dX0_hold_75 ?_
            refine lv_iload_n hx hb dX0_hold_78 rfl (lv_at hl 0 rfl) ?_
            refine x_ld C w 1 (n := 68) (f := fun j => nI (size j)) (i := r + 1) rfl rfl (by omega) (by decide) dX0_hold_79 ?_
            refine n_iadd hx hb dX0_hold_80 ?_
            refine lv_istore (lv' := [(4, .int (nI (en + (size (r + 1))))), (3, .int (nI (r + 1))), (0, .ref (ad 0)), (1, .int (nI i)), (2, .int (nI j)), (5, .int (nI t))]) hx hb dX0_hold_81 hl (by decide) rfl (fun ls hl => ?_)
            refine lv_aload_n hx hb dX0_hold_83 rfl (lv_at hl 2 rfl) ?_
            refine x_get C w 8 (v := .ref (ad 4)) q47 (by decide) rfl dX0_hold_84 ?_
            refine lv_iload hx hb dX0_hold_87 (lv_at hl 5 rfl) ?_
            refine lv_aload_n hx hb dX0_hold_89 rfl (lv_at hl 2 rfl) ?_
            refine x_get C w 2 (v := .ref (ad 1)) q41 (by decide) rfl dX0_hold_90 ?_
            refine lv_aload_n hx hb dX0_hold_93 rfl (lv_at hl 2 rfl) ?_
            refine lv_iload_n hx hb dX0_hold_94 rfl (lv_at hl 3 rfl) ?_
            refine lv_iload hx hb dX0_hold_95 (lv_at hl 5 rfl) ?_
            refine n_iadd hx hb dX0_hold_97 ?_
            refine x_calli (n := 1) (As := [.int (nI (i + t))]) (rest := [.ref (ad 1), .int (nI t), .ref (ad 4)]) C w (m_cellOf l n g k f (j - i) b1 cell size look h1 h2 (i + t) (by omega) (by omega) (by omega)) q158 q160 qs17 q161 rfl (by decide +kernel) rfl ⟨rfl, rfl⟩ ⟨Nat.le_of_ble_eq_true rfl, Nat.le_of_ble_eq_true rfl⟩ ⟨Nat.le_refl _, Nat.le_refl _⟩ rfl hl.1 (Nat.le_of_ble_eq_true rfl) dX0_hold_98 (fun r u H locs hp w => ?_)
            obtain ⟨rfl, rfl⟩ := hp
            refine x_ld C w 0 (n := 64) (f := cell) (i := st_ci n g (i + t)) rfl rfl (st_ci_lt (by omega) (by omega) (by omega)) (by decide) dX0_hold_101 ?_
            refine x_st C w 3 (n := 64) (f := h1) (i := t) (n, g, k, f, j - i, b1, cell, size, look, upd h1 t (cell (st_ci n g (i + t))), h2) rfl rfl (by omega) (by decide) rfl dX0_hold_102 (fun H locs w => ?_)
            refine lv_aload_n hx hb dX0_hold_103 rfl (lv_at hl 2 rfl) ?_
            refine x_get C w 9 (v := .ref (ad 5)) q48 (by decide) rfl dX0_hold_104 ?_
            refine lv_iload hx hb dX0_hold_107 (lv_at hl 5 rfl) ?_
            refine lv_aload_n hx hb dX0_hold_109 rfl (lv_at hl 2 rfl) ?_
            refine x_get C w 5 (v := .ref (ad 3)) q44 (by decide) rfl dX0_hold_110 ?_
            refine lv_iload_n hx hb dX0_hold_113 rfl (lv_at hl 1 rfl) ?_
            refine x_ld C w 2 (n := 68) (f := look) (i := r + 1) rfl rfl (by omega) (by decide) dX0_hold_114 ?_
            refine x_st C w 4 (n := 64) (f := h2) (i := t) (n, g, k, f, j - i, b1, cell, size, look, upd h1 t (cell (st_ci n g (i + t))), upd h2 t (look (r + 1))) rfl rfl (by omega) (by decide) rfl dX0_hold_115 (fun H locs w => ?_)
            refine lv_iinc (v := (nI (t + 1))) (lv' := [(5, .int (nI (t + 1))), (4, .int (nI (en + (size (r + 1))))), (3, .int (nI (r + 1))), (0, .ref (ad 0)), (1, .int (nI i)), (2, .int (nI j))]) hx hb dX0_hold_116 hl (k := 5) rfl (n_inc _) (by decide) rfl (fun ls hl => ?_)
            refine lv_goto (tgt := 41) hx hb dX0_hold_119 (by decide) ?_
            exact ih (t + 1) _ _ _ _ _ (by omega) (by omega) (by omega) (by omega) (fun _ => ⟨c66, by omega, by omega, by omega⟩) (st_hold_s hI1 (hX.2.2.2 (i + t) (by omega))) (st_hold_s hI2 (st_XE_at hE c66 (by omega) (by omega))) _ _ _ w (lv_sub hl [3, 4, 5, 2, 1, 0] rfl)
  refine lv_aload_n hx hb dX0_hold_0 rfl (lv_at hl 0 rfl) ?_
  refine lv_iload_n hx hb dX0_hold_1 rfl (lv_at hl 2 rfl) ?_
  refine lv_iload_n hx hb dX0_hold_2 rfl (lv_at hl 1 rfl) ?_
  refine n_isub hx hb (by omega) dX0_hold_3 ?_
  refine x_put C w 7 (n, g, k, f, j - i, b, cell, size, look, hL, hS) q46 (by decide) rfl rfl rfl dX0_hold_4 (fun H locs w => ?_)
  refine lv_aload_n hx hb dX0_hold_7 rfl (lv_at hl 0 rfl) ?_
  refine lv_iload_n hx hb dX0_hold_8 rfl (lv_at hl 1 rfl) ?_
  refine x_calli (n := 1) (As := [.int (nI i)]) (rest := []) C w (m_runAt l n g k f (j - i) b cell size look hL hS i (by omega) (by omega) (by omega)) q86 q88 qs2 q89 rfl (by decide +kernel) rfl ⟨rfl, rfl⟩ ⟨Nat.le_of_ble_eq_true rfl, Nat.le_of_ble_eq_true rfl⟩ ⟨Nat.le_refl _, Nat.le_refl _⟩ rfl hl.1 (Nat.le_of_ble_eq_true rfl) dX0_hold_9 (fun r u H locs hp w => ?_)
  obtain ⟨r, rfl, rfl, i0, i1, i2⟩ := hp
  refine lv_istore_n (lv' := [(3, .int (nI r)), (0, .ref (ad 0)), (1, .int (nI i)), (2, .int (nI j))]) hx hb dX0_hold_12 rfl hl (by decide) rfl (fun ls hl => ?_)
  refine lv_aload_n hx hb dX0_hold_13 rfl (lv_at hl 1 rfl) ?_
  refine x_get C w 10 (v := .int (nI (st_ps size r))) q49 (by decide) rfl dX0_hold_14 ?_
  refine lv_iload_n hx hb dX0_hold_17 rfl (lv_at hl 0 rfl) ?_
  refine lv_aload_n hx hb dX0_hold_18 rfl (lv_at hl 1 rfl) ?_
  refine x_get C w 3 (v := .int (nI k)) q42 (by decide) rfl dX0_hold_19 ?_
  refine n_icmp_ge (tgt := 34) hx hb dX0_hold_22 (by decide) (by omega) (by omega) (fun c22 => ?_) (fun c22 => ?_)
  · refine lv_iconst (v := nI 0) hx hb dX0_hold_34 (by decide) ?_
    refine n_iadd hx hb dX0_hold_35 ?_
    refine lv_istore (lv' := [(4, .int (nI ((st_ps size r) + 0))), (3, .int (nI r)), (0, .ref (ad 0)), (1, .int (nI i)), (2, .int (nI j))]) hx hb dX0_hold_36 hl (by decide) rfl (fun ls hl => ?_)
    refine lv_iconst (v := nI 0) hx hb dX0_hold_38 (by decide) ?_
    refine lv_istore (lv' := [(5, .int (nI 0)), (4, .int (nI ((st_ps size r) + 0))), (3, .int (nI r)), (0, .ref (ad 0)), (1, .int (nI i)), (2, .int (nI j))]) hx hb dX0_hold_39 hl (by decide) rfl (fun ls hl => ?_)
    have hrk : r = k := by omega
    exact loop (j - i + 1) 0 r _ _ _ _ (by omega) (Nat.zero_le _) (by omega) (by omega) (fun z => by exfalso; rw [hrk] at i1; omega) (fun x hx => absurd hx (Nat.not_lt_zero _)) (fun x hx => absurd hx (Nat.not_lt_zero _)) _ _ _ w (lv_sub hl [3, 4, 5, 2, 1, 0] rfl)
  · have i3 := i2 c22
    have hm := st_ps_le size (show r + 1 ≤ k by omega)
    have hm1 := st_ps_s size r
    refine lv_aload_n hx hb dX0_hold_25 rfl (lv_at hl 1 rfl) ?_
    refine x_get C w 4 (v := .ref (ad 2)) q43 (by decide) rfl dX0_hold_26 ?_
    refine lv_iload_n hx hb dX0_hold_29 rfl (lv_at hl 0 rfl) ?_
    refine x_ld C w 1 (n := 68) (f := fun j => nI (size j)) (i := r) rfl rfl (by omega) (by decide) dX0_hold_30 ?_
    refine lv_goto (tgt := 35) hx hb dX0_hold_31 (by decide) ?_
    refine n_iadd hx hb dX0_hold_35 ?_
    refine lv_istore (lv' := [(4, .int (nI ((st_ps size r) + (size r)))), (3, .int (nI r)), (0, .ref (ad 0)), (1, .int (nI i)), (2, .int (nI j))]) hx hb dX0_hold_36 hl (by decide) rfl (fun ls hl => ?_)
    refine lv_iconst (v := nI 0) hx hb dX0_hold_38 (by decide) ?_
    refine lv_istore (lv' := [(5, .int (nI 0)), (4, .int (nI ((st_ps size r) + (size r)))), (3, .int (nI r)), (0, .ref (ad 0)), (1, .int (nI i)), (2, .int (nI j))]) hx hb dX0_hold_39 hl (by decide) rfl (fun ls hl => ?_)
    exact loop (j - i + 1) 0 r _ _ _ _ (by omega) (Nat.zero_le _) (by omega) (by omega) (fun _ => ⟨c22, by omega, by omega, rfl⟩) (fun x hx => absurd hx (Nat.not_lt_zero _)) (fun x hx => absurd hx (Nat.not_lt_zero _)) _ _ _ w (lv_sub hl [3, 4, 5, 2, 1, 0] rfl)
set_option maxHeartbeats 4000000 in
/-- giveBack(p) -/
theorem m_giveBack (l : Launch) (n g k f d b : Nat) (cell : Nat → Int32) (size : Nat → Nat) (look hL hS : Nat → Int32) (q : Nat) (L E HL HS : List Int32) (hX : st_XL n g cell L) (hE : st_XE k size look E) (hLE : E.length = n) (hq : q ≤ n) (hd : n + d ≤ 64) (hf : f ≤ 64) (h1 : HL.length = d) (h2 : HS.length = d) (h3 : ∀ x, x < d → HL[x]? = some (hL x)) (h4 : ∀ x, x < d → HS[x]? = some (hS x)) : XMv l yX0_giveBack cX0_giveBack 4 (st_rm 3 70) [.int (nI q)] (n, g, k, f, d, b, cell, size, look, hL, hS) (fun u => ∃ g' k' b' cell' size' look', u = (n + d, g', k', if q < f then f + d else f, d, b', cell', size', look', hL, hS) ∧ st_XL (n + d) g' cell' (st_ins L q HL) ∧ st_XE k' size' look' (st_ins E q HS)) := by
  intro D ad ca
  refine g_enter_v RX0 rfl (by decide +kernel) (Nat.le_of_ble_eq_true rfl) ?_
  intro p e s m below meth c A Q args ls C w hl hend
  have hx := C.1
  have hb := C.2.1
  have hl : lv_has ls 4 [(0, .ref (ad 0)), (1, .int (nI q))] := hl
  have loop2 : ∀ (N : Nat) (a x g1 k1 b1 : Nat) (cl : Nat → Int32) (sz : Nat → Nat) (lk : Nat → Int32), d + 1 - x < N → (a < x ∧ x ≤ d ∨ x = d + 1 ∧ a = d) → (st_XL (n + d) g1 cl (st_ins L q HL)) → (st_XE k1 sz lk (st_ins E q (HS.take a))) → (∀ y, a ≤ y → y < x → y < d → HS[y]? = some (hS a)) → ∀ (H : Heap) (locs : List Loc) (ls : Array Slot), wd D A s (xw ad ca (n + d, g1, k1, f, d, b1, cl, sz, lk, hL, hS)) (xt ca) H locs → lv_has ls 4 [(0, .ref (ad 0)), (1, .int (nI q)), (2, .int (nI a)), (3, .int (nI x))] → W p l e (st_rm 3 70) s m args below meth c H locs 0 0 Q (F0 m 33 ls []) := by
    intro N
    induction N with
    | zero => intro a x g1 k1 b1 cl sz lk hN; exact absurd hN (Nat.not_lt_zero _)
    | succ N ih =>
      intro a x g1 k1 b1 cl sz lk hN hax hX1 hE1 hsame H locs ls w hl
      refine lv_iload_n hx hb dX0_giveBack_33 rfl (lv_at hl 3 rfl) ?_
      refine lv_aload_n hx hb dX0_giveBack_34 rfl (lv_at hl 0 rfl) ?_
      refine x_get C w 7 (v := .int (nI d)) q46 (by decide) rfl dX0_giveBack_35 ?_
      refine n_icmp_gt (tgt := 88) hx hb dX0_giveBack_38 (by decide) (by omega) (by omega) (fun c38 => ?_) (fun c38 => ?_)
      · refine lv_aload_n hx hb dX0_giveBack_88 rfl (lv_at hl 0 rfl) ?_
        refine lv_iload_n hx hb dX0_giveBack_89 rfl (lv_at hl 1 rfl) ?_
        refine lv_aload_n hx hb dX0_giveBack_90 rfl (lv_at hl 0 rfl) ?_
        refine x_get C w 7 (v := .int (nI d)) q46 (by decide) rfl dX0_giveBack_91 ?_
        refine x_callv (n := 2) (As := [.int (nI q), .int (nI d)]) (rest := []) C w (m_moveFlag l (n + d) g1 k1 f d b1 cl sz lk hL hS q d (by omega) (by omega)) q122 q124 qs11 q125 rfl (by decide +kernel) rfl ⟨rfl, rfl⟩ ⟨Nat.le_of_ble_eq_true rfl, Nat.le_of_ble_eq_true rfl⟩ ⟨Nat.le_refl _, Nat.le_refl _⟩ rfl hl.1 (Nat.le_of_ble_eq_true rfl) dX0_giveBack_94 (fun u H locs hp w => ?_)
        subst hp
        exact hend _ _ _ _ (n + d, g1, k1, if q < f then f + d else f, d, b1, cl, sz, lk, hL, hS) (⟨_, _, _, _, _, _, rfl, hX1, by rw [show a = d by omega, ← h2, List.take_length] at hE1; exact hE1⟩) w dX0_giveBack_97
      · have hlen : (st_ins E q (HS.take a)).length = n + a := by rw [st_ins_len (by omega), List.length_take]; omega
        refine lv_iload_n hx hb dX0_giveBack_41 rfl (lv_at hl 3 rfl) ?_
        refine lv_aload_n hx hb dX0_giveBack_42 rfl (lv_at hl 0 rfl) ?_
        refine x_get C w 7 (v := .int (nI d)) q46 (by decide) rfl dX0_giveBack_43 ?_
        refine n_icmp_eq (tgt := 64) hx hb dX0_giveBack_46 (by decide) (by omega) (by omega) (fun c46 => ?_) (fun c46 => ?_)
        · refine lv_aload_n hx hb dX0_giveBack_64 rfl (lv_at hl 0 rfl) ?_
          refine lv_iload_n hx hb dX0_giveBack_65 rfl (lv_at hl 1 rfl) ?_
          refine lv_iload_n hx hb dX0_giveBack_66 rfl (lv_at hl 2 rfl) ?_
          refine n_iadd hx hb dX0_giveBack_67 ?_
          refine lv_iload_n hx hb dX0_giveBack_68 rfl (lv_at hl 3 rfl) ?_
          refine lv_iload_n hx hb dX0_giveBack_69 rfl (lv_at hl 2 rfl) ?_
          refine n_isub hx hb (by omega) dX0_giveBack_70 ?_
          refine lv_aload_n hx hb dX0_giveBack_71 rfl (lv_at hl 0 rfl) ?_
          refine x_get C w 9 (v := .ref (ad 5)) q48 (by decide) rfl dX0_giveBack_72 ?_
          refine lv_iload_n hx hb dX0_giveBack_75 rfl (lv_at hl 2 rfl) ?_
          refine x_ld C w 4 (n := 64) (f := hS) (i := a) rfl rfl (by omega) (by decide) dX0_giveBack_76 ?_
          refine x_callv (n := 3) (As := [.int (nI (q + a)), .int (nI (x - a)), .int (hS a)]) (rest := []) C w (m_putStyles l (n + d) g1 k1 f d b1 cl sz lk hL hS (q + a) (x - a) (hS a) (st_ins E q (HS.take a)) hE1 (by omega) (by omega)) q102 q104 qs6 q105 rfl (by decide +kernel) rfl ⟨rfl, rfl⟩ ⟨Nat.le_of_ble_eq_true rfl, Nat.le_of_ble_eq_true rfl⟩ ⟨Nat.le_refl _, Nat.le_refl _⟩ rfl hl.1 (Nat.le_of_ble_eq_true rfl) dX0_giveBack_77 (fun u H locs hp w => ?_)
          obtain ⟨k2, b2, sz2, lk2, rfl, hE2⟩ := hp
          have hE3 := hE2
          rw [show q + a = q + (HS.take a).length by rw [List.length_take]; omega, st_ins_b (by omega), st_take_r (by omega) (fun y y1 y2 => hsame y y1 y2 (by omega))] at hE3
          refine lv_iload_n hx hb dX0_giveBack_80 rfl (lv_at hl 3 rfl) ?_
          refine lv_istore_n (lv' := [(2, .int (nI x)), (0, .ref (ad 0)), (1, .int (nI q)), (3, .int (nI x))]) hx hb dX0_giveBack_81 rfl hl (by decide) rfl (fun ls hl => ?_)
          refine lv_iinc (v := (nI (x + 1))) (lv' := [(3, .int (nI (x + 1))), (2, .int (nI x)), (0, .ref (ad 0)), (1, .int (nI q))]) hx hb dX0_giveBack_82 hl (k := 3) rfl (n_inc _) (by decide) rfl (fun ls hl => ?_)
          refine lv_goto (tgt := 33) hx hb dX0_giveBack_85 (by decide) ?_
          exact ih x (x + 1) _ _ _ _ _ _ (by omega) (by omega) (hX1) (hE3) (fun y y1 y2 y3 => by exfalso; omega) _ _ _ w (lv_sub hl [2, 3, 1, 0] rfl)
        · refine lv_aload_n hx hb dX0_giveBack_49 rfl (lv_at hl 0 rfl) ?_
          refine x_get C w 9 (v := .ref (ad 5)) q48 (by decide) rfl dX0_giveBack_50 ?_
          refine lv_iload_n hx hb dX0_giveBack_53 rfl (lv_at hl 3 rfl) ?_
          refine x_ld C w 4 (n := 64) (f := hS) (i := x) rfl rfl (by omega) (by decide) dX0_giveBack_54 ?_
          refine lv_aload_n hx hb dX0_giveBack_55 rfl (lv_at hl 0 rfl) ?_
          refine x_get C w 9 (v := .ref (ad 5)) q48 (by decide) rfl dX0_giveBack_56 ?_
          refine lv_iload_n hx hb dX0_giveBack_59 rfl (lv_at hl 2 rfl) ?_
          refine x_ld C w 4 (n := 64) (f := hS) (i := a) rfl rfl (by omega) (by decide) dX0_giveBack_60 ?_
          refine lv_icmp_eq (tgt := 82) hx hb dX0_giveBack_61 (by decide) (fun c61 => ?_) (fun c61 => ?_)
          · refine lv_iinc (v := (nI (x + 1))) (lv' := [(3, .int (nI (x + 1))), (0, .ref (ad 0)), (1, .int (nI q)), (2, .int (nI a))]) hx hb dX0_giveBack_82 hl (k := 3) rfl (n_inc _) (by decide) rfl (fun ls hl => ?_)
            refine lv_goto (tgt := 33) hx hb dX0_giveBack_85 (by decide) ?_
            exact ih a (x + 1) _ _ _ _ _ _ (by omega) (by omega) (hX1) (hE1) (fun y y1 y2 y3 => by rcases Nat.lt_or_ge y x with z | z; exact hsame y y1 z y3; rw [show y = x by omega, h4 x (by omega), c61]) _ _ _ w (lv_sub hl [1, 2, 3, 0] rfl)
          · refine lv_aload_n hx hb dX0_giveBack_64 rfl (lv_at hl 0 rfl) ?_
            refine lv_iload_n hx hb dX0_giveBack_65 rfl (lv_at hl 1 rfl) ?_
            refine lv_iload_n hx hb dX0_giveBack_66 rfl (lv_at hl 2 rfl) ?_
            refine n_iadd hx hb dX0_giveBack_67 ?_
            refine lv_iload_n hx hb dX0_giveBack_68 rfl (lv_at hl 3 rfl) ?_
            refine lv_iload_n hx hb dX0_giveBack_69 rfl (lv_at hl 2 rfl) ?_
            refine n_isub hx hb (by omega) dX0_giveBack_70 ?_
            refine lv_aload_n hx hb dX0_giveBack_71 rfl (lv_at hl 0 rfl) ?_
            refine x_get C w 9 (v := .ref (ad 5)) q48 (by decide) rfl dX0_giveBack_72 ?_
            refine lv_iload_n hx hb dX0_giveBack_75 rfl (lv_at hl 2 rfl) ?_
            refine x_ld C w 4 (n := 64) (f := hS) (i := a) rfl rfl (by omega) (by decide) dX0_giveBack_76 ?_
            refine x_callv (n := 3) (As := [.int (nI (q + a)), .int (nI (x - a)), .int (hS a)]) (rest := []) C w (m_putStyles l (n + d) g1 k1 f d b1 cl sz lk hL hS (q + a) (x - a) (hS a) (st_ins E q (HS.take a)) hE1 (by omega) (by omega)) q102 q104 qs6 q105 rfl (by decide +kernel) rfl ⟨rfl, rfl⟩ ⟨Nat.le_of_ble_eq_true rfl, Nat.le_of_ble_eq_true rfl⟩ ⟨Nat.le_refl _, Nat.le_refl _⟩ rfl hl.1 (Nat.le_of_ble_eq_true rfl) dX0_giveBack_77 (fun u H locs hp w => ?_)
            obtain ⟨k2, b2, sz2, lk2, rfl, hE2⟩ := hp
            have hE3 := hE2
            rw [show q + a = q + (HS.take a).length by rw [List.length_take]; omega, st_ins_b (by omega), st_take_r (by omega) (fun y y1 y2 => hsame y y1 y2 (by omega))] at hE3
            refine lv_iload_n hx hb dX0_giveBack_80 rfl (lv_at hl 3 rfl) ?_
            refine lv_istore_n (lv' := [(2, .int (nI x)), (0, .ref (ad 0)), (1, .int (nI q)), (3, .int (nI x))]) hx hb dX0_giveBack_81 rfl hl (by decide) rfl (fun ls hl => ?_)
            refine lv_iinc (v := (nI (x + 1))) (lv' := [(3, .int (nI (x + 1))), (2, .int (nI x)), (0, .ref (ad 0)), (1, .int (nI q))]) hx hb dX0_giveBack_82 hl (k := 3) rfl (n_inc _) (by decide) rfl (fun ls hl => ?_)
            refine lv_goto (tgt := 33) hx hb dX0_giveBack_85 (by decide) ?_
            exact ih x (x + 1) _ _ _ _ _ _ (by omega) (by omega) (hX1) (hE3) (fun y y1 y2 y3 => by rw [show y = x by omega]; exact h4 x (by omega)) _ _ _ w (lv_sub hl [2, 3, 1, 0] rfl)
  have loop1 : ∀ (N : Nat) (t g1 : Nat) (cl : Nat → Int32), d - t < N → (t ≤ d) → (st_XL (n + t) g1 cl (st_ins L q (HL.take t))) → ∀ (H : Heap) (locs : List Loc) (ls : Array Slot), wd D A s (xw ad ca (n + t, g1, k, f, d, b, cl, size, look, hL, hS)) (xt ca) H locs → lv_has ls 4 [(0, .ref (ad 0)), (1, .int (nI q)), (2, .int (nI t))] → W p l e (st_rm 3 70) s m args below meth c H locs 0 0 Q (F0 m 2 ls []) := by
    intro N
    induction N with
    | zero => intro t g1 cl hN; exact absurd hN (Nat.not_lt_zero _)
    | succ N ih =>
      intro t g1 cl hN ht hX1 H locs ls w hl
      refine lv_iload_n hx hb dX0_giveBack_2 rfl (lv_at hl 2 rfl) ?_
      refine lv_aload_n hx hb dX0_giveBack_3 rfl (lv_at hl 0 rfl) ?_
      refine x_get C w 7 (v := .int (nI d)) q46 (by decide) rfl dX0_giveBack_4 ?_
      refine n_icmp_ge (tgt := 29) hx hb dX0_giveBack_7 (by decide) (by omega) (by omega) (fun c7 => ?_) (fun c7 => ?_)
      · obtain rfl : d = t := by omega
        rw [← h1, List.take_length, h1] at hX1
        refine lv_iconst (v := nI 0) hx hb dX0_giveBack_29 (by decide) ?_
        refine lv_istore_n (lv' := [(2, .int (nI 0)), (0, .ref (ad 0)), (1, .int (nI q))]) hx hb dX0_giveBack_30 rfl hl (by decide) rfl (fun ls hl => ?_)
        refine lv_iconst (v := nI 1) hx hb dX0_giveBack_31 (by decide) ?_
        refine lv_istore_n (lv' := [(3, .int (nI 1)), (2, .int (nI 0)), (0, .ref (ad 0)), (1, .int (nI q))]) hx hb dX0_giveBack_32 rfl hl (by decide) rfl (fun ls hl => ?_)
        exact loop2 (d + 1) 0 1 _ _ _ _ _ _ (by omega) (by omega) (hX1) (by show st_XE k size look (st_ins E q []); rw [st_ins_nil]; exact hE) (fun y y1 y2 y3 => by rw [show y = 0 by omega]; exact h4 0 (by omega)) _ _ _ w (lv_sub hl [2, 3, 1, 0] rfl)
      · refine lv_aload_n hx hb dX0_giveBack_10 rfl (lv_at hl 0 rfl) ?_
        refine lv_iload_n hx hb dX0_giveBack_11 rfl (lv_at hl 1 rfl) ?_
        refine lv_iload_n hx hb dX0_giveBack_12 rfl (lv_at hl 2 rfl) ?_
        refine n_iadd hx hb dX0_giveBack_13 ?_
        refine lv_aload_n hx hb dX0_giveBack_14 rfl (lv_at hl 0 rfl) ?_
        refine x_get C w 8 (v := .ref (ad 4)) q47 (by decide) rfl dX0_giveBack_15 ?_
        refine lv_iload_n hx hb dX0_giveBack_18 rfl (lv_at hl 2 rfl) ?_
        refine x_ld C w 3 (n := 64) (f := hL) (i := t) rfl rfl (by omega) (by decide) dX0_giveBack_19 ?_
        refine x_callv (n := 2) (As := [.int (nI (q + t)), .int (hL t)]) (rest := []) C w (m_putLetter l (n + t) g1 k f d b cl size look hL hS (q + t) (hL t) (st_ins L q (HL.take t)) hX1 (by omega) (by omega)) q94 q96 qs4 q97 rfl (by decide +kernel) rfl ⟨rfl, rfl⟩ ⟨Nat.le_of_ble_eq_true rfl, Nat.le_of_ble_eq_true rfl⟩ ⟨Nat.le_refl _, Nat.le_refl _⟩ rfl hl.1 (Nat.le_of_ble_eq_true rfl) dX0_giveBack_20 (fun u H locs hp w => ?_)
        obtain ⟨cl1, rfl, hX2⟩ := hp
        refine lv_iinc (v := (nI (t + 1))) (lv' := [(2, .int (nI (t + 1))), (0, .ref (ad 0)), (1, .int (nI q))]) hx hb dX0_giveBack_23 hl (k := 2) rfl (n_inc _) (by decide) rfl (fun ls hl => ?_)
        refine lv_goto (tgt := 2) hx hb dX0_giveBack_26 (by decide) ?_
        exact ih (t + 1) _ _ (by omega) (by omega) (by rw [show q + t = q + (HL.take t).length by rw [List.length_take]; omega, st_ins_b (by rw [hX.1]; exact hq), st_take_s (h3 t (by omega))] at hX2; rw [List.length_take, Nat.min_eq_left (by omega)] at hX2; exact hX2) _ _ _ w (lv_sub hl [1, 2, 0] rfl)
  refine lv_iconst (v := nI 0) hx hb dX0_giveBack_0 (by decide) ?_
  refine lv_istore_n (lv' := [(2, .int (nI 0)), (0, .ref (ad 0)), (1, .int (nI q))]) hx hb dX0_giveBack_1 rfl hl (by decide) rfl (fun ls hl => ?_)
  exact loop1 (d + 1) 0 _ _ (by omega) (Nat.zero_le _) (by show st_XL n g cell (st_ins L q []); rw [st_ins_nil]; exact hX) _ _ _ w (lv_sub hl [1, 2, 0] rfl)
end
section
set_option maxRecDepth 100000
set_option maxHeartbeats 4000000 in
/-- length -/
theorem px_length (l : Launch) (g k f d b : Nat) (cell : Nat → Int32) (size : Nat → Nat) (look hL hS : Nat → Int32) (L E : List Int32) (hX : st_XL L.length g cell L) (hE : st_XE k size look E) (hLE : E.length = L.length) (hf : f ≤ L.length) : XMi l yX0_length cX0_length 1 .int (st_rm 0 0) [] (L.length, g, k, f, d, b, cell, size, look, hL, hS) (fun r u => r = (st_oLength (L, E, f)).1 ∧ st_XR u (st_oLength (L, E, f)).2) := by
  intro D ad ca
  refine g_enter_i RX0 rfl (by decide +kernel) (Nat.le_of_ble_eq_true rfl) ?_
  intro p e s m below meth c A Q args ls C w hl hend
  have hx := C.1
  have hb := C.2.1
  have hl : lv_has ls 1 [(0, .ref (ad 0))] := hl
  have hn := hX.2.1
  have hg := hX.2.2.1
  refine lv_aload_n hx hb dX0_length_0 rfl (lv_at hl 0 rfl) ?_
  refine x_get C w 0 (v := .int (nI (L.length))) q39 (by decide) rfl dX0_length_1 ?_
  exact hend _ _ _ _ ((nI (L.length))) (L.length, g, k, f, d, b, cell, size, look, hL, hS) (⟨rfl, hX, hE, hLE, rfl, hf⟩) w rfl dX0_length_4
set_option maxHeartbeats 4000000 in
/-- flag -/
theorem px_flag (l : Launch) (g k f d b : Nat) (cell : Nat → Int32) (size : Nat → Nat) (look hL hS : Nat → Int32) (L E : List Int32) (hX : st_XL L.length g cell L) (hE : st_XE k size look E) (hLE : E.length = L.length) (hf : f ≤ L.length) : XMi l yX0_flag cX0_flag 1 .int (st_rm 0 0) [] (L.length, g, k, f, d, b, cell, size, look, hL, hS) (fun r u => r = (st_oFlag (L, E, f)).1 ∧ st_XR u (st_oFlag (L, E, f)).2) := by
  intro D ad ca
  refine g_enter_i RX0 rfl (by decide +kernel) (Nat.le_of_ble_eq_true rfl) ?_
  intro p e s m below meth c A Q args ls C w hl hend
  have hx := C.1
  have hb := C.2.1
  have hl : lv_has ls 1 [(0, .ref (ad 0))] := hl
  have hn := hX.2.1
  have hg := hX.2.2.1
  refine lv_aload_n hx hb dX0_flag_0 rfl (lv_at hl 0 rfl) ?_
  refine x_get C w 6 (v := .int (nI f)) q45 (by decide) rfl dX0_flag_1 ?_
  exact hend _ _ _ _ ((nI f)) (L.length, g, k, f, d, b, cell, size, look, hL, hS) (⟨rfl, hX, hE, hLE, rfl, hf⟩) w rfl dX0_flag_4
set_option maxHeartbeats 4000000 in
/-- setFlag -/
theorem px_setFlag (l : Launch) (g k f d b : Nat) (cell : Nat → Int32) (size : Nat → Nat) (look hL hS : Nat → Int32) (L E : List Int32) (v : Int32) (hX : st_XL L.length g cell L) (hE : st_XE k size look E) (hLE : E.length = L.length) (hf : f ≤ L.length) : XMi l yX0_setFlag cX0_setFlag 3 .int (st_rm 0 0) [.int v] (L.length, g, k, f, d, b, cell, size, look, hL, hS) (fun r u => r = (st_oSetFlag v (L, E, f)).1 ∧ st_XR u (st_oSetFlag v (L, E, f)).2) := by
  intro D ad ca
  refine g_enter_i RX0 rfl (by decide +kernel) (Nat.le_of_ble_eq_true rfl) ?_
  intro p e s m below meth c A Q args ls C w hl hend
  have hx := C.1
  have hb := C.2.1
  have hl : lv_has ls 3 [(0, .ref (ad 0)), (1, .int v)] := hl
  have hn := hX.2.1
  have hg := hX.2.2.1
  refine lv_iload_n hx hb dX0_setFlag_0 rfl (lv_at hl 1 rfl) ?_
  refine lv_if_lt (tgt := 12) hx hb dX0_setFlag_1 (by decide) (fun c1 => ?_) (fun c1 => ?_)
  · refine lv_iconst (v := (-1)) hx hb dX0_setFlag_12 (by decide) ?_
    have hop : st_oSetFlag v (L, E, f) = (-1, L, E, f) := by unfold st_oSetFlag; exact if_pos (Or.inl c1)
    exact hend _ _ _ _ ((-1)) (L.length, g, k, f, d, b, cell, size, look, hL, hS) (by rw [hop]; exact ⟨rfl, hX, hE, hLE, rfl, hf⟩) w rfl dX0_setFlag_13
  · refine lv_iload_n hx hb dX0_setFlag_4 rfl (lv_at hl 1 rfl) ?_
    refine lv_aload_n hx hb dX0_setFlag_5 rfl (lv_at hl 0 rfl) ?_
    refine x_get C w 0 (v := .int (nI (L.length))) q39 (by decide) rfl dX0_setFlag_6 ?_
    refine lv_icmp_le (tgt := 14) hx hb dX0_setFlag_9 (by decide) (fun c9 => ?_) (fun c9 => ?_)
    · have hbd : ¬ (v < 0 ∨ ¬ v ≤ nI L.length) := fun z => z.elim c1 (fun z => z c9)
      obtain ⟨q, hq, rfl⟩ := st_le_nI (by omega) c1 c9
      refine lv_aload_n hx hb dX0_setFlag_14 rfl (lv_at hl 0 rfl) ?_
      refine x_get C w 6 (v := .int (nI f)) q45 (by decide) rfl dX0_setFlag_15 ?_
      refine lv_istore_n (lv' := [(2, .int (nI f)), (0, .ref (ad 0)), (1, .int (nI q))]) hx hb dX0_setFlag_18 rfl hl (by decide) rfl (fun ls hl => ?_)
      refine lv_aload_n hx hb dX0_setFlag_19 rfl (lv_at hl 1 rfl) ?_
      refine lv_iload_n hx hb dX0_setFlag_20 rfl (lv_at hl 2 rfl) ?_
      refine x_put C w 6 (L.length, g, k, q, d, b, cell, size, look, hL, hS) q45 (by decide) rfl rfl rfl dX0_setFlag_21 (fun H locs w => ?_)
      refine lv_iload_n hx hb dX0_setFlag_24 rfl (lv_at hl 0 rfl) ?_
      have hop : st_oSetFlag (nI q) (L, E, f) = (nI f, L, E, q) := by unfold st_oSetFlag; rw [if_neg hbd, st_clamp (by omega)]
      exact hend _ _ _ _ ((nI f)) (L.length, g, k, q, d, b, cell, size, look, hL, hS) (by rw [hop]; exact ⟨rfl, hX, hE, hLE, rfl, hq⟩) w rfl dX0_setFlag_25
    · refine lv_iconst (v := (-1)) hx hb dX0_setFlag_12 (by decide) ?_
      have hop : st_oSetFlag v (L, E, f) = (-1, L, E, f) := by unfold st_oSetFlag; exact if_pos (Or.inr c9)
      exact hend _ _ _ _ ((-1)) (L.length, g, k, f, d, b, cell, size, look, hL, hS) (by rw [hop]; exact ⟨rfl, hX, hE, hLE, rfl, hf⟩) w rfl dX0_setFlag_13
set_option maxHeartbeats 4000000 in
/-- letter -/
theorem px_letter (l : Launch) (g k f d b : Nat) (cell : Nat → Int32) (size : Nat → Nat) (look hL hS : Nat → Int32) (L E : List Int32) (v : Int32) (hX : st_XL L.length g cell L) (hE : st_XE k size look E) (hLE : E.length = L.length) (hf : f ≤ L.length) : XMi l yX0_letter cX0_letter 2 .int (st_rm 1 21) [.int v] (L.length, g, k, f, d, b, cell, size, look, hL, hS) (fun r u => r = (st_oLetter v (L, E, f)).1 ∧ st_XR u (st_oLetter v (L, E, f)).2) := by
  intro D ad ca
  refine g_enter_i RX0 rfl (by decide +kernel) (Nat.le_of_ble_eq_true rfl) ?_
  intro p e s m below meth c A Q args ls C w hl hend
  have hx := C.1
  have hb := C.2.1
  have hl : lv_has ls 2 [(0, .ref (ad 0)), (1, .int v)] := hl
  have hn := hX.2.1
  have hg := hX.2.2.1
  refine lv_aload_n hx hb dX0_letter_0 rfl (lv_at hl 0 rfl) ?_
  refine lv_iload_n hx hb dX0_letter_1 rfl (lv_at hl 1 rfl) ?_
  refine x_calli (n := 1) (As := [.int v]) (rest := []) C w (m_off l (L.length) g k f d b cell size look hL hS v) q195 q197 qs20 q198 rfl (by decide +kernel) rfl ⟨rfl, rfl⟩ ⟨Nat.le_of_ble_eq_true rfl, Nat.le_of_ble_eq_true rfl⟩ ⟨Nat.le_refl _, Nat.le_refl _⟩ rfl hl.1 (Nat.le_of_ble_eq_true rfl) dX0_letter_2 (fun r0 u H locs hp w => ?_)
  obtain ⟨rfl, hr0⟩ := hp
  refine lv_if_eq (tgt := 13) hx hb dX0_letter_5 (by decide) (fun c5 => ?_) (fun c5 => ?_)
  · have hbd := st_b0 hr0 c5
    obtain ⟨q, hq, rfl⟩ := st_off_no (by omega) hbd
    refine lv_aload_n hx hb dX0_letter_13 rfl (lv_at hl 0 rfl) ?_
    refine x_get C w 2 (v := .ref (ad 1)) q41 (by decide) rfl dX0_letter_14 ?_
    refine lv_aload_n hx hb dX0_letter_17 rfl (lv_at hl 0 rfl) ?_
    refine lv_iload_n hx hb dX0_letter_18 rfl (lv_at hl 1 rfl) ?_
    refine x_calli (n := 1) (As := [.int (nI q)]) (rest := [.ref (ad 1)]) C w (m_cellOf l (L.length) g k f d b cell size look hL hS q (by omega) (by omega) (by omega)) q158 q160 qs17 q161 rfl (by decide +kernel) rfl ⟨rfl, rfl⟩ ⟨Nat.le_of_ble_eq_true rfl, Nat.le_of_ble_eq_true rfl⟩ ⟨Nat.le_refl _, Nat.le_refl _⟩ rfl hl.1 (Nat.le_of_ble_eq_true rfl) dX0_letter_19 (fun r u H locs hp w => ?_)
    obtain ⟨rfl, rfl⟩ := hp
    refine x_ld C w 0 (n := 64) (f := cell) (i := st_ci (L.length) g q) rfl rfl (st_ci_lt hn hg hq) (by decide) dX0_letter_22 ?_
    have hop : st_oLetter (nI q) (L, E, f) = ((cell (st_ci (L.length) g q)), L, E, f) := by unfold st_oLetter; rw [if_neg hbd, st_clamp (by omega)]; exact congrArg (fun z => (z, L, E, f)) (st_getD (hX.2.2.2 q hq))
    exact hend _ _ _ _ ((cell (st_ci (L.length) g q))) (L.length, g, k, f, d, b, cell, size, look, hL, hS) (by rw [hop]; exact ⟨rfl, hX, hE, hLE, rfl, hf⟩) w rfl dX0_letter_23
  · refine lv_bipush (v := (-4)) hx hb dX0_letter_8 (by decide) ?_
    refine lv_goto (tgt := 23) hx hb dX0_letter_10 (by decide) ?_
    have hop : st_oLetter v (L, E, f) = (-4, L, E, f) := by unfold st_oLetter; rw [if_pos (st_b1 hr0 c5)]
    exact hend _ _ _ _ ((-4)) (L.length, g, k, f, d, b, cell, size, look, hL, hS) (by rw [hop]; exact ⟨rfl, hX, hE, hLE, rfl, hf⟩) w rfl dX0_letter_23
set_option maxHeartbeats 4000000 in
/-- styleAt -/
theorem px_styleAt (l : Launch) (g k f d b : Nat) (cell : Nat → Int32) (size : Nat → Nat) (look hL hS : Nat → Int32) (L E : List Int32) (v : Int32) (hX : st_XL L.length g cell L) (hE : st_XE k size look E) (hLE : E.length = L.length) (hf : f ≤ L.length) : XMi l yX0_styleAt cX0_styleAt 2 .int (st_rm 2 45) [.int v] (L.length, g, k, f, d, b, cell, size, look, hL, hS) (fun r u => r = (st_oStyleAt v (L, E, f)).1 ∧ st_XR u (st_oStyleAt v (L, E, f)).2) := by
  intro D ad ca
  refine g_enter_i RX0 rfl (by decide +kernel) (Nat.le_of_ble_eq_true rfl) ?_
  intro p e s m below meth c A Q args ls C w hl hend
  have hx := C.1
  have hb := C.2.1
  have hl : lv_has ls 2 [(0, .ref (ad 0)), (1, .int v)] := hl
  have hn := hX.2.1
  have hg := hX.2.2.1
  refine lv_aload_n hx hb dX0_styleAt_0 rfl (lv_at hl 0 rfl) ?_
  refine lv_iload_n hx hb dX0_styleAt_1 rfl (lv_at hl 1 rfl) ?_
  refine x_calli (n := 1) (As := [.int v]) (rest := []) C w (m_off l (L.length) g k f d b cell size look hL hS v) q195 q197 qs20 q198 rfl (by decide +kernel) rfl ⟨rfl, rfl⟩ ⟨Nat.le_of_ble_eq_true rfl, Nat.le_of_ble_eq_true rfl⟩ ⟨Nat.le_refl _, Nat.le_refl _⟩ rfl hl.1 (Nat.le_of_ble_eq_true rfl) dX0_styleAt_2 (fun r0 u H locs hp w => ?_)
  obtain ⟨rfl, hr0⟩ := hp
  refine lv_if_eq (tgt := 13) hx hb dX0_styleAt_5 (by decide) (fun c5 => ?_) (fun c5 => ?_)
  · have hbd := st_b0 hr0 c5
    obtain ⟨q, hq, rfl⟩ := st_off_no (by omega) hbd
    refine lv_aload_n hx hb dX0_styleAt_13 rfl (lv_at hl 0 rfl) ?_
    refine lv_iload_n hx hb dX0_styleAt_14 rfl (lv_at hl 1 rfl) ?_
    refine x_calli (n := 1) (As := [.int (nI q)]) (rest := []) C w (m_styleHere l (L.length) g k f d b cell size look hL hS q E hE (by omega) (by omega)) q82 q84 qs1 q85 rfl (by decide +kernel) rfl ⟨rfl, rfl⟩ ⟨Nat.le_of_ble_eq_true rfl, Nat.le_of_ble_eq_true rfl⟩ ⟨Nat.le_refl _, Nat.le_refl _⟩ rfl hl.1 (Nat.le_of_ble_eq_true rfl) dX0_styleAt_15 (fun sv u H locs hp w => ?_)
    obtain ⟨b2, rfl, hsv⟩ := hp
    have hop : st_oStyleAt (nI q) (L, E, f) = (sv, L, E, f) := by unfold st_oStyleAt; rw [if_neg hbd, st_clamp (by omega)]; exact congrArg (fun z => (z, L, E, f)) (st_getD hsv)
    exact hend _ _ _ _ (sv) (L.length, g, k, f, d, b2, cell, size, look, hL, hS) (by rw [hop]; exact ⟨rfl, hX, hE, hLE, rfl, hf⟩) w rfl dX0_styleAt_18
  · refine lv_bipush (v := (-4)) hx hb dX0_styleAt_8 (by decide) ?_
    refine lv_goto (tgt := 18) hx hb dX0_styleAt_10 (by decide) ?_
    have hop : st_oStyleAt v (L, E, f) = (-4, L, E, f) := by unfold st_oStyleAt; rw [if_pos (st_b1 hr0 c5)]
    exact hend _ _ _ _ ((-4)) (L.length, g, k, f, d, b, cell, size, look, hL, hS) (by rw [hop]; exact ⟨rfl, hX, hE, hLE, rfl, hf⟩) w rfl dX0_styleAt_18
set_option maxHeartbeats 4000000 in
/-- type -/
theorem px_type (l : Launch) (g k f d b : Nat) (cell : Nat → Int32) (size : Nat → Nat) (look hL hS : Nat → Int32) (L E : List Int32) (v c0 : Int32) (hX : st_XL L.length g cell L) (hE : st_XE k size look E) (hLE : E.length = L.length) (hf : f ≤ L.length) : XMi l yX0_type cX0_type 4 .int (st_rm 4 95) [.int v, .int c0] (L.length, g, k, f, d, b, cell, size, look, hL, hS) (fun r u => r = (st_oType v c0 (L, E, f)).1 ∧ st_XR u (st_oType v c0 (L, E, f)).2) := by
  intro D ad ca
  refine g_enter_i RX0 rfl (by decide +kernel) (Nat.le_of_ble_eq_true rfl) ?_
  intro p e s m below meth c A Q args ls C w hl hend
  have hx := C.1
  have hb := C.2.1
  have hl : lv_has ls 4 [(0, .ref (ad 0)), (1, .int v), (2, .int c0)] := hl
  have hn := hX.2.1
  have hg := hX.2.2.1
  refine lv_aload_n hx hb dX0_type_0 rfl (lv_at hl 0 rfl) ?_
  refine lv_iload_n hx hb dX0_type_1 rfl (lv_at hl 2 rfl) ?_
  refine x_calli (n := 1) (As := [.int c0]) (rest := []) C w (m_badLetter l (L.length) g k f d b cell size look hL hS c0) q78 q80 qs0 q81 rfl (by decide +kernel) rfl ⟨rfl, rfl⟩ ⟨Nat.le_of_ble_eq_true rfl, Nat.le_of_ble_eq_true rfl⟩ ⟨Nat.le_refl _, Nat.le_refl _⟩ rfl hl.1 (Nat.le_of_ble_eq_true rfl) dX0_type_2 (fun r0 u H locs hp w => ?_)
  obtain ⟨rfl, hr0⟩ := hp
  refine lv_if_ne (tgt := 20) hx hb dX0_type_5 (by decide) (fun c5 => ?_) (fun c5 => ?_)
  · refine lv_iconst (v := (-1)) hx hb dX0_type_20 (by decide) ?_
    have hop : st_oType v c0 (L, E, f) = (-1, L, E, f) := by unfold st_oType; exact if_pos (Or.inl (st_b1 hr0 c5))
    exact hend _ _ _ _ ((-1)) (L.length, g, k, f, d, b, cell, size, look, hL, hS) (by rw [hop]; exact ⟨rfl, hX, hE, hLE, rfl, hf⟩) w rfl dX0_type_21
  · refine lv_iload_n hx hb dX0_type_8 rfl (lv_at hl 1 rfl) ?_
    refine lv_if_lt (tgt := 20) hx hb dX0_type_9 (by decide) (fun c9 => ?_) (fun c9 => ?_)
    · refine lv_iconst (v := (-1)) hx hb dX0_type_20 (by decide) ?_
      have hop : st_oType v c0 (L, E, f) = (-1, L, E, f) := by unfold st_oType; exact if_pos (Or.inr (Or.inl c9))
      exact hend _ _ _ _ ((-1)) (L.length, g, k, f, d, b, cell, size, look, hL, hS) (by rw [hop]; exact ⟨rfl, hX, hE, hLE, rfl, hf⟩) w rfl dX0_type_21
    · refine lv_iload_n hx hb dX0_type_12 rfl (lv_at hl 1 rfl) ?_
      refine lv_aload_n hx hb dX0_type_13 rfl (lv_at hl 0 rfl) ?_
      refine x_get C w 0 (v := .int (nI (L.length))) q39 (by decide) rfl dX0_type_14 ?_
      refine lv_icmp_le (tgt := 22) hx hb dX0_type_17 (by decide) (fun c17 => ?_) (fun c17 => ?_)
      · have hbd : ¬ (st_badL c0 ∨ v < 0 ∨ ¬ v ≤ nI L.length) := fun z => z.elim (st_b0 hr0 c5) (fun z => z.elim c9 (fun z => z c17))
        obtain ⟨q, hq, rfl⟩ := st_le_nI (by omega) c9 c17
        refine lv_aload_n hx hb dX0_type_22 rfl (lv_at hl 0 rfl) ?_
        refine x_get C w 0 (v := .int (nI (L.length))) q39 (by decide) rfl dX0_type_23 ?_
        refine lv_bipush (v := nI 64) hx hb dX0_type_26 (by decide) ?_
        refine n_icmp_ne (tgt := 34) hx hb dX0_type_28 (by decide) (by omega) (by omega) (fun c28 => ?_) (fun c28 => ?_)
        · refine lv_iconst (v := nI 0) hx hb dX0_type_34 (by decide) ?_
          refine lv_istore_n (lv' := [(3, .int (nI 0)), (0, .ref (ad 0)), (1, .int (nI q)), (2, .int c0)]) hx hb dX0_type_35 rfl hl (by decide) rfl (fun ls hl => ?_)
          refine lv_aload_n hx hb dX0_type_36 rfl (lv_at hl 1 rfl) ?_
          refine x_get C w 0 (v := .int (nI (L.length))) q39 (by decide) rfl dX0_type_37 ?_
          refine n_if_le (tgt := 59) hx hb dX0_type_40 (by decide) (by omega) (fun c40 => ?_) (fun c40 => ?_)
          · refine lv_aload_n hx hb dX0_type_59 rfl (lv_at hl 1 rfl) ?_
            refine lv_iload_n hx hb dX0_type_60 rfl (lv_at hl 2 rfl) ?_
            refine lv_iload_n hx hb dX0_type_61 rfl (lv_at hl 3 rfl) ?_
            refine lv_iconst (v := nI 1) hx hb dX0_type_62 (by decide) ?_
            refine lv_iload_n hx hb dX0_type_63 rfl (lv_at hl 0 rfl) ?_
            refine x_callv (n := 4) (As := [.int (nI q), .int c0, .int (nI 1), .int (nI 0)]) (rest := []) C w (m_insert l (L.length) g k f d b cell size look hL hS q c0 1 (nI 0) L E hX hE hLE (by omega) (by omega) (by omega)) q90 q92 qs3 q93 rfl (by decide +kernel) rfl ⟨rfl, rfl⟩ ⟨Nat.le_of_ble_eq_true rfl, Nat.le_of_ble_eq_true rfl⟩ ⟨Nat.le_refl _, Nat.le_refl _⟩ rfl hl.1 (Nat.le_of_ble_eq_true rfl) dX0_type_64 (fun u H locs hp w => ?_)
            obtain ⟨g2, k2, b2, cl2, sz2, lk2, rfl, hX2, hE2⟩ := hp
            refine lv_aload_n hx hb dX0_type_67 rfl (lv_at hl 1 rfl) ?_
            refine x_get C w 0 (v := .int (nI (L.length + 1))) q39 (by decide) rfl dX0_type_68 ?_
            have hop : st_oType (nI q) c0 (L, E, f) = (nI (L.length + 1), st_ins L q [c0], st_ins E q [(nI 0)], if q < f then f + 1 else f) := by unfold st_oType; rw [if_neg hbd, if_neg c28, st_clamp (by omega)]; dsimp only; rw [if_pos c40]; rfl
            exact hend _ _ _ _ ((nI (L.length + 1))) (L.length + 1, g2, k2, if q < f then f + 1 else f, d, b2, cl2, sz2, lk2, hL, hS) (by rw [hop]; exact ⟨rfl, hX2, hE2, by rw [st_ins_len (by omega), hLE]; rfl, rfl, by show (if q < f then f + 1 else f) ≤ L.length + 1; split <;> omega⟩) w rfl dX0_type_71
          · refine lv_aload_n hx hb dX0_type_43 rfl (lv_at hl 1 rfl) ?_
            refine lv_iload_n hx hb dX0_type_44 rfl (lv_at hl 2 rfl) ?_
            refine n_if_ne (tgt := 52) hx hb dX0_type_45 (by decide) (by omega) (fun c45 => ?_) (fun c45 => ?_)
            · refine lv_iload_n hx hb dX0_type_52 rfl (lv_at hl 2 rfl) ?_
              refine lv_iconst (v := nI 1) hx hb dX0_type_53 (by decide) ?_
              refine n_isub hx hb (by omega) dX0_type_54 ?_
              refine x_calli (n := 1) (As := [.int (nI (q - 1))]) (rest := []) C w (m_styleHere l (L.length) g k f d b cell size look hL hS (q - 1) E hE (by omega) (by omega)) q82 q84 qs1 q85 rfl (by decide +kernel) rfl ⟨rfl, rfl⟩ ⟨Nat.le_of_ble_eq_true rfl, Nat.le_of_ble_eq_true rfl⟩ ⟨Nat.le_refl _, Nat.le_refl _⟩ rfl hl.1 (Nat.le_of_ble_eq_true rfl) dX0_type_55 (fun sv u H locs hp w => ?_)
              obtain ⟨b1, rfl, hsv⟩ := hp
              refine lv_istore_n (lv' := [(3, .int sv), (0, .ref (ad 0)), (1, .int (nI q)), (2, .int c0)]) hx hb dX0_type_58 rfl hl (by decide) rfl (fun ls hl => ?_)
              refine lv_aload_n hx hb dX0_type_59 rfl (lv_at hl 1 rfl) ?_
              refine lv_iload_n hx hb dX0_type_60 rfl (lv_at hl 2 rfl) ?_
              refine lv_iload_n hx hb dX0_type_61 rfl (lv_at hl 3 rfl) ?_
              refine lv_iconst (v := nI 1) hx hb dX0_type_62 (by decide) ?_
              refine lv_iload_n hx hb dX0_type_63 rfl (lv_at hl 0 rfl) ?_
              refine x_callv (n := 4) (As := [.int (nI q), .int c0, .int (nI 1), .int sv]) (rest := []) C w (m_insert l (L.length) g k f d b1 cell size look hL hS q c0 1 sv L E hX hE hLE (by omega) (by omega) (by omega)) q90 q92 qs3 q93 rfl (by decide +kernel) rfl ⟨rfl, rfl⟩ ⟨Nat.le_of_ble_eq_true rfl, Nat.le_of_ble_eq_true rfl⟩ ⟨Nat.le_refl _, Nat.le_refl _⟩ rfl hl.1 (Nat.le_of_ble_eq_true rfl) dX0_type_64 (fun u H locs hp w => ?_)
              obtain ⟨g2, k2, b2, cl2, sz2, lk2, rfl, hX2, hE2⟩ := hp
              refine lv_aload_n hx hb dX0_type_67 rfl (lv_at hl 1 rfl) ?_
              refine x_get C w 0 (v := .int (nI (L.length + 1))) q39 (by decide) rfl dX0_type_68 ?_
              have hop : st_oType (nI q) c0 (L, E, f) = (nI (L.length + 1), st_ins L q [c0], st_ins E q [sv], if q < f then f + 1 else f) := by unfold st_oType; rw [if_neg hbd, if_neg c28, st_clamp (by omega)]; dsimp only; rw [if_neg (by omega), st_getD (show E[q - 1]? = some sv by exact hsv)]
              exact hend _ _ _ _ ((nI (L.length + 1))) (L.length + 1, g2, k2, if q < f then f + 1 else f, d, b2, cl2, sz2, lk2, hL, hS) (by rw [hop]; exact ⟨rfl, hX2, hE2, by rw [st_ins_len (by omega), hLE]; rfl, rfl, by show (if q < f then f + 1 else f) ≤ L.length + 1; split <;> omega⟩) w rfl dX0_type_71
            · refine lv_iconst (v := nI 0) hx hb dX0_type_48 (by decide) ?_
              refine lv_goto (tgt := 55) hx hb dX0_type_49 (by decide) ?_
              refine x_calli (n := 1) (As := [.int (nI 0)]) (rest := []) C w (m_styleHere l (L.length) g k f d b cell size look hL hS 0 E hE (by omega) (by omega)) q82 q84 qs1 q85 rfl (by decide +kernel) rfl ⟨rfl, rfl⟩ ⟨Nat.le_of_ble_eq_true rfl, Nat.le_of_ble_eq_true rfl⟩ ⟨Nat.le_refl _, Nat.le_refl _⟩ rfl hl.1 (Nat.le_of_ble_eq_true rfl) dX0_type_55 (fun sv u H locs hp w => ?_)
              obtain ⟨b1, rfl, hsv⟩ := hp
              refine lv_istore_n (lv' := [(3, .int sv), (0, .ref (ad 0)), (1, .int (nI q)), (2, .int c0)]) hx hb dX0_type_58 rfl hl (by decide) rfl (fun ls hl => ?_)
              refine lv_aload_n hx hb dX0_type_59 rfl (lv_at hl 1 rfl) ?_
              refine lv_iload_n hx hb dX0_type_60 rfl (lv_at hl 2 rfl) ?_
              refine lv_iload_n hx hb dX0_type_61 rfl (lv_at hl 3 rfl) ?_
              refine lv_iconst (v := nI 1) hx hb dX0_type_62 (by decide) ?_
              refine lv_iload_n hx hb dX0_type_63 rfl (lv_at hl 0 rfl) ?_
              refine x_callv (n := 4) (As := [.int (nI q), .int c0, .int (nI 1), .int sv]) (rest := []) C w (m_insert l (L.length) g k f d b1 cell size look hL hS q c0 1 sv L E hX hE hLE (by omega) (by omega) (by omega)) q90 q92 qs3 q93 rfl (by decide +kernel) rfl ⟨rfl, rfl⟩ ⟨Nat.le_of_ble_eq_true rfl, Nat.le_of_ble_eq_true rfl⟩ ⟨Nat.le_refl _, Nat.le_refl _⟩ rfl hl.1 (Nat.le_of_ble_eq_true rfl) dX0_type_64 (fun u H locs hp w => ?_)
              obtain ⟨g2, k2, b2, cl2, sz2, lk2, rfl, hX2, hE2⟩ := hp
              refine lv_aload_n hx hb dX0_type_67 rfl (lv_at hl 1 rfl) ?_
              refine x_get C w 0 (v := .int (nI (L.length + 1))) q39 (by decide) rfl dX0_type_68 ?_
              have hop : st_oType (nI q) c0 (L, E, f) = (nI (L.length + 1), st_ins L q [c0], st_ins E q [sv], if q < f then f + 1 else f) := by unfold st_oType; rw [if_neg hbd, if_neg c28, st_clamp (by omega)]; dsimp only; rw [if_neg (by omega), st_getD (show E[q - 1]? = some sv by rw [c45]; exact hsv)]
              exact hend _ _ _ _ ((nI (L.length + 1))) (L.length + 1, g2, k2, if q < f then f + 1 else f, d, b2, cl2, sz2, lk2, hL, hS) (by rw [hop]; exact ⟨rfl, hX2, hE2, by rw [st_ins_len (by omega), hLE]; rfl, rfl, by show (if q < f then f + 1 else f) ≤ L.length + 1; split <;> omega⟩) w rfl dX0_type_71
        · refine lv_bipush (v := (-2)) hx hb dX0_type_31 (by decide) ?_
          have hop : st_oType (nI q) c0 (L, E, f) = (-2, L, E, f) := by unfold st_oType; rw [if_neg hbd]; exact if_pos c28
          exact hend _ _ _ _ ((-2)) (L.length, g, k, f, d, b, cell, size, look, hL, hS) (by rw [hop]; exact ⟨rfl, hX, hE, hLE, rfl, hf⟩) w rfl dX0_type_33
      · refine lv_iconst (v := (-1)) hx hb dX0_type_20 (by decide) ?_
        have hop : st_oType v c0 (L, E, f) = (-1, L, E, f) := by unfold st_oType; exact if_pos (Or.inr (Or.inr c17))
        exact hend _ _ _ _ ((-1)) (L.length, g, k, f, d, b, cell, size, look, hL, hS) (by rw [hop]; exact ⟨rfl, hX, hE, hLE, rfl, hf⟩) w rfl dX0_type_21
set_option maxHeartbeats 4000000 in
/-- put -/
theorem px_put (l : Launch) (g k f d b : Nat) (cell : Nat → Int32) (size : Nat → Nat) (look hL hS : Nat → Int32) (L E : List Int32) (v c0 kk sv : Int32) (hX : st_XL L.length g cell L) (hE : st_XE k size look E) (hLE : E.length = L.length) (hf : f ≤ L.length) : XMi l yX0_put cX0_put 5 .int (st_rm 4 95) [.int v, .int c0, .int kk, .int sv] (L.length, g, k, f, d, b, cell, size, look, hL, hS) (fun r u => r = (st_oPut v c0 kk sv (L, E, f)).1 ∧ st_XR u (st_oPut v c0 kk sv (L, E, f)).2) := by
  intro D ad ca
  refine g_enter_i RX0 rfl (by decide +kernel) (Nat.le_of_ble_eq_true rfl) ?_
  intro p e s m below meth c A Q args ls C w hl hend
  have hx := C.1
  have hb := C.2.1
  have hl : lv_has ls 5 [(0, .ref (ad 0)), (1, .int v), (2, .int c0), (3, .int kk), (4, .int sv)] := hl
  have hn := hX.2.1
  have hg := hX.2.2.1
  refine lv_aload_n hx hb dX0_put_0 rfl (lv_at hl 0 rfl) ?_
  refine lv_iload_n hx hb dX0_put_1 rfl (lv_at hl 2 rfl) ?_
  refine x_calli (n := 1) (As := [.int c0]) (rest := []) C w (m_badLetter l (L.length) g k f d b cell size look hL hS c0) q78 q80 qs0 q81 rfl (by decide +kernel) rfl ⟨rfl, rfl⟩ ⟨Nat.le_of_ble_eq_true rfl, Nat.le_of_ble_eq_true rfl⟩ ⟨Nat.le_refl _, Nat.le_refl _⟩ rfl hl.1 (Nat.le_of_ble_eq_true rfl) dX0_put_2 (fun r0 u H locs hp w => ?_)
  obtain ⟨rfl, hr0⟩ := hp
  refine lv_if_ne (tgt := 42) hx hb dX0_put_5 (by decide) (fun c5 => ?_) (fun c5 => ?_)
  · refine lv_iconst (v := (-1)) hx hb dX0_put_42 (by decide) ?_
    have hop : st_oPut v c0 kk sv (L, E, f) = (-1, L, E, f) := by unfold st_oPut; exact if_pos (Or.inl (st_b1 hr0 c5))
    exact hend _ _ _ _ ((-1)) (L.length, g, k, f, d, b, cell, size, look, hL, hS) (by rw [hop]; exact ⟨rfl, hX, hE, hLE, rfl, hf⟩) w rfl dX0_put_43
  · refine lv_iload_n hx hb dX0_put_8 rfl (lv_at hl 1 rfl) ?_
    refine lv_if_lt (tgt := 42) hx hb dX0_put_9 (by decide) (fun c9 => ?_) (fun c9 => ?_)
    · refine lv_iconst (v := (-1)) hx hb dX0_put_42 (by decide) ?_
      have hop : st_oPut v c0 kk sv (L, E, f) = (-1, L, E, f) := by unfold st_oPut; exact if_pos (Or.inr (Or.inl c9))
      exact hend _ _ _ _ ((-1)) (L.length, g, k, f, d, b, cell, size, look, hL, hS) (by rw [hop]; exact ⟨rfl, hX, hE, hLE, rfl, hf⟩) w rfl dX0_put_43
    · refine lv_iload_n hx hb dX0_put_12 rfl (lv_at hl 1 rfl) ?_
      refine lv_aload_n hx hb dX0_put_13 rfl (lv_at hl 0 rfl) ?_
      refine x_get C w 0 (v := .int (nI (L.length))) q39 (by decide) rfl dX0_put_14 ?_
      refine lv_icmp_gt (tgt := 42) hx hb dX0_put_17 (by decide) (fun c17 => ?_) (fun c17 => ?_)
      · refine lv_iconst (v := (-1)) hx hb dX0_put_42 (by decide) ?_
        have hop : st_oPut v c0 kk sv (L, E, f) = (-1, L, E, f) := by unfold st_oPut; exact if_pos (Or.inr (Or.inr (Or.inl (Int32.not_le.mpr c17))))
        exact hend _ _ _ _ ((-1)) (L.length, g, k, f, d, b, cell, size, look, hL, hS) (by rw [hop]; exact ⟨rfl, hX, hE, hLE, rfl, hf⟩) w rfl dX0_put_43
      · refine lv_iload_n hx hb dX0_put_20 rfl (lv_at hl 3 rfl) ?_
        refine lv_if_lt (tgt := 42) hx hb dX0_put_21 (by decide) (fun c21 => ?_) (fun c21 => ?_)
        · refine lv_iconst (v := (-1)) hx hb dX0_put_42 (by decide) ?_
          have hop : st_oPut v c0 kk sv (L, E, f) = (-1, L, E, f) := by unfold st_oPut; exact if_pos (Or.inr (Or.inr (Or.inr (Or.inl c21))))
          exact hend _ _ _ _ ((-1)) (L.length, g, k, f, d, b, cell, size, look, hL, hS) (by rw [hop]; exact ⟨rfl, hX, hE, hLE, rfl, hf⟩) w rfl dX0_put_43
        · refine lv_iload_n hx hb dX0_put_24 rfl (lv_at hl 3 rfl) ?_
          refine lv_bipush (v := nI 64) hx hb dX0_put_25 (by decide) ?_
          refine lv_icmp_gt (tgt := 42) hx hb dX0_put_27 (by decide) (fun c27 => ?_) (fun c27 => ?_)
          · refine lv_iconst (v := (-1)) hx hb dX0_put_42 (by decide) ?_
            have hop : st_oPut v c0 kk sv (L, E, f) = (-1, L, E, f) := by unfold st_oPut; exact if_pos (Or.inr (Or.inr (Or.inr (Or.inr (Or.inl (Int32.not_le.mpr c27))))))
            exact hend _ _ _ _ ((-1)) (L.length, g, k, f, d, b, cell, size, look, hL, hS) (by rw [hop]; exact ⟨rfl, hX, hE, hLE, rfl, hf⟩) w rfl dX0_put_43
          · refine lv_iload hx hb dX0_put_30 (lv_at hl 4 rfl) ?_
            refine lv_if_lt (tgt := 42) hx hb dX0_put_32 (by decide) (fun c32 => ?_) (fun c32 => ?_)
            · refine lv_iconst (v := (-1)) hx hb dX0_put_42 (by decide) ?_
              have hop : st_oPut v c0 kk sv (L, E, f) = (-1, L, E, f) := by unfold st_oPut; exact if_pos (Or.inr (Or.inr (Or.inr (Or.inr (Or.inr (Or.inl c32))))))
              exact hend _ _ _ _ ((-1)) (L.length, g, k, f, d, b, cell, size, look, hL, hS) (by rw [hop]; exact ⟨rfl, hX, hE, hLE, rfl, hf⟩) w rfl dX0_put_43
            · refine lv_iload hx hb dX0_put_35 (lv_at hl 4 rfl) ?_
              refine lv_bipush (v := nI 63) hx hb dX0_put_37 (by decide) ?_
              refine lv_icmp_le (tgt := 44) hx hb dX0_put_39 (by decide) (fun c39 => ?_) (fun c39 => ?_)
              · have c17 := Int32.not_lt.mp c17
                have c27 := Int32.not_lt.mp c27
                have hbd : ¬ (st_badL c0 ∨ v < 0 ∨ ¬ v ≤ nI L.length ∨ kk < 0 ∨ ¬ kk ≤ nI 64 ∨ sv < 0 ∨ ¬ sv ≤ nI 63) := fun z => z.elim (st_b0 hr0 c5) (fun z => z.elim c9 (fun z => z.elim (fun z => z c17) (fun z => z.elim c21 (fun z => z.elim (fun z => z c27) (fun z => z.elim c32 (fun z => z c39))))))
                obtain ⟨q, hq, rfl⟩ := st_le_nI (by omega) c9 c17
                obtain ⟨a, ha, rfl⟩ := st_le_nI (by decide) c21 c27
                refine lv_aload_n hx hb dX0_put_44 rfl (lv_at hl 0 rfl) ?_
                refine x_get C w 0 (v := .int (nI (L.length))) q39 (by decide) rfl dX0_put_45 ?_
                refine lv_iload_n hx hb dX0_put_48 rfl (lv_at hl 3 rfl) ?_
                refine n_iadd hx hb dX0_put_49 ?_
                refine lv_bipush (v := nI 64) hx hb dX0_put_50 (by decide) ?_
                refine n_icmp_le (tgt := 58) hx hb dX0_put_52 (by decide) (by omega) (by omega) (fun c52 => ?_) (fun c52 => ?_)
                · refine lv_aload_n hx hb dX0_put_58 rfl (lv_at hl 0 rfl) ?_
                  refine lv_iload_n hx hb dX0_put_59 rfl (lv_at hl 1 rfl) ?_
                  refine lv_iload_n hx hb dX0_put_60 rfl (lv_at hl 2 rfl) ?_
                  refine lv_iload_n hx hb dX0_put_61 rfl (lv_at hl 3 rfl) ?_
                  refine lv_iload hx hb dX0_put_62 (lv_at hl 4 rfl) ?_
                  refine x_callv (n := 4) (As := [.int (nI q), .int c0, .int (nI a), .int sv]) (rest := []) C w (m_insert l (L.length) g k f d b cell size look hL hS q c0 a sv L E hX hE hLE (by omega) (by omega) (by omega)) q90 q92 qs3 q93 rfl (by decide +kernel) rfl ⟨rfl, rfl⟩ ⟨Nat.le_of_ble_eq_true rfl, Nat.le_of_ble_eq_true rfl⟩ ⟨Nat.le_refl _, Nat.le_refl _⟩ rfl hl.1 (Nat.le_of_ble_eq_true rfl) dX0_put_64 (fun u H locs hp w => ?_)
                  obtain ⟨g2, k2, b2, cl2, sz2, lk2, rfl, hX2, hE2⟩ := hp
                  refine lv_aload_n hx hb dX0_put_67 rfl (lv_at hl 0 rfl) ?_
                  refine x_get C w 0 (v := .int (nI (L.length + a))) q39 (by decide) rfl dX0_put_68 ?_
                  have hop : st_oPut (nI q) c0 (nI a) sv (L, E, f) = (nI (L.length + a), st_ins L q (List.replicate a c0), st_ins E q (List.replicate a sv), if q < f then f + a else f) := by unfold st_oPut; rw [if_neg hbd, st_clamp (show q ≤ 64 by omega), st_clamp ha]; exact if_neg (by show ¬ 64 < L.length + a; omega)
                  exact hend _ _ _ _ ((nI (L.length + a))) (L.length + a, g2, k2, if q < f then f + a else f, d, b2, cl2, sz2, lk2, hL, hS) (by rw [hop]; exact ⟨rfl, hX2, hE2, by rw [st_ins_len (by omega), hLE, List.length_replicate], rfl, by show (if q < f then f + a else f) ≤ L.length + a; split <;> omega⟩) w rfl dX0_put_71
                · refine lv_bipush (v := (-2)) hx hb dX0_put_55 (by decide) ?_
                  have hop : st_oPut (nI q) c0 (nI a) sv (L, E, f) = (-2, L, E, f) := by unfold st_oPut; rw [if_neg hbd, st_clamp ha]; exact if_pos c52
                  exact hend _ _ _ _ ((-2)) (L.length, g, k, f, d, b, cell, size, look, hL, hS) (by rw [hop]; exact ⟨rfl, hX, hE, hLE, rfl, hf⟩) w rfl dX0_put_57
              · refine lv_iconst (v := (-1)) hx hb dX0_put_42 (by decide) ?_
                have hop : st_oPut v c0 kk sv (L, E, f) = (-1, L, E, f) := by unfold st_oPut; exact if_pos (Or.inr (Or.inr (Or.inr (Or.inr (Or.inr (Or.inr c39))))))
                exact hend _ _ _ _ ((-1)) (L.length, g, k, f, d, b, cell, size, look, hL, hS) (by rw [hop]; exact ⟨rfl, hX, hE, hLE, rfl, hf⟩) w rfl dX0_put_43
set_option maxHeartbeats 4000000 in
/-- remove -/
theorem px_remove (l : Launch) (g k f d b : Nat) (cell : Nat → Int32) (size : Nat → Nat) (look hL hS : Nat → Int32) (L E : List Int32) (vi vj : Int32) (hX : st_XL L.length g cell L) (hE : st_XE k size look E) (hLE : E.length = L.length) (hf : f ≤ L.length) : XMi l yX0_remove cX0_remove 3 .int (st_rm 4 93) [.int vi, .int vj] (L.length, g, k, f, d, b, cell, size, look, hL, hS) (fun r u => r = (st_oRemove vi vj (L, E, f)).1 ∧ st_XR u (st_oRemove vi vj (L, E, f)).2) := by
  intro D ad ca
  refine g_enter_i RX0 rfl (by decide +kernel) (Nat.le_of_ble_eq_true rfl) ?_
  intro p e s m below meth c A Q args ls C w hl hend
  have hx := C.1
  have hb := C.2.1
  have hl : lv_has ls 3 [(0, .ref (ad 0)), (1, .int vi), (2, .int vj)] := hl
  have hn := hX.2.1
  have hg := hX.2.2.1
  refine lv_aload_n hx hb dX0_remove_0 rfl (lv_at hl 0 rfl) ?_
  refine lv_iload_n hx hb dX0_remove_1 rfl (lv_at hl 1 rfl) ?_
  refine lv_iload_n hx hb dX0_remove_2 rfl (lv_at hl 2 rfl) ?_
  refine x_calli (n := 2) (As := [.int vi, .int vj]) (rest := []) C w (m_bad l (L.length) g k f d b cell size look hL hS vi vj) q134 q136 qs12 q137 rfl (by decide +kernel) rfl ⟨rfl, rfl⟩ ⟨Nat.le_of_ble_eq_true rfl, Nat.le_of_ble_eq_true rfl⟩ ⟨Nat.le_refl _, Nat.le_refl _⟩ rfl hl.1 (Nat.le_of_ble_eq_true rfl) dX0_remove_3 (fun r0 u H locs hp w => ?_)
  obtain ⟨rfl, hr0⟩ := hp
  refine lv_if_eq (tgt := 11) hx hb dX0_remove_6 (by decide) (fun c6 => ?_) (fun c6 => ?_)
  · have hbd := st_b0 hr0 c6
    have hbd0 := hbd
    obtain ⟨i, j, rfl, rfl, hij, hj⟩ := st_bad_no (by omega) hbd0
    refine lv_aload_n hx hb dX0_remove_11 rfl (lv_at hl 0 rfl) ?_
    refine lv_iload_n hx hb dX0_remove_12 rfl (lv_at hl 1 rfl) ?_
    refine lv_iload_n hx hb dX0_remove_13 rfl (lv_at hl 2 rfl) ?_
    refine x_callv (n := 2) (As := [.int (nI i), .int (nI j)]) (rest := []) C w (m_delete l (L.length) g k f d b cell size look hL hS i j L E hX hE hLE hij hj (by omega)) q138 q140 qs13 q141 rfl (by decide +kernel) rfl ⟨rfl, rfl⟩ ⟨Nat.le_of_ble_eq_true rfl, Nat.le_of_ble_eq_true rfl⟩ ⟨Nat.le_refl _, Nat.le_refl _⟩ rfl hl.1 (Nat.le_of_ble_eq_true rfl) dX0_remove_14 (fun u H locs hp w => ?_)
    obtain ⟨g2, k2, b2, cl2, sz2, lk2, rfl, hX2, hE2⟩ := hp
    refine lv_aload_n hx hb dX0_remove_17 rfl (lv_at hl 0 rfl) ?_
    refine x_get C w 0 (v := .int (nI (L.length - (j - i)))) q39 (by decide) rfl dX0_remove_18 ?_
    have hop : st_oRemove (nI i) (nI j) (L, E, f) = (nI (L.length - (j - i)), st_del L i j, st_del E i j, st_dfl f i j) := by unfold st_oRemove; rw [if_neg hbd, st_clamp (show i ≤ 64 by omega), st_clamp (show j ≤ 64 by omega)]
    exact hend _ _ _ _ ((nI (L.length - (j - i)))) (L.length - (j - i), g2, k2, st_dfl f i j, d, b2, cl2, sz2, lk2, hL, hS) (by rw [hop]; exact ⟨rfl, hX2, hE2, by rw [st_del_len hij (by omega), hLE], rfl, st_dfl_le hij hj hf⟩) w rfl dX0_remove_21
  · refine lv_iconst (v := (-1)) hx hb dX0_remove_9 (by decide) ?_
    have hop : st_oRemove vi vj (L, E, f) = (-1, L, E, f) := by unfold st_oRemove; exact if_pos (st_b1 hr0 c6)
    exact hend _ _ _ _ ((-1)) (L.length, g, k, f, d, b, cell, size, look, hL, hS) (by rw [hop]; exact ⟨rfl, hX, hE, hLE, rfl, hf⟩) w rfl dX0_remove_10
set_option maxHeartbeats 4000000 in
/-- move -/
theorem px_move (l : Launch) (g k f d b : Nat) (cell : Nat → Int32) (size : Nat → Nat) (look hL hS : Nat → Int32) (L E : List Int32) (vi vj v : Int32) (hX : st_XL L.length g cell L) (hE : st_XE k size look E) (hLE : E.length = L.length) (hf : f ≤ L.length) : XMi l yX0_move cX0_move 4 .int (st_rm 4 93) [.int vi, .int vj, .int v] (L.length, g, k, f, d, b, cell, size, look, hL, hS) (fun r u => r = (st_oMove vi vj v (L, E, f)).1 ∧ st_XR u (st_oMove vi vj v (L, E, f)).2) := by
  intro D ad ca
  refine g_enter_i RX0 rfl (by decide +kernel) (Nat.le_of_ble_eq_true rfl) ?_
  intro p e s m below meth c A Q args ls C w hl hend
  have hx := C.1
  have hb := C.2.1
  have hl : lv_has ls 4 [(0, .ref (ad 0)), (1, .int vi), (2, .int vj), (3, .int v)] := hl
  have hn := hX.2.1
  have hg := hX.2.2.1
  refine lv_aload_n hx hb dX0_move_0 rfl (lv_at hl 0 rfl) ?_
  refine lv_iload_n hx hb dX0_move_1 rfl (lv_at hl 1 rfl) ?_
  refine lv_iload_n hx hb dX0_move_2 rfl (lv_at hl 2 rfl) ?_
  refine x_calli (n := 2) (As := [.int vi, .int vj]) (rest := []) C w (m_bad l (L.length) g k f d b cell size look hL hS vi vj) q134 q136 qs12 q137 rfl (by decide +kernel) rfl ⟨rfl, rfl⟩ ⟨Nat.le_of_ble_eq_true rfl, Nat.le_of_ble_eq_true rfl⟩ ⟨Nat.le_refl _, Nat.le_refl _⟩ rfl hl.1 (Nat.le_of_ble_eq_true rfl) dX0_move_3 (fun r0 u H locs hp w => ?_)
  obtain ⟨rfl, hr0⟩ := hp
  refine lv_if_ne (tgt := 25) hx hb dX0_move_6 (by decide) (fun c6 => ?_) (fun c6 => ?_)
  · refine lv_iconst (v := (-1)) hx hb dX0_move_25 (by decide) ?_
    have hop : st_oMove vi vj v (L, E, f) = (-1, L, E, f) := by unfold st_oMove; exact if_pos (Or.inl (st_b1 hr0 c6))
    exact hend _ _ _ _ ((-1)) (L.length, g, k, f, d, b, cell, size, look, hL, hS) (by rw [hop]; exact ⟨rfl, hX, hE, hLE, rfl, hf⟩) w rfl dX0_move_26
  · have hbd := st_b0 hr0 c6
    have hbd0 := hbd
    obtain ⟨i, j, rfl, rfl, hij, hj⟩ := st_bad_no (by omega) hbd0
    refine lv_iload_n hx hb dX0_move_9 rfl (lv_at hl 3 rfl) ?_
    refine lv_if_lt (tgt := 25) hx hb dX0_move_10 (by decide) (fun c10 => ?_) (fun c10 => ?_)
    · refine lv_iconst (v := (-1)) hx hb dX0_move_25 (by decide) ?_
      have hop : st_oMove (nI i) (nI j) v (L, E, f) = (-1, L, E, f) := by unfold st_oMove; rw [st_clamp (show i ≤ 64 by omega), st_clamp (show j ≤ 64 by omega)]; exact if_pos (Or.inr (Or.inl c10))
      exact hend _ _ _ _ ((-1)) (L.length, g, k, f, d, b, cell, size, look, hL, hS) (by rw [hop]; exact ⟨rfl, hX, hE, hLE, rfl, hf⟩) w rfl dX0_move_26
    · refine lv_iload_n hx hb dX0_move_13 rfl (lv_at hl 3 rfl) ?_
      refine lv_aload_n hx hb dX0_move_14 rfl (lv_at hl 0 rfl) ?_
      refine x_get C w 0 (v := .int (nI (L.length))) q39 (by decide) rfl dX0_move_15 ?_
      refine lv_iload_n hx hb dX0_move_18 rfl (lv_at hl 2 rfl) ?_
      refine lv_iload_n hx hb dX0_move_19 rfl (lv_at hl 1 rfl) ?_
      refine n_isub hx hb (by omega) dX0_move_20 ?_
      refine n_isub hx hb (by omega) dX0_move_21 ?_
      refine lv_icmp_le (tgt := 27) hx hb dX0_move_22 (by decide) (fun c22 => ?_) (fun c22 => ?_)
      · obtain ⟨q, hq, rfl⟩ := st_le_nI (by omega) c10 c22
        refine lv_aload_n hx hb dX0_move_27 rfl (lv_at hl 0 rfl) ?_
        refine lv_iload_n hx hb dX0_move_28 rfl (lv_at hl 1 rfl) ?_
        refine lv_iload_n hx hb dX0_move_29 rfl (lv_at hl 2 rfl) ?_
        refine x_callv (n := 2) (As := [.int (nI i), .int (nI j)]) (rest := []) C w (m_hold l (L.length) g k f d b cell size look hL hS i j L E hX hE hLE hij hj) q154 q156 qs16 q157 rfl (by decide +kernel) rfl ⟨rfl, rfl⟩ ⟨Nat.le_of_ble_eq_true rfl, Nat.le_of_ble_eq_true rfl⟩ ⟨Nat.le_refl _, Nat.le_refl _⟩ rfl hl.1 (Nat.le_of_ble_eq_true rfl) dX0_move_30 (fun u H locs hp w => ?_)
        obtain ⟨b1, h1, h2, rfl, hh1, hh2⟩ := hp
        refine lv_aload_n hx hb dX0_move_33 rfl (lv_at hl 0 rfl) ?_
        refine lv_iload_n hx hb dX0_move_34 rfl (lv_at hl 1 rfl) ?_
        refine lv_iload_n hx hb dX0_move_35 rfl (lv_at hl 2 rfl) ?_
        refine x_callv (n := 2) (As := [.int (nI i), .int (nI j)]) (rest := []) C w (m_delete l (L.length) g k f (j - i) b1 cell size look h1 h2 i j L E hX hE hLE hij hj (by omega)) q138 q140 qs13 q141 rfl (by decide +kernel) rfl ⟨rfl, rfl⟩ ⟨Nat.le_of_ble_eq_true rfl, Nat.le_of_ble_eq_true rfl⟩ ⟨Nat.le_refl _, Nat.le_refl _⟩ rfl hl.1 (Nat.le_of_ble_eq_true rfl) dX0_move_36 (fun u H locs hp w => ?_)
        obtain ⟨g2, k2, b2, cl2, sz2, lk2, rfl, hX2, hE2⟩ := hp
        refine lv_aload_n hx hb dX0_move_39 rfl (lv_at hl 0 rfl) ?_
        refine lv_iload_n hx hb dX0_move_40 rfl (lv_at hl 3 rfl) ?_
        refine x_callv (n := 1) (As := [.int (nI q)]) (rest := []) C w (m_giveBack l (L.length - (j - i)) g2 k2 (st_dfl f i j) (j - i) b2 cl2 sz2 lk2 h1 h2 q (st_del L i j) (st_del E i j) (st_seg L i j) (st_seg E i j) hX2 hE2 (by rw [st_del_len hij (by omega), hLE]) (by omega) (by omega) (Nat.le_trans (st_dfl_le hij hj hf) (by omega)) (st_seg_len hij hj) (st_seg_len hij (by omega)) (fun x hx => by rw [st_seg_get hx]; exact hh1 x hx) (fun x hx => by rw [st_seg_get hx]; exact hh2 x hx)) q162 q164 qs18 q165 rfl (by decide +kernel) rfl ⟨rfl, rfl⟩ ⟨Nat.le_of_ble_eq_true rfl, Nat.le_of_ble_eq_true rfl⟩ ⟨Nat.le_refl _, Nat.le_refl _⟩ rfl hl.1 (Nat.le_of_ble_eq_true rfl) dX0_move_41 (fun u H locs hp w => ?_)
        obtain ⟨g3, k3, b3, cl3, sz3, lk3, rfl, hX3, hE3⟩ := hp
        refine lv_iconst (v := nI 0) hx hb dX0_move_44 (by decide) ?_
        have hop : st_oMove (nI i) (nI j) (nI q) (L, E, f) = (0, st_ins (st_del L i j) q (st_seg L i j), st_ins (st_del E i j) q (st_seg E i j), st_mfl f i j q) := by unfold st_oMove; rw [st_clamp (show i ≤ 64 by omega), st_clamp (show j ≤ 64 by omega), st_clamp (show q ≤ 64 by omega)]; exact if_neg (fun z => z.elim hbd (fun z => z.elim c10 (fun z => z c22)))
        exact hend _ _ _ _ ((nI 0)) (L.length - (j - i) + (j - i), g3, k3, if q < st_dfl f i j then st_dfl f i j + (j - i) else st_dfl f i j, j - i, b3, cl3, sz3, lk3, h1, h2) (by rw [hop]; exact ⟨rfl, hX3, hE3, by rw [st_ins_len (by rw [st_del_len hij (by omega)]; omega), st_seg_len hij (by omega), st_del_len hij (by omega), hLE], rfl, st_mfl_le hij hj hf⟩) w rfl dX0_move_45
      · refine lv_iconst (v := (-1)) hx hb dX0_move_25 (by decide) ?_
        have hop : st_oMove (nI i) (nI j) v (L, E, f) = (-1, L, E, f) := by unfold st_oMove; rw [st_clamp (show i ≤ 64 by omega), st_clamp (show j ≤ 64 by omega)]; exact if_pos (Or.inr (Or.inr c22))
        exact hend _ _ _ _ ((-1)) (L.length, g, k, f, d, b, cell, size, look, hL, hS) (by rw [hop]; exact ⟨rfl, hX, hE, hLE, rfl, hf⟩) w rfl dX0_move_26
set_option maxHeartbeats 4000000 in
/-- copy -/
theorem px_copy (l : Launch) (g k f d b : Nat) (cell : Nat → Int32) (size : Nat → Nat) (look hL hS : Nat → Int32) (L E : List Int32) (vi vj v : Int32) (hX : st_XL L.length g cell L) (hE : st_XE k size look E) (hLE : E.length = L.length) (hf : f ≤ L.length) : XMi l yX0_copy cX0_copy 4 .int (st_rm 4 93) [.int vi, .int vj, .int v] (L.length, g, k, f, d, b, cell, size, look, hL, hS) (fun r u => r = (st_oCopy vi vj v (L, E, f)).1 ∧ st_XR u (st_oCopy vi vj v (L, E, f)).2) := by
  intro D ad ca
  refine g_enter_i RX0 rfl (by decide +kernel) (Nat.le_of_ble_eq_true rfl) ?_
  intro p e s m below meth c A Q args ls C w hl hend
  have hx := C.1
  have hb := C.2.1
  have hl : lv_has ls 4 [(0, .ref (ad 0)), (1, .int vi), (2, .int vj), (3, .int v)] := hl
  have hn := hX.2.1
  have hg := hX.2.2.1
  refine lv_aload_n hx hb dX0_copy_0 rfl (lv_at hl 0 rfl) ?_
  refine lv_iload_n hx hb dX0_copy_1 rfl (lv_at hl 1 rfl) ?_
  refine lv_iload_n hx hb dX0_copy_2 rfl (lv_at hl 2 rfl) ?_
  refine x_calli (n := 2) (As := [.int vi, .int vj]) (rest := []) C w (m_bad l (L.length) g k f d b cell size look hL hS vi vj) q134 q136 qs12 q137 rfl (by decide +kernel) rfl ⟨rfl, rfl⟩ ⟨Nat.le_of_ble_eq_true rfl, Nat.le_of_ble_eq_true rfl⟩ ⟨Nat.le_refl _, Nat.le_refl _⟩ rfl hl.1 (Nat.le_of_ble_eq_true rfl) dX0_copy_3 (fun r0 u H locs hp w => ?_)
  obtain ⟨rfl, hr0⟩ := hp
  refine lv_if_ne (tgt := 21) hx hb dX0_copy_6 (by decide) (fun c6 => ?_) (fun c6 => ?_)
  · refine lv_iconst (v := (-1)) hx hb dX0_copy_21 (by decide) ?_
    have hop : st_oCopy vi vj v (L, E, f) = (-1, L, E, f) := by unfold st_oCopy; exact if_pos (Or.inl (st_b1 hr0 c6))
    exact hend _ _ _ _ ((-1)) (L.length, g, k, f, d, b, cell, size, look, hL, hS) (by rw [hop]; exact ⟨rfl, hX, hE, hLE, rfl, hf⟩) w rfl dX0_copy_22
  · refine lv_iload_n hx hb dX0_copy_9 rfl (lv_at hl 3 rfl) ?_
    refine lv_if_lt (tgt := 21) hx hb dX0_copy_10 (by decide) (fun c10 => ?_) (fun c10 => ?_)
    · refine lv_iconst (v := (-1)) hx hb dX0_copy_21 (by decide) ?_
      have hop : st_oCopy vi vj v (L, E, f) = (-1, L, E, f) := by unfold st_oCopy; exact if_pos (Or.inr (Or.inl c10))
      exact hend _ _ _ _ ((-1)) (L.length, g, k, f, d, b, cell, size, look, hL, hS) (by rw [hop]; exact ⟨rfl, hX, hE, hLE, rfl, hf⟩) w rfl dX0_copy_22
    · refine lv_iload_n hx hb dX0_copy_13 rfl (lv_at hl 3 rfl) ?_
      refine lv_aload_n hx hb dX0_copy_14 rfl (lv_at hl 0 rfl) ?_
      refine x_get C w 0 (v := .int (nI (L.length))) q39 (by decide) rfl dX0_copy_15 ?_
      refine lv_icmp_le (tgt := 23) hx hb dX0_copy_18 (by decide) (fun c18 => ?_) (fun c18 => ?_)
      · have hbd := st_b0 hr0 c6
        have hbd0 := hbd
        obtain ⟨i, j, rfl, rfl, hij, hj⟩ := st_bad_no (by omega) hbd0
        obtain ⟨q, hq, rfl⟩ := st_le_nI (by omega) c10 c18
        refine lv_aload_n hx hb dX0_copy_23 rfl (lv_at hl 0 rfl) ?_
        refine x_get C w 0 (v := .int (nI (L.length))) q39 (by decide) rfl dX0_copy_24 ?_
        refine lv_iload_n hx hb dX0_copy_27 rfl (lv_at hl 2 rfl) ?_
        refine n_iadd hx hb dX0_copy_28 ?_
        refine lv_iload_n hx hb dX0_copy_29 rfl (lv_at hl 1 rfl) ?_
        refine n_isub hx hb (by omega) dX0_copy_30 ?_
        refine lv_bipush (v := nI 64) hx hb dX0_copy_31 (by decide) ?_
        refine n_icmp_le (tgt := 39) hx hb dX0_copy_33 (by decide) (by omega) (by omega) (fun c33 => ?_) (fun c33 => ?_)
        · refine lv_aload_n hx hb dX0_copy_39 rfl (lv_at hl 0 rfl) ?_
          refine lv_iload_n hx hb dX0_copy_40 rfl (lv_at hl 1 rfl) ?_
          refine lv_iload_n hx hb dX0_copy_41 rfl (lv_at hl 2 rfl) ?_
          refine x_callv (n := 2) (As := [.int (nI i), .int (nI j)]) (rest := []) C w (m_hold l (L.length) g k f d b cell size look hL hS i j L E hX hE hLE hij hj) q154 q156 qs16 q157 rfl (by decide +kernel) rfl ⟨rfl, rfl⟩ ⟨Nat.le_of_ble_eq_true rfl, Nat.le_of_ble_eq_true rfl⟩ ⟨Nat.le_refl _, Nat.le_refl _⟩ rfl hl.1 (Nat.le_of_ble_eq_true rfl) dX0_copy_42 (fun u H locs hp w => ?_)
          obtain ⟨b1, h1, h2, rfl, hh1, hh2⟩ := hp
          refine lv_aload_n hx hb dX0_copy_45 rfl (lv_at hl 0 rfl) ?_
          refine lv_iload_n hx hb dX0_copy_46 rfl (lv_at hl 3 rfl) ?_
          refine x_callv (n := 1) (As := [.int (nI q)]) (rest := []) C w (m_giveBack l (L.length) g k f (j - i) b1 cell size look h1 h2 q L E (st_seg L i j) (st_seg E i j) hX hE hLE (by omega) (by omega) (by omega) (st_seg_len hij hj) (st_seg_len hij (by omega)) (fun x hx => by rw [st_seg_get hx]; exact hh1 x hx) (fun x hx => by rw [st_seg_get hx]; exact hh2 x hx)) q162 q164 qs18 q165 rfl (by decide +kernel) rfl ⟨rfl, rfl⟩ ⟨Nat.le_of_ble_eq_true rfl, Nat.le_of_ble_eq_true rfl⟩ ⟨Nat.le_refl _, Nat.le_refl _⟩ rfl hl.1 (Nat.le_of_ble_eq_true rfl) dX0_copy_47 (fun u H locs hp w => ?_)
          obtain ⟨g3, k3, b3, cl3, sz3, lk3, rfl, hX3, hE3⟩ := hp
          refine lv_aload_n hx hb dX0_copy_50 rfl (lv_at hl 0 rfl) ?_
          refine x_get C w 0 (v := .int (nI (L.length + (j - i)))) q39 (by decide) rfl dX0_copy_51 ?_
          have hop : st_oCopy (nI i) (nI j) (nI q) (L, E, f) = (nI (L.length + (j - i)), st_ins L q (st_seg L i j), st_ins E q (st_seg E i j), if q < f then f + (j - i) else f) := by unfold st_oCopy; rw [if_neg (fun z => z.elim hbd (fun z => z.elim c10 (fun z => z c18))), st_clamp (show i ≤ 64 by omega), st_clamp (show j ≤ 64 by omega), st_clamp (show q ≤ 64 by omega)]; exact if_neg (by show ¬ 64 < L.length + (j - i); omega)
          exact hend _ _ _ _ ((nI (L.length + (j - i)))) (L.length + (j - i), g3, k3, if q < f then f + (j - i) else f, j - i, b3, cl3, sz3, lk3, h1, h2) (by rw [hop]; exact ⟨rfl, hX3, hE3, by rw [st_ins_len (by omega), st_seg_len hij (by omega), hLE], rfl, by show (if q < f then f + (j - i) else f) ≤ L.length + (j - i); split <;> omega⟩) w rfl dX0_copy_54
        · refine lv_bipush (v := (-2)) hx hb dX0_copy_36 (by decide) ?_
          have hop : st_oCopy (nI i) (nI j) (nI q) (L, E, f) = (-2, L, E, f) := by unfold st_oCopy; rw [if_neg (fun z => z.elim hbd (fun z => z.elim c10 (fun z => z c18))), st_clamp (show i ≤ 64 by omega), st_clamp (show j ≤ 64 by omega)]; exact if_pos (by show 64 < L.length + (j - i); omega)
          exact hend _ _ _ _ ((-2)) (L.length, g, k, f, d, b, cell, size, look, hL, hS) (by rw [hop]; exact ⟨rfl, hX, hE, hLE, rfl, hf⟩) w rfl dX0_copy_38
      · refine lv_iconst (v := (-1)) hx hb dX0_copy_21 (by decide) ?_
        have hop : st_oCopy vi vj v (L, E, f) = (-1, L, E, f) := by unfold st_oCopy; exact if_pos (Or.inr (Or.inr c18))
        exact hend _ _ _ _ ((-1)) (L.length, g, k, f, d, b, cell, size, look, hL, hS) (by rw [hop]; exact ⟨rfl, hX, hE, hLE, rfl, hf⟩) w rfl dX0_copy_22
set_option maxHeartbeats 4000000 in
/-- replace -/
theorem px_replace (l : Launch) (g k f d b : Nat) (cell : Nat → Int32) (size : Nat → Nat) (look hL hS : Nat → Int32) (L E : List Int32) (c0 v : Int32) (hX : st_XL L.length g cell L) (hE : st_XE k size look E) (hLE : E.length = L.length) (hf : f ≤ L.length) : XMi l yX0_replace cX0_replace 6 .int (st_rm 1 21) [.int c0, .int v] (L.length, g, k, f, d, b, cell, size, look, hL, hS) (fun r u => r = (st_oReplace c0 v (L, E, f)).1 ∧ st_XR u (st_oReplace c0 v (L, E, f)).2) := by
  intro D ad ca
  refine g_enter_i RX0 rfl (by decide +kernel) (Nat.le_of_ble_eq_true rfl) ?_
  intro p e s m below meth c A Q args ls C w hl hend
  have hx := C.1
  have hb := C.2.1
  have hl : lv_has ls 6 [(0, .ref (ad 0)), (1, .int c0), (2, .int v)] := hl
  have hn := hX.2.1
  have hg := hX.2.2.1
  have loop : ∀ (N : Nat) (t : Nat) (cl : Nat → Int32), L.length - t < N → (t ≤ L.length) → (st_XL L.length g cl (st_rp (fun x => if x = c0 then v else x) L t)) → (¬ (st_badL c0 ∨ st_badL v)) → ∀ (H : Heap) (locs : List Loc) (ls : Array Slot), wd D A s (xw ad ca (L.length, g, k, f, d, b, cl, size, look, hL, hS)) (xt ca) H locs → lv_has ls 6 [(0, .ref (ad 0)), (1, .int c0), (2, .int v), (3, .int (nI ((L.take t).countP (fun x => decide (x = c0))))), (4, .int (nI t))] → W p l e (st_rm 1 21) s m args below meth c H locs 0 0 Q (F0 m 23 ls []) := by
    intro N
    induction N with
    | zero => intro t cl hN; exact absurd hN (Nat.not_lt_zero _)
    | succ N ih =>
      intro t cl hN h1 hX1 hbd H locs ls w hl
      refine lv_iload hx hb dX0_replace_23 (lv_at hl 4 rfl) ?_
      refine lv_aload_n hx hb dX0_replace_25 rfl (lv_at hl 0 rfl) ?_
      refine x_get C w 0 (v := .int (nI (L.length))) q39 (by decide) rfl dX0_replace_26 ?_
      refine n_icmp_ge (tgt := 68) hx hb dX0_replace_29 (by decide) (by omega) (by omega) (fun c29 => ?_) (fun c29 => ?_)
      · refine lv_iload_n hx hb dX0_replace_68 rfl (lv_at hl 3 rfl) ?_
        have htn : t = L.length := by omega
        subst htn
        rw [st_rp_n] at hX1
        have hop : st_oReplace c0 v (L, E, f) = (nI ((L.take L.length).countP (fun x => decide (x = c0))), L.map (fun x => if x = c0 then v else x), E, f) := by unfold st_oReplace; rw [if_neg hbd, List.take_length]
        exact hend _ _ _ _ ((nI ((L.take L.length).countP (fun x => decide (x = c0))))) (L.length, g, k, f, d, b, cl, size, look, hL, hS) (by rw [hop]; exact ⟨rfl, hX1, hE, hLE, rfl, hf⟩) w rfl dX0_replace_69
      · have hct := st_cnt_le (p := fun x => decide (x = c0)) L t
        have hv0 : L[t]? = some (cl (st_ci L.length g t)) := by rw [← hX1.2.2.2 t c29, st_rp_get h1, if_neg (Nat.lt_irrefl _)]
        have hcs := st_cnt_s (p := fun x => decide (x = c0)) hv0
        refine lv_aload_n hx hb dX0_replace_32 rfl (lv_at hl 0 rfl) ?_
        refine lv_iload hx hb dX0_replace_33 (lv_at hl 4 rfl) ?_
        refine x_calli (n := 1) (As := [.int (nI t)]) (rest := []) C w (m_cellOf l (L.length) g k f d b cl size look hL hS t (by omega) (by omega) (by omega)) q158 q160 qs17 q161 rfl (by decide +kernel) rfl ⟨rfl, rfl⟩ ⟨Nat.le_of_ble_eq_true rfl, Nat.le_of_ble_eq_true rfl⟩ ⟨Nat.le_refl _, Nat.le_refl _⟩ rfl hl.1 (Nat.le_of_ble_eq_true rfl) dX0_replace_35 (fun r u H locs hp w => ?_)
        obtain ⟨rfl, rfl⟩ := hp
        refine lv_istore (lv' := [(5, .int (nI (st_ci (L.length) g t))), (0, .ref (ad 0)), (1, .int c0), (2, .int v), (3, .int (nI ((L.take t).countP (fun x => decide (x = c0))))), (4, .int (nI t))]) hx hb dX0_replace_38 hl (by decide) rfl (fun ls hl => ?_)
        refine lv_aload_n hx hb dX0_replace_40 rfl (lv_at hl 1 rfl) ?_
        refine x_get C w 2 (v := .ref (ad 1)) q41 (by decide) rfl dX0_replace_41 ?_
        refine lv_iload hx hb dX0_replace_44 (lv_at hl 0 rfl) ?_
        refine x_ld C w 0 (n := 64) (f := cl) (i := st_ci (L.length) g t) rfl rfl (st_ci_lt hn hg c29) (by decide) dX0_replace_46 ?_
        refine lv_iload_n hx hb dX0_replace_47 rfl (lv_at hl 2 rfl) ?_
        refine lv_icmp_ne (tgt := 62) hx hb dX0_replace_48 (by decide) (fun c48 => ?_) (fun c48 => ?_)
        · rw [if_neg (by simpa using c48)] at hcs
          change _ = List.countP _ (List.take t L) at hcs
          rw [← hcs] at hl
          refine lv_iinc (v := (nI (t + 1))) (lv' := [(4, .int (nI (t + 1))), (5, .int (nI (st_ci (L.length) g t))), (0, .ref (ad 0)), (1, .int c0), (2, .int v), (3, .int (nI ((L.take (t + 1)).countP (fun x => decide (x = c0)))))]) hx hb dX0_replace_62 hl (k := 5) rfl (n_inc _) (by decide) rfl (fun ls hl => ?_)
          refine lv_goto (tgt := 23) hx hb dX0_replace_65 (by decide) ?_
          exact ih (t + 1) _ (by omega) (by omega) (by rw [← st_rp_e (F := (fun x => if x = c0 then v else x)) hv0 (if_neg c48)]; exact hX1) (hbd) _ _ _ w (lv_sub hl [2, 3, 4, 5, 0] rfl)
        · refine lv_aload_n hx hb dX0_replace_51 rfl (lv_at hl 1 rfl) ?_
          refine x_get C w 2 (v := .ref (ad 1)) q41 (by decide) rfl dX0_replace_52 ?_
          refine lv_iload hx hb dX0_replace_55 (lv_at hl 0 rfl) ?_
          refine lv_iload_n hx hb dX0_replace_57 rfl (lv_at hl 3 rfl) ?_
          refine x_st C w 0 (n := 64) (f := cl) (i := st_ci (L.length) g t) (L.length, g, k, f, d, b, upd cl (st_ci (L.length) g t) v, size, look, hL, hS) rfl rfl (st_ci_lt hn hg c29) (by decide) rfl dX0_replace_58 (fun H locs w => ?_)
          refine lv_iinc (v := (nI ((L.take t).countP (fun x => decide (x = c0)) + 1))) (lv' := [(3, .int (nI ((L.take t).countP (fun x => decide (x = c0)) + 1))), (5, .int (nI (st_ci (L.length) g t))), (0, .ref (ad 0)), (1, .int c0), (2, .int v), (4, .int (nI t))]) hx hb dX0_replace_59 hl (k := 4) rfl (n_inc _) (by decide) rfl (fun ls hl => ?_)
          rw [if_pos (by simpa using c48)] at hcs
          rw [← hcs] at hl
          refine lv_iinc (v := (nI (t + 1))) (lv' := [(4, .int (nI (t + 1))), (3, .int (nI ((L.take (t + 1)).countP (fun x => decide (x = c0))))), (5, .int (nI (st_ci (L.length) g t))), (0, .ref (ad 0)), (1, .int c0), (2, .int v)]) hx hb dX0_replace_62 hl (k := 5) rfl (n_inc _) (by decide) rfl (fun ls hl => ?_)
          refine lv_goto (tgt := 23) hx hb dX0_replace_65 (by decide) ?_
          exact ih (t + 1) _ (by omega) (by omega) (by rw [← st_rp_s hv0]; show st_XL _ _ _ (List.set _ _ (if _ = _ then _ else _)); rw [if_pos c48]; exact st_XL_set hX1 c29) (hbd) _ _ _ w (lv_sub hl [3, 4, 5, 1, 0] rfl)
  refine lv_aload_n hx hb dX0_replace_0 rfl (lv_at hl 0 rfl) ?_
  refine lv_iload_n hx hb dX0_replace_1 rfl (lv_at hl 1 rfl) ?_
  refine x_calli (n := 1) (As := [.int c0]) (rest := []) C w (m_badLetter l (L.length) g k f d b cell size look hL hS c0) q78 q80 qs0 q81 rfl (by decide +kernel) rfl ⟨rfl, rfl⟩ ⟨Nat.le_of_ble_eq_true rfl, Nat.le_of_ble_eq_true rfl⟩ ⟨Nat.le_refl _, Nat.le_refl _⟩ rfl hl.1 (Nat.le_of_ble_eq_true rfl) dX0_replace_2 (fun r0 u H locs hp w => ?_)
  obtain ⟨rfl, hr0⟩ := hp
  refine lv_if_ne (tgt := 16) hx hb dX0_replace_5 (by decide) (fun c5 => ?_) (fun c5 => ?_)
  · refine lv_iconst (v := (-1)) hx hb dX0_replace_16 (by decide) ?_
    have hop : st_oReplace c0 v (L, E, f) = (-1, L, E, f) := by unfold st_oReplace; exact if_pos (Or.inl (st_b1 hr0 c5))
    exact hend _ _ _ _ ((-1)) (L.length, g, k, f, d, b, cell, size, look, hL, hS) (by rw [hop]; exact ⟨rfl, hX, hE, hLE, rfl, hf⟩) w rfl dX0_replace_17
  · refine lv_aload_n hx hb dX0_replace_8 rfl (lv_at hl 0 rfl) ?_
    refine lv_iload_n hx hb dX0_replace_9 rfl (lv_at hl 2 rfl) ?_
    refine x_calli (n := 1) (As := [.int v]) (rest := []) C w (m_badLetter l (L.length) g k f d b cell size look hL hS v) q78 q80 qs0 q81 rfl (by decide +kernel) rfl ⟨rfl, rfl⟩ ⟨Nat.le_of_ble_eq_true rfl, Nat.le_of_ble_eq_true rfl⟩ ⟨Nat.le_refl _, Nat.le_refl _⟩ rfl hl.1 (Nat.le_of_ble_eq_true rfl) dX0_replace_10 (fun r1 u H locs hp w => ?_)
    obtain ⟨rfl, hr1⟩ := hp
    refine lv_if_eq (tgt := 18) hx hb dX0_replace_13 (by decide) (fun c13 => ?_) (fun c13 => ?_)
    · refine lv_iconst (v := nI 0) hx hb dX0_replace_18 (by decide) ?_
      refine lv_istore_n (lv' := [(3, .int (nI 0)), (0, .ref (ad 0)), (1, .int c0), (2, .int v)]) hx hb dX0_replace_19 rfl hl (by decide) rfl (fun ls hl => ?_)
      refine lv_iconst (v := nI 0) hx hb dX0_replace_20 (by decide) ?_
      refine lv_istore (lv' := [(4, .int (nI 0)), (3, .int (nI 0)), (0, .ref (ad 0)), (1, .int c0), (2, .int v)]) hx hb dX0_replace_21 hl (by decide) rfl (fun ls hl => ?_)
      exact loop (L.length + 1) 0 _ (by omega) (Nat.zero_le _) (by rw [st_rp_0]; exact hX) (fun z => z.elim (st_b0 hr0 c5) (st_b0 hr1 c13)) _ _ _ w (lv_sub hl [2, 3, 4, 1, 0] rfl)
    · refine lv_iconst (v := (-1)) hx hb dX0_replace_16 (by decide) ?_
      have hop : st_oReplace c0 v (L, E, f) = (-1, L, E, f) := by unfold st_oReplace; exact if_pos (Or.inr (st_b1 hr1 c13))
      exact hend _ _ _ _ ((-1)) (L.length, g, k, f, d, b, cell, size, look, hL, hS) (by rw [hop]; exact ⟨rfl, hX, hE, hLE, rfl, hf⟩) w rfl dX0_replace_17
end
section
set_option maxRecDepth 100000
set_option maxHeartbeats 4000000 in
/-- runs -/
theorem px_runs (l : Launch) (g k f d b : Nat) (cell : Nat → Int32) (size : Nat → Nat) (look hL hS : Nat → Int32) (L E : List Int32) (hX : st_XL L.length g cell L) (hE : st_XE k size look E) (hLE : E.length = L.length) (hf : f ≤ L.length) : XMi l yX0_runs cX0_runs 1 .int (st_rm 0 0) [] (L.length, g, k, f, d, b, cell, size, look, hL, hS) (fun r u => r = (st_oRuns (L, E, f)).1 ∧ st_XR u (st_oRuns (L, E, f)).2) := by
  intro D ad ca
  refine g_enter_i RX0 rfl (by decide +kernel) (Nat.le_of_ble_eq_true rfl) ?_
  intro p e s m below meth c A Q args ls C w hl hend
  have hx := C.1
  have hb := C.2.1
  have hl : lv_has ls 1 [(0, .ref (ad 0))] := hl
  have hn := hX.2.1
  have hg := hX.2.2.1
  refine lv_aload_n hx hb dX0_runs_0 rfl (lv_at hl 0 rfl) ?_
  refine x_get C w 3 (v := .int (nI k)) q42 (by decide) rfl dX0_runs_1 ?_
  have hop : st_oRuns  (L, E, f) = (nI k, L, E, f) := by unfold st_oRuns; rw [← st_XE_len hE, st_nb_hd hE (Nat.le_refl _)]
  exact hend _ _ _ _ ((nI k)) (L.length, g, k, f, d, b, cell, size, look, hL, hS) (by rw [hop]; exact ⟨rfl, hX, hE, hLE, rfl, hf⟩) w rfl dX0_runs_4
set_option maxHeartbeats 4000000 in
/-- runBegin -/
theorem px_runBegin (l : Launch) (g k f d b : Nat) (cell : Nat → Int32) (size : Nat → Nat) (look hL hS : Nat → Int32) (L E : List Int32) (v : Int32) (hX : st_XL L.length g cell L) (hE : st_XE k size look E) (hLE : E.length = L.length) (hf : f ≤ L.length) : XMi l yX0_runBegin cX0_runBegin 4 .int (st_rm 0 0) [.int v] (L.length, g, k, f, d, b, cell, size, look, hL, hS) (fun r u => r = (st_oRunBegin v (L, E, f)).1 ∧ st_XR u (st_oRunBegin v (L, E, f)).2) := by
  intro D ad ca
  refine g_enter_i RX0 rfl (by decide +kernel) (Nat.le_of_ble_eq_true rfl) ?_
  intro p e s m below meth c A Q args ls C w hl hend
  have hx := C.1
  have hb := C.2.1
  have hl : lv_has ls 4 [(0, .ref (ad 0)), (1, .int v)] := hl
  have hn := hX.2.1
  have hg := hX.2.2.1
  have hek := st_XE_k hE
  have he := st_XE_len hE
  have loop : ∀ (N : Nat) (t r : Nat), r - t < N → (t ≤ r) → (r < k) → (v = nI r) → ∀ (H : Heap) (locs : List Loc) (ls : Array Slot), wd D A s (xw ad ca (L.length, g, k, f, d, b, cell, size, look, hL, hS)) (xt ca) H locs → lv_has ls 4 [(0, .ref (ad 0)), (1, .int (nI r)), (2, .int (nI (st_ps size t))), (3, .int (nI t))] → W p l e (st_rm 0 0) s m args below meth c H locs 0 0 Q (F0 m 19 ls []) := by
    intro N
    induction N with
    | zero => intro t r hN; exact absurd hN (Nat.not_lt_zero _)
    | succ N ih =>
      intro t r hN ht hr hv H locs ls w hl
      refine lv_iload_n hx hb dX0_runBegin_19 rfl (lv_at hl 3 rfl) ?_
      refine lv_iload_n hx hb dX0_runBegin_20 rfl (lv_at hl 1 rfl) ?_
      refine n_icmp_ge (tgt := 39) hx hb dX0_runBegin_21 (by decide) (by omega) (by omega) (fun c21 => ?_) (fun c21 => ?_)
      · refine lv_iload_n hx hb dX0_runBegin_39 rfl (lv_at hl 2 rfl) ?_
        have hop : st_oRunBegin v (L, E, f) = (nI (st_ps size t), L, E, f) := by rw [hv]; unfold st_oRunBegin; dsimp only; rw [st_rb_some hE (by omega) hr, show t = r by omega]
        exact hend _ _ _ _ ((nI (st_ps size t))) (L.length, g, k, f, d, b, cell, size, look, hL, hS) (by rw [hop]; exact ⟨rfl, hX, hE, hLE, rfl, hf⟩) w rfl dX0_runBegin_40
      · refine lv_iload_n hx hb dX0_runBegin_24 rfl (lv_at hl 2 rfl) ?_
        refine lv_aload_n hx hb dX0_runBegin_25 rfl (lv_at hl 0 rfl) ?_
        refine x_get C w 4 (v := .ref (ad 2)) q43 (by decide) rfl dX0_runBegin_26 ?_
        refine lv_iload_n hx hb dX0_runBegin_29 rfl (lv_at hl 3 rfl) ?_
        refine x_ld C w 1 (n := 68) (f := fun j => nI (size j)) (i := t) rfl rfl (by omega) (by decide) dX0_runBegin_30 ?_
        refine n_iadd hx hb dX0_runBegin_31 ?_
        refine lv_istore_n (lv' := [(2, .int (nI ((st_ps size t) + (size t)))), (0, .ref (ad 0)), (1, .int (nI r)), (3, .int (nI t))]) hx hb dX0_runBegin_32 rfl hl (by decide) rfl (fun ls hl => ?_)
        refine lv_iinc (v := (nI (t + 1))) (lv' := [(3, .int (nI (t + 1))), (2, .int (nI ((st_ps size t) + (size t)))), (0, .ref (ad 0)), (1, .int (nI r))]) hx hb dX0_runBegin_33 hl (k := 3) rfl (n_inc _) (by decide) rfl (fun ls hl => ?_)
        refine lv_goto (tgt := 19) hx hb dX0_runBegin_36 (by decide) ?_
        exact ih (t + 1) r (by omega) (by omega) (hr) (hv) _ _ _ w (lv_sub hl [2, 3, 1, 0] rfl)
  refine lv_iload_n hx hb dX0_runBegin_0 rfl (lv_at hl 1 rfl) ?_
  refine lv_if_lt (tgt := 12) hx hb dX0_runBegin_1 (by decide) (fun c1 => ?_) (fun c1 => ?_)
  · refine lv_bipush (v := (-4)) hx hb dX0_runBegin_12 (by decide) ?_
    have hop : st_oRunBegin v (L, E, f) = (-4, L, E, f) := by unfold st_oRunBegin; dsimp only; rw [st_rb_none hE (by omega) (Or.inl c1)]
    exact hend _ _ _ _ ((-4)) (L.length, g, k, f, d, b, cell, size, look, hL, hS) (by rw [hop]; exact ⟨rfl, hX, hE, hLE, rfl, hf⟩) w rfl dX0_runBegin_14
  · refine lv_iload_n hx hb dX0_runBegin_4 rfl (lv_at hl 1 rfl) ?_
    refine lv_aload_n hx hb dX0_runBegin_5 rfl (lv_at hl 0 rfl) ?_
    refine x_get C w 3 (v := .int (nI k)) q42 (by decide) rfl dX0_runBegin_6 ?_
    refine lv_icmp_lt (tgt := 15) hx hb dX0_runBegin_9 (by decide) (fun c9 => ?_) (fun c9 => ?_)
    · obtain ⟨r, hr, rfl⟩ := st_lt_nI (by omega) c1 c9
      refine lv_iconst (v := nI 0) hx hb dX0_runBegin_15 (by decide) ?_
      refine lv_istore_n (lv' := [(2, .int (nI 0)), (0, .ref (ad 0)), (1, .int (nI r))]) hx hb dX0_runBegin_16 rfl hl (by decide) rfl (fun ls hl => ?_)
      refine lv_iconst (v := nI 0) hx hb dX0_runBegin_17 (by decide) ?_
      refine lv_istore_n (lv' := [(3, .int (nI 0)), (2, .int (nI 0)), (0, .ref (ad 0)), (1, .int (nI r))]) hx hb dX0_runBegin_18 rfl hl (by decide) rfl (fun ls hl => ?_)
      exact loop (r + 1) 0 r (by omega) (Nat.zero_le _) (hr) (rfl) _ _ _ w (lv_sub hl [2, 3, 1, 0] rfl)
    · refine lv_bipush (v := (-4)) hx hb dX0_runBegin_12 (by decide) ?_
      have hop : st_oRunBegin v (L, E, f) = (-4, L, E, f) := by unfold st_oRunBegin; dsimp only; rw [st_rb_none hE (by omega) (Or.inr c9)]
      exact hend _ _ _ _ ((-4)) (L.length, g, k, f, d, b, cell, size, look, hL, hS) (by rw [hop]; exact ⟨rfl, hX, hE, hLE, rfl, hf⟩) w rfl dX0_runBegin_14
set_option maxHeartbeats 4000000 in
/-- runStyle -/
theorem px_runStyle (l : Launch) (g k f d b : Nat) (cell : Nat → Int32) (size : Nat → Nat) (look hL hS : Nat → Int32) (L E : List Int32) (v : Int32) (hX : st_XL L.length g cell L) (hE : st_XE k size look E) (hLE : E.length = L.length) (hf : f ≤ L.length) : XMi l yX0_runStyle cX0_runStyle 2 .int (st_rm 0 0) [.int v] (L.length, g, k, f, d, b, cell, size, look, hL, hS) (fun r u => r = (st_oRunStyle v (L, E, f)).1 ∧ st_XR u (st_oRunStyle v (L, E, f)).2) := by
  intro D ad ca
  refine g_enter_i RX0 rfl (by decide +kernel) (Nat.le_of_ble_eq_true rfl) ?_
  intro p e s m below meth c A Q args ls C w hl hend
  have hx := C.1
  have hb := C.2.1
  have hl : lv_has ls 2 [(0, .ref (ad 0)), (1, .int v)] := hl
  have hn := hX.2.1
  have hg := hX.2.2.1
  have hek := st_XE_k hE
  refine lv_iload_n hx hb dX0_runStyle_0 rfl (lv_at hl 1 rfl) ?_
  refine lv_if_lt (tgt := 12) hx hb dX0_runStyle_1 (by decide) (fun c1 => ?_) (fun c1 => ?_)
  · refine lv_bipush (v := (-4)) hx hb dX0_runStyle_12 (by decide) ?_
    refine lv_goto (tgt := 23) hx hb dX0_runStyle_14 (by decide) ?_
    have hop : st_oRunStyle v (L, E, f) = (-4, L, E, f) := by unfold st_oRunStyle; dsimp only; rw [st_rb_none hE (by omega) (Or.inl c1)]
    exact hend _ _ _ _ ((-4)) (L.length, g, k, f, d, b, cell, size, look, hL, hS) (by rw [hop]; exact ⟨rfl, hX, hE, hLE, rfl, hf⟩) w rfl dX0_runStyle_23
  · refine lv_iload_n hx hb dX0_runStyle_4 rfl (lv_at hl 1 rfl) ?_
    refine lv_aload_n hx hb dX0_runStyle_5 rfl (lv_at hl 0 rfl) ?_
    refine x_get C w 3 (v := .int (nI k)) q42 (by decide) rfl dX0_runStyle_6 ?_
    refine lv_icmp_lt (tgt := 17) hx hb dX0_runStyle_9 (by decide) (fun c9 => ?_) (fun c9 => ?_)
    · obtain ⟨r, hr, rfl⟩ := st_lt_nI (by omega) c1 c9
      refine lv_aload_n hx hb dX0_runStyle_17 rfl (lv_at hl 0 rfl) ?_
      refine x_get C w 5 (v := .ref (ad 3)) q44 (by decide) rfl dX0_runStyle_18 ?_
      refine lv_iload_n hx hb dX0_runStyle_21 rfl (lv_at hl 1 rfl) ?_
      refine x_ld C w 2 (n := 68) (f := look) (i := r) rfl rfl (by omega) (by decide) dX0_runStyle_22 ?_
      have hps := st_Pos_rl (st_XE_pos hE) r hr
      have hop : st_oRunStyle (nI r) (L, E, f) = (look r, L, E, f) := by unfold st_oRunStyle; dsimp only; rw [st_rb_some hE (by omega) hr]; exact congrArg (fun z => (z, L, E, f)) (st_getD (st_XE_at hE hr (Nat.le_refl _) (by omega)))
      exact hend _ _ _ _ ((look r)) (L.length, g, k, f, d, b, cell, size, look, hL, hS) (by rw [hop]; exact ⟨rfl, hX, hE, hLE, rfl, hf⟩) w rfl dX0_runStyle_23
    · refine lv_bipush (v := (-4)) hx hb dX0_runStyle_12 (by decide) ?_
      refine lv_goto (tgt := 23) hx hb dX0_runStyle_14 (by decide) ?_
      have hop : st_oRunStyle v (L, E, f) = (-4, L, E, f) := by unfold st_oRunStyle; dsimp only; rw [st_rb_none hE (by omega) (Or.inr c9)]
      exact hend _ _ _ _ ((-4)) (L.length, g, k, f, d, b, cell, size, look, hL, hS) (by rw [hop]; exact ⟨rfl, hX, hE, hLE, rfl, hf⟩) w rfl dX0_runStyle_23
set_option maxHeartbeats 4000000 in
/-- runOf -/
theorem px_runOf (l : Launch) (g k f d b : Nat) (cell : Nat → Int32) (size : Nat → Nat) (look hL hS : Nat → Int32) (L E : List Int32) (v : Int32) (hX : st_XL L.length g cell L) (hE : st_XE k size look E) (hLE : E.length = L.length) (hf : f ≤ L.length) : XMi l yX0_runOf cX0_runOf 2 .int (st_rm 1 23) [.int v] (L.length, g, k, f, d, b, cell, size, look, hL, hS) (fun r u => r = (st_oRunOf v (L, E, f)).1 ∧ st_XR u (st_oRunOf v (L, E, f)).2) := by
  intro D ad ca
  refine g_enter_i RX0 rfl (by decide +kernel) (Nat.le_of_ble_eq_true rfl) ?_
  intro p e s m below meth c A Q args ls C w hl hend
  have hx := C.1
  have hb := C.2.1
  have hl : lv_has ls 2 [(0, .ref (ad 0)), (1, .int v)] := hl
  have hn := hX.2.1
  have hg := hX.2.2.1
  have hek := st_XE_k hE
  have he := st_XE_len hE
  refine lv_aload_n hx hb dX0_runOf_0 rfl (lv_at hl 0 rfl) ?_
  refine lv_iload_n hx hb dX0_runOf_1 rfl (lv_at hl 1 rfl) ?_
  refine x_calli (n := 1) (As := [.int v]) (rest := []) C w (m_off l (L.length) g k f d b cell size look hL hS v) q195 q197 qs20 q198 rfl (by decide +kernel) rfl ⟨rfl, rfl⟩ ⟨Nat.le_of_ble_eq_true rfl, Nat.le_of_ble_eq_true rfl⟩ ⟨Nat.le_refl _, Nat.le_refl _⟩ rfl hl.1 (Nat.le_of_ble_eq_true rfl) dX0_runOf_2 (fun r0 u H locs hp w => ?_)
  obtain ⟨rfl, hr0⟩ := hp
  refine lv_if_eq (tgt := 13) hx hb dX0_runOf_5 (by decide) (fun c5 => ?_) (fun c5 => ?_)
  · have hbd := st_b0 hr0 c5
    obtain ⟨q, hq, rfl⟩ := st_off_no (by omega) hbd
    refine lv_aload_n hx hb dX0_runOf_13 rfl (lv_at hl 0 rfl) ?_
    refine lv_iload_n hx hb dX0_runOf_14 rfl (lv_at hl 1 rfl) ?_
    refine x_calli (n := 1) (As := [.int (nI q)]) (rest := []) C w (m_runAt l (L.length) g k f d b cell size look hL hS q (by omega) (by omega) (by omega)) q86 q88 qs2 q89 rfl (by decide +kernel) rfl ⟨rfl, rfl⟩ ⟨Nat.le_of_ble_eq_true rfl, Nat.le_of_ble_eq_true rfl⟩ ⟨Nat.le_refl _, Nat.le_refl _⟩ rfl hl.1 (Nat.le_of_ble_eq_true rfl) dX0_runOf_15 (fun r u H locs hp w => ?_)
    obtain ⟨r, rfl, rfl, i0, i1, i2⟩ := hp
    have hrk : r < k := by rcases Nat.lt_or_ge r k with z | z; exact z; exfalso; rw [show r = k by omega] at i1; omega
    have i3 := i2 hrk
    have hop : st_oRunOf (nI q) (L, E, f) = (nI r, L, E, f) := by unfold st_oRunOf; rw [if_neg hbd, st_clamp (by omega), st_nb_run hE (q + 1) r hrk (by omega) (by omega), Nat.add_sub_cancel]
    exact hend _ _ _ _ ((nI r)) (L.length, g, k, f, d, st_ps size r, cell, size, look, hL, hS) (by rw [hop]; exact ⟨rfl, hX, hE, hLE, rfl, hf⟩) w rfl dX0_runOf_18
  · refine lv_bipush (v := (-4)) hx hb dX0_runOf_8 (by decide) ?_
    refine lv_goto (tgt := 18) hx hb dX0_runOf_10 (by decide) ?_
    have hop : st_oRunOf v (L, E, f) = (-4, L, E, f) := by unfold st_oRunOf; rw [if_pos (st_b1 hr0 c5)]
    exact hend _ _ _ _ ((-4)) (L.length, g, k, f, d, b, cell, size, look, hL, hS) (by rw [hop]; exact ⟨rfl, hX, hE, hLE, rfl, hf⟩) w rfl dX0_runOf_18
set_option maxHeartbeats 4000000 in
/-- having -/
theorem px_having (l : Launch) (g k f d b : Nat) (cell : Nat → Int32) (size : Nat → Nat) (look hL hS : Nat → Int32) (L E : List Int32) (v : Int32) (hX : st_XL L.length g cell L) (hE : st_XE k size look E) (hLE : E.length = L.length) (hf : f ≤ L.length) : XMi l yX0_having cX0_having 4 .int (st_rm 0 0) [.int v] (L.length, g, k, f, d, b, cell, size, look, hL, hS) (fun r u => r = (st_oHaving v (L, E, f)).1 ∧ st_XR u (st_oHaving v (L, E, f)).2) := by
  intro D ad ca
  refine g_enter_i RX0 rfl (by decide +kernel) (Nat.le_of_ble_eq_true rfl) ?_
  intro p e s m below meth c A Q args ls C w hl hend
  have hx := C.1
  have hb := C.2.1
  have hl : lv_has ls 4 [(0, .ref (ad 0)), (1, .int v)] := hl
  have hn := hX.2.1
  have hg := hX.2.2.1
  have hek := st_XE_k hE
  have loop : ∀ (N : Nat) (t : Nat), k - t < N → (t ≤ k) → (¬ (v < 0 ∨ ¬ v ≤ nI 7)) → ∀ (H : Heap) (locs : List Loc) (ls : Array Slot), wd D A s (xw ad ca (L.length, g, k, f, d, b, cell, size, look, hL, hS)) (xt ca) H locs → lv_has ls 4 [(0, .ref (ad 0)), (1, .int v), (2, .int (nI ((st_ex (st_rl t size look)).countP (fun e => decide (e &&& v = v))))), (3, .int (nI t))] → W p l e (st_rm 0 0) s m args below meth c H locs 0 0 Q (F0 m 16 ls []) := by
    intro N
    induction N with
    | zero => intro t hN; exact absurd hN (Nat.not_lt_zero _)
    | succ N ih =>
      intro t hN ht hbd H locs ls w hl
      refine lv_iload_n hx hb dX0_having_16 rfl (lv_at hl 3 rfl) ?_
      refine lv_aload_n hx hb dX0_having_17 rfl (lv_at hl 0 rfl) ?_
      refine x_get C w 3 (v := .int (nI k)) q42 (by decide) rfl dX0_having_18 ?_
      refine n_icmp_ge (tgt := 51) hx hb dX0_having_21 (by decide) (by omega) (by omega) (fun c21 => ?_) (fun c21 => ?_)
      · refine lv_iload_n hx hb dX0_having_51 rfl (lv_at hl 2 rfl) ?_
        have hop : st_oHaving v (L, E, f) = (nI ((st_ex (st_rl t size look)).countP (fun e => decide (e &&& v = v))), L, E, f) := by unfold st_oHaving; rw [if_neg hbd, show t = k by omega, hE.2]
        exact hend _ _ _ _ ((nI ((st_ex (st_rl t size look)).countP (fun e => decide (e &&& v = v))))) (L.length, g, k, f, d, b, cell, size, look, hL, hS) (by rw [hop]; exact ⟨rfl, hX, hE, hLE, rfl, hf⟩) w rfl dX0_having_52
      · have hcs := st_cp_s (fun e => decide (e &&& v = v)) t size look
        refine lv_aload_n hx hb dX0_having_24 rfl (lv_at hl 0 rfl) ?_
        refine x_get C w 5 (v := .ref (ad 3)) q44 (by decide) rfl dX0_having_25 ?_
        refine lv_iload_n hx hb dX0_having_28 rfl (lv_at hl 3 rfl) ?_
        refine x_ld C w 2 (n := 68) (f := look) (i := t) rfl rfl (by omega) (by decide) dX0_having_29 ?_
        refine lv_iload_n hx hb dX0_having_30 rfl (lv_at hl 1 rfl) ?_
        refine lv_iand hx hb dX0_having_31 ?_
        refine lv_iload_n hx hb dX0_having_32 rfl (lv_at hl 1 rfl) ?_
        refine lv_icmp_ne (tgt := 45) hx hb dX0_having_33 (by decide) (fun c33 => ?_) (fun c33 => ?_)
        · rw [if_neg (by simpa using c33)] at hcs
          change _ = List.countP _ (st_ex (st_rl t size look)) at hcs
          rw [← hcs] at hl
          refine lv_iinc (v := (nI (t + 1))) (lv' := [(3, .int (nI (t + 1))), (0, .ref (ad 0)), (1, .int v), (2, .int (nI ((st_ex (st_rl (t + 1) size look)).countP (fun e => decide (e &&& v = v)))))]) hx hb dX0_having_45 hl (k := 3) rfl (n_inc _) (by decide) rfl (fun ls hl => ?_)
          refine lv_goto (tgt := 16) hx hb dX0_having_48 (by decide) ?_
          exact ih (t + 1) (by omega) (by omega) (hbd) _ _ _ w (lv_sub hl [1, 2, 3, 0] rfl)
        · refine lv_iload_n hx hb dX0_having_36 rfl (lv_at hl 2 rfl) ?_
          refine lv_aload_n hx hb dX0_having_37 rfl (lv_at hl 0 rfl) ?_
          refine x_get C w 4 (v := .ref (ad 2)) q43 (by decide) rfl dX0_having_38 ?_
          refine lv_iload_n hx hb dX0_having_41 rfl (lv_at hl 3 rfl) ?_
          refine x_ld C w 1 (n := 68) (f := fun j => nI (size j)) (i := t) rfl rfl (by omega) (by decide) dX0_having_42 ?_
          refine n_iadd hx hb dX0_having_43 ?_
          refine lv_istore_n (lv' := [(2, .int (nI (((st_ex (st_rl t size look)).countP (fun e => decide (e &&& v = v))) + (size t)))), (0, .ref (ad 0)), (1, .int v), (3, .int (nI t))]) hx hb dX0_having_44 rfl hl (by decide) rfl (fun ls hl => ?_)
          rw [if_pos (by simpa using c33)] at hcs
          rw [← hcs] at hl
          refine lv_iinc (v := (nI (t + 1))) (lv' := [(3, .int (nI (t + 1))), (2, .int (nI ((st_ex (st_rl (t + 1) size look)).countP (fun e => decide (e &&& v = v))))), (0, .ref (ad 0)), (1, .int v)]) hx hb dX0_having_45 hl (k := 3) rfl (n_inc _) (by decide) rfl (fun ls hl => ?_)
          refine lv_goto (tgt := 16) hx hb dX0_having_48 (by decide) ?_
          exact ih (t + 1) (by omega) (by omega) (hbd) _ _ _ w (lv_sub hl [2, 3, 1, 0] rfl)
  refine lv_iload_n hx hb dX0_having_0 rfl (lv_at hl 1 rfl) ?_
  refine lv_if_lt (tgt := 10) hx hb dX0_having_1 (by decide) (fun c1 => ?_) (fun c1 => ?_)
  · refine lv_iconst (v := (-1)) hx hb dX0_having_10 (by decide) ?_
    have hop : st_oHaving v (L, E, f) = (-1, L, E, f) := by unfold st_oHaving; rw [if_pos (Or.inl c1)]
    exact hend _ _ _ _ ((-1)) (L.length, g, k, f, d, b, cell, size, look, hL, hS) (by rw [hop]; exact ⟨rfl, hX, hE, hLE, rfl, hf⟩) w rfl dX0_having_11
  · refine lv_iload_n hx hb dX0_having_4 rfl (lv_at hl 1 rfl) ?_
    refine lv_bipush (v := nI 7) hx hb dX0_having_5 (by decide) ?_
    refine lv_icmp_le (tgt := 12) hx hb dX0_having_7 (by decide) (fun c7 => ?_) (fun c7 => ?_)
    · refine lv_iconst (v := nI 0) hx hb dX0_having_12 (by decide) ?_
      refine lv_istore_n (lv' := [(2, .int (nI 0)), (0, .ref (ad 0)), (1, .int v)]) hx hb dX0_having_13 rfl hl (by decide) rfl (fun ls hl => ?_)
      refine lv_iconst (v := nI 0) hx hb dX0_having_14 (by decide) ?_
      refine lv_istore_n (lv' := [(3, .int (nI 0)), (2, .int (nI 0)), (0, .ref (ad 0)), (1, .int v)]) hx hb dX0_having_15 rfl hl (by decide) rfl (fun ls hl => ?_)
      exact loop (k + 1) 0 (by omega) (Nat.zero_le _) (fun z => z.elim c1 (fun z => z c7)) _ _ _ w (lv_sub hl [2, 3, 1, 0] rfl)
    · refine lv_iconst (v := (-1)) hx hb dX0_having_10 (by decide) ?_
      have hop : st_oHaving v (L, E, f) = (-1, L, E, f) := by unfold st_oHaving; rw [if_pos (Or.inr c7)]
      exact hend _ _ _ _ ((-1)) (L.length, g, k, f, d, b, cell, size, look, hL, hS) (by rw [hop]; exact ⟨rfl, hX, hE, hLE, rfl, hf⟩) w rfl dX0_having_11
set_option maxHeartbeats 4000000 in
/-- digest -/
theorem px_digest (l : Launch) (g k f d b : Nat) (cell : Nat → Int32) (size : Nat → Nat) (look hL hS : Nat → Int32) (L E : List Int32) (hX : st_XL L.length g cell L) (hE : st_XE k size look E) (hLE : E.length = L.length) (hf : f ≤ L.length) : XMi l yX0_digest cX0_digest 6 .int (st_rm 1 21) [] (L.length, g, k, f, d, b, cell, size, look, hL, hS) (fun r u => r = (st_oDigest (L, E, f)).1 ∧ st_XR u (st_oDigest (L, E, f)).2) := by
  intro D ad ca
  refine g_enter_i RX0 rfl (by decide +kernel) (Nat.le_of_ble_eq_true rfl) ?_
  intro p e s m below meth c A Q args ls C w hl hend
  have hx := C.1
  have hb := C.2.1
  have hl : lv_has ls 6 [(0, .ref (ad 0))] := hl
  have hn := hX.2.1
  have hg := hX.2.2.1
  have hek := st_XE_k hE
  have he := st_XE_len hE
  have loop : ∀ (N : Nat) (r : Nat), k - r < N → (r ≤ k) → ∀ (H : Heap) (locs : List Loc) (ls : Array Slot), wd D A s (xw ad ca (L.length, g, k, f, d, b, cell, size, look, hL, hS)) (xt ca) H locs → lv_has ls 6 [(0, .ref (ad 0)), (1, .int (st_dg L E (st_ps size r))), (2, .int (nI (st_ps size r))), (3, .int (nI r))] → W p l e (st_rm 1 21) s m args below meth c H locs 0 0 Q (F0 m 6 ls []) := by
    intro N
    induction N with
    | zero => intro r hN; exact absurd hN (Nat.not_lt_zero _)
    | succ N ih =>
      intro r hN hrk H locs ls w hl
      refine lv_iload_n hx hb dX0_digest_6 rfl (lv_at hl 3 rfl) ?_
      refine lv_aload_n hx hb dX0_digest_7 rfl (lv_at hl 0 rfl) ?_
      refine x_get C w 3 (v := .int (nI k)) q42 (by decide) rfl dX0_digest_8 ?_
      refine n_icmp_ge (tgt := 72) hx hb dX0_digest_11 (by decide) (by omega) (by omega) (fun c11 => ?_) (fun c11 => ?_)
      · refine lv_iload_n hx hb dX0_digest_72 rfl (lv_at hl 1 rfl) ?_
        have hop : st_oDigest  (L, E, f) = (st_dg L E (st_ps size r), L, E, f) := by unfold st_oDigest; rw [show r = k by omega, he, hLE]
        exact hend _ _ _ _ ((st_dg L E (st_ps size r))) (L.length, g, k, f, d, b, cell, size, look, hL, hS) (by rw [hop]; exact ⟨rfl, hX, hE, hLE, rfl, hf⟩) w rfl dX0_digest_73
      · have hm := st_ps_le size (show r + 1 ≤ k by omega)
        have hm1 := st_ps_s size r
        have hr : r < k := c11
        have ih0 := ih
        have inner : ∀ (N : Nat) (t : Nat), size r - t < N → (t ≤ size r) → ∀ (H : Heap) (locs : List Loc) (ls : Array Slot), wd D A s (xw ad ca (L.length, g, k, f, d, b, cell, size, look, hL, hS)) (xt ca) H locs → lv_has ls 6 [(0, .ref (ad 0)), (1, .int (st_dg L E (st_ps size r + t))), (2, .int (nI (st_ps size r + t))), (3, .int (nI r)), (4, .int (nI t))] → W p l e (st_rm 1 21) s m args below meth c H locs 0 0 Q (F0 m 17 ls []) := by
          intro N2
          induction N2 with
          | zero => intro t hN2; exact absurd hN2 (Nat.not_lt_zero _)
          | succ N2 ih2 =>
            intro t hN2 ht H locs ls w hl
            refine lv_iload hx hb dX0_digest_17 (lv_at hl 4 rfl) ?_
            refine lv_aload_n hx hb dX0_digest_19 rfl (lv_at hl 0 rfl) ?_
            refine x_get C w 4 (v := .ref (ad 2)) q43 (by decide) rfl dX0_digest_20 ?_
            refine lv_iload_n hx hb dX0_digest_23 rfl (lv_at hl 3 rfl) ?_
            refine x_ld C w 1 (n := 68) (f := fun j => nI (size j)) (i := r) rfl rfl (by omega) (by decide) dX0_digest_24 ?_
            refine n_icmp_ge (tgt := 66) hx hb dX0_digest_25 (by decide) (by omega) (by omega) (fun c25 => ?_) (fun c25 => ?_)
            · have ht2 : t = size r := by omega
              rw [ht2, ← hm1] at hl
              refine lv_iinc (v := (nI (r + 1))) (lv' := [(3, .int (nI (r + 1))), (0, .ref (ad 0)), (1, .int (st_dg L E (st_ps size (r + 1)))), (2, .int (nI (st_ps size (r + 1)))), (4, .int (nI (size r)))]) hx hb dX0_digest_66 hl (k := 3) rfl (n_inc _) (by decide) rfl (fun ls hl => ?_)
              refine lv_goto (tgt := 6) hx hb dX0_digest_69 (by decide) ?_
              exact ih (r + 1) (by omega) (by omega) _ _ _ w (lv_sub hl [1, 2, 3, 0] rfl)
            · have hq : st_ps size r + t < L.length := by omega
              refine lv_aload_n hx hb dX0_digest_28 rfl (lv_at hl 0 rfl) ?_
              refine lv_iload_n hx hb dX0_digest_29 rfl (lv_at hl 2 rfl) ?_
              refine x_calli (n := 1) (As := [.int (nI (st_ps size r + t))]) (rest := []) C w (m_cellOf l (L.length) g k f d b cell size look hL hS (st_ps size r + t) (by omega) (by omega) (by omega)) q158 q160 qs17 q161 rfl (by decide +kernel) rfl ⟨rfl, rfl⟩ ⟨Nat.le_of_ble_eq_true rfl, Nat.le_of_ble_eq_true rfl⟩ ⟨Nat.le_refl _, Nat.le_refl _⟩ rfl hl.1 (Nat.le_of_ble_eq_true rfl) dX0_digest_30 (fun r u H locs hp w => ?_)
              obtain ⟨rfl, rfl⟩ := hp
              refine lv_istore (lv' := [(5, .int (nI (st_ci (L.length) g (st_ps size r + t)))), (0, .ref (ad 0)), (1, .int (st_dg L E (st_ps size r + t))), (2, .int (nI (st_ps size r + t))), (3, .int (nI r)), (4, .int (nI t))]) hx hb dX0_digest_33 hl (by decide) rfl (fun ls hl => ?_)
              refine lv_iinc (v := (nI (st_ps size r + t + 1))) (lv' := [(2, .int (nI (st_ps size r + t + 1))), (5, .int (nI (st_ci (L.length) g (st_ps size r + t)))), (0, .ref (ad 0)), (1, .int (st_dg L E (st_ps size r + t))), (3, .int (nI r)), (4, .int (nI t))]) hx hb dX0_digest_35 hl (k := 3) rfl (n_inc _) (by decide) rfl (fun ls hl => ?_)
              refine lv_iload_n hx hb dX0_digest_38 rfl (lv_at hl 3 rfl) ?_
              refine lv_iload_n hx hb dX0_digest_39 rfl (lv_at hl 0 rfl) ?_
              refine lv_bipush (v := nI 64) hx hb dX0_digest_40 (by decide) ?_
              refine lv_aload_n hx hb dX0_digest_42 rfl (lv_at hl 2 rfl) ?_
              refine x_get C w 2 (v := .ref (ad 1)) q41 (by decide) rfl dX0_digest_43 ?_
              refine lv_iload hx hb dX0_digest_46 (lv_at hl 1 rfl) ?_
              refine x_ld C w 0 (n := 64) (f := cell) (i := st_ci (L.length) g (st_ps size r + t)) rfl rfl (st_ci_lt (by omega) (by omega) (by omega)) (by decide) dX0_digest_48 ?_
              refine lv_imul hx hb dX0_digest_49 ?_
              refine lv_aload_n hx hb dX0_digest_50 rfl (lv_at hl 2 rfl) ?_
              refine x_get C w 5 (v := .ref (ad 3)) q44 (by decide) rfl dX0_digest_51 ?_
              refine lv_iload_n hx hb dX0_digest_54 rfl (lv_at hl 4 rfl) ?_
              refine x_ld C w 2 (n := 68) (f := look) (i := r) rfl rfl (by omega) (by decide) dX0_digest_55 ?_
              refine lv_iadd hx hb dX0_digest_56 ?_
              refine lv_imul hx hb dX0_digest_57 ?_
              refine lv_iadd hx hb dX0_digest_58 ?_
              refine lv_istore_n (lv' := [(1, .int ((st_dg L E (st_ps size r + t)) + ((nI (st_ps size r + t + 1)) * (((nI 64) * (cell (st_ci (L.length) g (st_ps size r + t)))) + (look r))))), (2, .int (nI (st_ps size r + t + 1))), (5, .int (nI (st_ci (L.length) g (st_ps size r + t)))), (0, .ref (ad 0)), (3, .int (nI r)), (4, .int (nI t))]) hx hb dX0_digest_59 rfl hl (by decide) rfl (fun ls hl => ?_)
              have hdg : st_dg L E (st_ps size r + t + 1) = st_dg L E (st_ps size r + t) + nI (st_ps size r + t + 1) * (nI 64 * cell (st_ci L.length g (st_ps size r + t)) + look r) := by rw [st_dg, st_getD (hX.2.2.2 _ hq), st_getD (st_XE_at hE hr (by omega) (show st_ps size r + t < st_ps size r + size r by omega))]
              rw [← hdg] at hl
              refine lv_iinc (v := (nI (t + 1))) (lv' := [(4, .int (nI (t + 1))), (1, .int (st_dg L E (st_ps size r + t + 1))), (2, .int (nI (st_ps size r + t + 1))), (5, .int (nI (st_ci (L.length) g (st_ps size r + t)))), (0, .ref (ad 0)), (3, .int (nI r))]) hx hb dX0_digest_60 hl (k := 5) rfl (n_inc _) (by decide) rfl (fun ls hl => ?_)
              refine lv_goto (tgt := 17) hx hb dX0_digest_63 (by decide) ?_
              exact ih2 (t + 1) (by omega) (by omega) _ _ _ w (lv_sub hl [4, 1, 2, 5, 0] rfl)
        refine lv_iconst (v := nI 0) hx hb dX0_digest_14 (by decide) ?_
        refine lv_istore (lv' := [(4, .int (nI 0)), (0, .ref (ad 0)), (1, .int (st_dg L E (st_ps size r))), (2, .int (nI (st_ps size r))), (3, .int (nI r))]) hx hb dX0_digest_15 hl (by decide) rfl (fun ls hl => ?_)
        exact inner (size r + 1) 0 (by omega) (Nat.zero_le _) _ _ _ w (lv_sub hl [1, 2, 3, 4, 0] rfl)
  refine lv_iconst (v := nI 0) hx hb dX0_digest_0 (by decide) ?_
  refine lv_istore_n (lv' := [(1, .int (nI 0)), (0, .ref (ad 0))]) hx hb dX0_digest_1 rfl hl (by decide) rfl (fun ls hl => ?_)
  refine lv_iconst (v := nI 0) hx hb dX0_digest_2 (by decide) ?_
  refine lv_istore_n (lv' := [(2, .int (nI 0)), (1, .int (nI 0)), (0, .ref (ad 0))]) hx hb dX0_digest_3 rfl hl (by decide) rfl (fun ls hl => ?_)
  refine lv_iconst (v := nI 0) hx hb dX0_digest_4 (by decide) ?_
  refine lv_istore_n (lv' := [(3, .int (nI 0)), (2, .int (nI 0)), (1, .int (nI 0)), (0, .ref (ad 0))]) hx hb dX0_digest_5 rfl hl (by decide) rfl (fun ls hl => ?_)
  exact loop (k + 1) 0 (by omega) (Nat.zero_le _) _ _ _ w (lv_sub hl [3, 2, 1, 0] rfl)
end
section
set_option maxRecDepth 100000
set_option maxHeartbeats 4000000 in
/-- style -/
theorem px_style (l : Launch) (g k f d b : Nat) (cell : Nat → Int32) (size : Nat → Nat) (look hL hS : Nat → Int32) (L E : List Int32) (vi vj mask v : Int32) (hX : st_XL L.length g cell L) (hE : st_XE k size look E) (hLE : E.length = L.length) (hf : f ≤ L.length) : XMi l yX0_style cX0_style 10 .int (st_rm 2 45) [.int vi, .int vj, .int mask, .int v] (L.length, g, k, f, d, b, cell, size, look, hL, hS) (fun r u => r = (st_oStyle vi vj mask v (L, E, f)).1 ∧ st_XR u (st_oStyle vi vj mask v (L, E, f)).2) := by
  intro D ad ca
  refine g_enter_i RX0 rfl (by decide +kernel) (Nat.le_of_ble_eq_true rfl) ?_
  intro p e s m below meth c A Q args ls C w hl hend
  have hx := C.1
  have hb := C.2.1
  have hl : lv_has ls 10 [(0, .ref (ad 0)), (1, .int vi), (2, .int vj), (3, .int mask), (4, .int v)] := hl
  have hn := hX.2.1
  have hg := hX.2.2.1
  have he := st_XE_len hE
  refine lv_aload_n hx hb dX0_style_0 rfl (lv_at hl 0 rfl) ?_
  refine lv_iload_n hx hb dX0_style_1 rfl (lv_at hl 1 rfl) ?_
  refine lv_iload_n hx hb dX0_style_2 rfl (lv_at hl 2 rfl) ?_
  refine x_calli (n := 2) (As := [.int vi, .int vj]) (rest := []) C w (m_bad l (L.length) g k f d b cell size look hL hS vi vj) q134 q136 qs12 q137 rfl (by decide +kernel) rfl ⟨rfl, rfl⟩ ⟨Nat.le_of_ble_eq_true rfl, Nat.le_of_ble_eq_true rfl⟩ ⟨Nat.le_refl _, Nat.le_refl _⟩ rfl hl.1 (Nat.le_of_ble_eq_true rfl) dX0_style_3 (fun r0 u H locs hp w => ?_)
  obtain ⟨rfl, hr0⟩ := hp
  refine lv_if_ne (tgt := 31) hx hb dX0_style_6 (by decide) (fun c6 => ?_) (fun c6 => ?_)
  · refine lv_iconst (v := (-1)) hx hb dX0_style_31 (by decide) ?_
    have hop : st_oStyle vi vj mask v (L, E, f) = (-1, L, E, f) := by unfold st_oStyle; exact if_pos (Or.inl (st_b1 hr0 c6))
    exact hend _ _ _ _ ((-1)) (L.length, g, k, f, d, b, cell, size, look, hL, hS) (by rw [hop]; exact ⟨rfl, hX, hE, hLE, rfl, hf⟩) w rfl dX0_style_32
  · refine lv_iload_n hx hb dX0_style_9 rfl (lv_at hl 3 rfl) ?_
    refine lv_if_lt (tgt := 31) hx hb dX0_style_10 (by decide) (fun c10 => ?_) (fun c10 => ?_)
    · refine lv_iconst (v := (-1)) hx hb dX0_style_31 (by decide) ?_
      have hop : st_oStyle vi vj mask v (L, E, f) = (-1, L, E, f) := by unfold st_oStyle; exact if_pos (Or.inr (Or.inl c10))
      exact hend _ _ _ _ ((-1)) (L.length, g, k, f, d, b, cell, size, look, hL, hS) (by rw [hop]; exact ⟨rfl, hX, hE, hLE, rfl, hf⟩) w rfl dX0_style_32
    · refine lv_iload_n hx hb dX0_style_13 rfl (lv_at hl 3 rfl) ?_
      refine lv_bipush (v := nI 15) hx hb dX0_style_14 (by decide) ?_
      refine lv_icmp_gt (tgt := 31) hx hb dX0_style_16 (by decide) (fun c16 => ?_) (fun c16 => ?_)
      · refine lv_iconst (v := (-1)) hx hb dX0_style_31 (by decide) ?_
        have hop : st_oStyle vi vj mask v (L, E, f) = (-1, L, E, f) := by unfold st_oStyle; exact if_pos (Or.inr (Or.inr (Or.inl (Int32.not_le.mpr c16))))
        exact hend _ _ _ _ ((-1)) (L.length, g, k, f, d, b, cell, size, look, hL, hS) (by rw [hop]; exact ⟨rfl, hX, hE, hLE, rfl, hf⟩) w rfl dX0_style_32
      · refine lv_iload hx hb dX0_style_19 (lv_at hl 4 rfl) ?_
        refine lv_if_lt (tgt := 31) hx hb dX0_style_21 (by decide) (fun c21 => ?_) (fun c21 => ?_)
        · refine lv_iconst (v := (-1)) hx hb dX0_style_31 (by decide) ?_
          have hop : st_oStyle vi vj mask v (L, E, f) = (-1, L, E, f) := by unfold st_oStyle; exact if_pos (Or.inr (Or.inr (Or.inr (Or.inl c21))))
          exact hend _ _ _ _ ((-1)) (L.length, g, k, f, d, b, cell, size, look, hL, hS) (by rw [hop]; exact ⟨rfl, hX, hE, hLE, rfl, hf⟩) w rfl dX0_style_32
        · refine lv_iload hx hb dX0_style_24 (lv_at hl 4 rfl) ?_
          refine lv_bipush (v := nI 63) hx hb dX0_style_26 (by decide) ?_
          refine lv_icmp_le (tgt := 33) hx hb dX0_style_28 (by decide) (fun c28 => ?_) (fun c28 => ?_)
          · have c16 := Int32.not_lt.mp c16
            have hbdA : ¬ (st_bad L.length vi vj ∨ mask < 0 ∨ ¬ mask ≤ nI 15 ∨ v < 0 ∨ ¬ v ≤ nI 63) := fun z => z.elim (st_b0 hr0 c6) (fun z => z.elim c10 (fun z => z.elim (fun z => z c16) (fun z => z.elim c21 (fun z => z c28))))
            have hbd := st_b0 hr0 c6
            have hbd0 := hbd
            obtain ⟨i, j, rfl, rfl, hij, hj⟩ := st_bad_no (by omega) hbd0
            refine lv_iload_n hx hb dX0_style_33 rfl (lv_at hl 1 rfl) ?_
            refine lv_iload_n hx hb dX0_style_34 rfl (lv_at hl 2 rfl) ?_
            refine n_icmp_ne (tgt := 40) hx hb dX0_style_35 (by decide) (by omega) (by omega) (fun c35 => ?_) (fun c35 => ?_)
            · refine lv_aload_n hx hb dX0_style_40 rfl (lv_at hl 0 rfl) ?_
              refine lv_iload_n hx hb dX0_style_41 rfl (lv_at hl 2 rfl) ?_
              refine x_calli (n := 1) (As := [.int (nI j)]) (rest := []) C w (m_cutAt l (L.length) g k f d b cell size look hL hS j (st_XE_pos hE) (by omega) (by omega)) q106 q108 qs7 q109 rfl (by decide +kernel) rfl ⟨rfl, rfl⟩ ⟨Nat.le_of_ble_eq_true rfl, Nat.le_of_ble_eq_true rfl⟩ ⟨Nat.le_refl _, Nat.le_refl _⟩ rfl hl.1 (Nat.le_of_ble_eq_true rfl) dX0_style_42 (fun r u H locs hp w => ?_)
              obtain ⟨i1, k1, b1, sz1, lk1, rfl, rfl, hi1, hrl1⟩ := hp
              have hck1 := st_cut_k (st_XE_pos hE) hrl1
              refine lv_pop hx hb dX0_style_45 rfl ?_
              refine lv_aload_n hx hb dX0_style_46 rfl (lv_at hl 0 rfl) ?_
              refine lv_iload_n hx hb dX0_style_47 rfl (lv_at hl 1 rfl) ?_
              refine x_calli (n := 1) (As := [.int (nI i)]) (rest := []) C w (m_cutAt l (L.length) g k1 f d b1 cell sz1 lk1 hL hS i hck1.1 (by omega) (by omega)) q106 q108 qs7 q109 rfl (by decide +kernel) rfl ⟨rfl, rfl⟩ ⟨Nat.le_of_ble_eq_true rfl, Nat.le_of_ble_eq_true rfl⟩ ⟨Nat.le_refl _, Nat.le_refl _⟩ rfl hl.1 (Nat.le_of_ble_eq_true rfl) dX0_style_48 (fun r u H locs hp w => ?_)
              obtain ⟨i2, k2, b2, sz2, lk2, rfl, rfl, hi2, hrl2⟩ := hp
              refine lv_istore (lv' := [(5, .int (nI i2)), (0, .ref (ad 0)), (1, .int (nI i)), (2, .int (nI j)), (3, .int mask), (4, .int v)]) hx hb dX0_style_51 hl (by decide) rfl (fun ls hl => ?_)
              refine lv_iconst (v := nI 0) hx hb dX0_style_53 (by decide) ?_
              refine lv_istore (lv' := [(6, .int (nI 0)), (5, .int (nI i2)), (0, .ref (ad 0)), (1, .int (nI i)), (2, .int (nI j)), (3, .int mask), (4, .int v)]) hx hb dX0_style_54 hl (by decide) rfl (fun ls hl => ?_)
              refine lv_iload_n hx hb dX0_style_56 rfl (lv_at hl 3 rfl) ?_
              refine lv_istore (lv' := [(7, .int (nI i)), (6, .int (nI 0)), (5, .int (nI i2)), (0, .ref (ad 0)), (1, .int (nI i)), (2, .int (nI j)), (3, .int mask), (4, .int v)]) hx hb dX0_style_57 hl (by decide) rfl (fun ls hl => ?_)
              refine lv_iconst (v := nI 0) hx hb dX0_style_59 (by decide) ?_
              refine lv_istore (lv' := [(8, .int (nI 0)), (7, .int (nI i)), (6, .int (nI 0)), (5, .int (nI i2)), (0, .ref (ad 0)), (1, .int (nI i)), (2, .int (nI j)), (3, .int mask), (4, .int v)]) hx hb dX0_style_60 hl (by decide) rfl (fun ls hl => ?_)
              have hck2 := st_cut_k hck1.1 hrl2
              obtain ⟨A0, Md, B0, eA1, eM1, pA, pM, pB, xA, xM, xB⟩ := st_cut2 (i := i) (j := j) (st_XE_pos hE) (by omega) (by rw [st_ex_rl]; omega)
              rw [hrl1] at hi2 hrl2
              rw [eA1] at hi2 hrl2
              rw [eM1] at hrl2
              rw [hE.2] at xA xM xB
              rw [st_seg_eq] at xM
              subst hi2
              have hlen : (st_ex Md).length = j - i := by rw [xM, st_seg_len hij (by omega)]
              have loop : ∀ (N : Nat) (M1 M2 : List (Nat × Int32)) (lk : Nat → Int32), M2.length < N → (M1 ++ M2 = Md) → (st_rl k2 sz2 lk = A0 ++ (st_mp (fun e => st_mix e (st_bits mask) v) M1 ++ (M2 ++ B0))) → ∀ (H : Heap) (locs : List Loc) (ls : Array Slot), wd D A s (xw ad ca (L.length, g, k2, f, d, b2, cell, sz2, lk, hL, hS)) (xt ca) H locs → lv_has ls 10 [(0, .ref (ad 0)), (1, .int (nI i)), (2, .int (nI j)), (3, .int mask), (4, .int v), (5, .int (nI (A0.length + M1.length))), (6, .int (nI (st_cnt (st_ex M1) (fun e => st_mix e (st_bits mask) v)))), (7, .int (nI (i + (st_ex M1).length))), (8, .int (nI (M1.length)))] → W p l e (st_rm 2 45) s m args below meth c H locs 0 0 Q (F0 m 62 ls []) := by
                intro N
                induction N with
                | zero => intro M1 M2 lk hN; exact absurd hN (Nat.not_lt_zero _)
                | succ N ih =>
                  intro M1 M2 lk hN hM hrl H locs ls w hl
                  have hx0 : (st_ex M1).length + (st_ex M2).length = j - i := by rw [← hlen, ← hM, st_ex_app, List.length_append]
                  have hxp : st_Pos (M1 ++ M2) := by rw [hM]; exact pM
                  have hx1 := st_Pos_len (st_Pos_l hxp)
                  have hcl := st_cnt_len (st_ex M1) (fun e => st_mix e (st_bits mask) v)
                  refine lv_iload hx hb dX0_style_62 (lv_at hl 8 rfl) ?_
                  refine lv_bipush (v := nI 64) hx hb dX0_style_64 (by decide) ?_
                  refine n_icmp_ge (tgt := 145) hx hb dX0_style_66 (by decide) (by omega) (by omega) (fun c66 => ?_) (fun c66 => ?_)
                  · have hM2 : M2 = [] := st_ex_nil (st_Pos_r hxp) (by omega)
                    subst hM2
                    rw [List.nil_append] at hrl
                    rw [List.append_nil] at hM
                    obtain rfl : Md = M1 := hM.symm
                    refine lv_aload_n hx hb dX0_style_145 rfl (lv_at hl 0 rfl) ?_
                    refine x_callv (n := 0) (As := []) (rest := []) C w (m_joinRuns l (L.length) g k2 f d b2 cell sz2 lk hL hS (by omega)) q114 q116 qs9 q117 rfl (by decide +kernel) rfl ⟨rfl, rfl⟩ ⟨Nat.le_of_ble_eq_true rfl, Nat.le_of_ble_eq_true rfl⟩ ⟨Nat.le_refl _, Nat.le_refl _⟩ rfl hl.1 (Nat.le_of_ble_eq_true rfl) dX0_style_146 (fun u H locs hp w => ?_)
                    obtain ⟨k3, sz3, lk3, rfl, hj3⟩ := hp
                    refine lv_iload hx hb dX0_style_149 (lv_at hl 6 rfl) ?_
                    have hop : st_oStyle (nI i) (nI j) mask v (L, E, f) = (nI (st_cnt (st_ex Md) (fun e => st_mix e (st_bits mask) v)), L, st_map E i j (fun e => st_mix e (st_bits mask) v), f) := by unfold st_oStyle; rw [if_neg hbdA, st_clamp (show i ≤ 64 by omega), st_clamp (show j ≤ 64 by omega), ← xM]
                    exact hend _ _ _ _ ((nI (st_cnt (st_ex Md) (fun e => st_mix e (st_bits mask) v)))) (L.length, g, k3, f, d, b2, cell, sz3, lk3, hL, hS) (by rw [hop]; exact ⟨rfl, hX, st_XE_sty pA pM pB (by rw [hj3, hrl]) xA xM xB, by rw [st_map_len hij (by omega)]; exact hLE, rfl, hf⟩) w rfl dX0_style_151
                  · refine lv_iload hx hb dX0_style_69 (lv_at hl 7 rfl) ?_
                    refine lv_iload_n hx hb dX0_style_71 rfl (lv_at hl 2 rfl) ?_
                    refine n_icmp_ge (tgt := 145) hx hb dX0_style_72 (by decide) (by omega) (by omega) (fun c72 => ?_) (fun c72 => ?_)
                    · have hM2 : M2 = [] := st_ex_nil (st_Pos_r hxp) (by omega)
                      subst hM2
                      rw [List.nil_append] at hrl
                      rw [List.append_nil] at hM
                      obtain rfl : Md = M1 := hM.symm
                      refine lv_aload_n hx hb dX0_style_145 rfl (lv_at hl 0 rfl) ?_
                      refine x_callv (n := 0) (As := []) (rest := []) C w (m_joinRuns l (L.length) g k2 f d b2 cell sz2 lk hL hS (by omega)) q114 q116 qs9 q117 rfl (by decide +kernel) rfl ⟨rfl, rfl⟩ ⟨Nat.le_of_ble_eq_true rfl, Nat.le_of_ble_eq_true rfl⟩ ⟨Nat.le_refl _, Nat.le_refl _⟩ rfl hl.1 (Nat.le_of_ble_eq_true rfl) dX0_style_146 (fun u H locs hp w => ?_)
                      obtain ⟨k3, sz3, lk3, rfl, hj3⟩ := hp
                      refine lv_iload hx hb dX0_style_149 (lv_at hl 6 rfl) ?_
                      have hop : st_oStyle (nI i) (nI j) mask v (L, E, f) = (nI (st_cnt (st_ex Md) (fun e => st_mix e (st_bits mask) v)), L, st_map E i j (fun e => st_mix e (st_bits mask) v), f) := by unfold st_oStyle; rw [if_neg hbdA, st_clamp (show i ≤ 64 by omega), st_clamp (show j ≤ 64 by omega), ← xM]
                      exact hend _ _ _ _ ((nI (st_cnt (st_ex Md) (fun e => st_mix e (st_bits mask) v)))) (L.length, g, k3, f, d, b2, cell, sz3, lk3, hL, hS) (by rw [hop]; exact ⟨rfl, hX, st_XE_sty pA pM pB (by rw [hj3, hrl]) xA xM xB, by rw [st_map_len hij (by omega)]; exact hLE, rfl, hf⟩) w rfl dX0_style_151
                    · rcases M2 with _ | ⟨x, M2⟩
                      · exfalso; simp [st_ex] at hx0; omega
                      have hrl0 : st_rl k2 sz2 lk = (A0 ++ st_mp (fun e => st_mix e (st_bits mask) v) M1) ++ x :: (M2 ++ B0) := by rw [hrl]; simp
                      obtain ⟨a1, a2, a3⟩ := st_rl_nth hrl0
                      have hll : (A0 ++ st_mp (fun e => st_mix e (st_bits mask) v) M1).length = A0.length + M1.length := by rw [List.length_append, st_mp_len]
                      rw [hll] at a1 a2 a3
                      have hx2 := st_ex_cl x M2
                      rw [List.length_cons] at hN
                      refine lv_aload_n hx hb dX0_style_75 rfl (lv_at hl 0 rfl) ?_
                      refine lv_aload_n hx hb dX0_style_76 rfl (lv_at hl 0 rfl) ?_
                      refine x_get C w 5 (v := .ref (ad 3)) q44 (by decide) rfl dX0_style_77 ?_
                      refine lv_iload hx hb dX0_style_80 (lv_at hl 5 rfl) ?_
                      refine x_ld C w 2 (n := 68) (f := lk) (i := A0.length + M1.length) rfl rfl (by omega) (by decide) dX0_style_82 ?_
                      refine lv_iload_n hx hb dX0_style_83 rfl (lv_at hl 3 rfl) ?_
                      refine lv_iload hx hb dX0_style_84 (lv_at hl 4 rfl) ?_
                      refine x_calli (n := 3) (As := [.int (lk (A0.length + M1.length)), .int mask, .int v]) (rest := []) C w (m_mixed l (L.length) g k2 f d b2 cell sz2 lk hL hS (lk (A0.length + M1.length)) mask v) q174 q176 qs19 q177 rfl (by decide +kernel) rfl ⟨rfl, rfl⟩ ⟨Nat.le_of_ble_eq_true rfl, Nat.le_of_ble_eq_true rfl⟩ ⟨Nat.le_refl _, Nat.le_refl _⟩ rfl hl.1 (Nat.le_of_ble_eq_true rfl) dX0_style_86 (fun r u H locs hp w => ?_)
                      obtain ⟨rfl, rfl⟩ := hp
                      refine lv_istore (lv' := [(9, .int (st_mix (lk (A0.length + M1.length)) (st_bits mask) v)), (0, .ref (ad 0)), (1, .int (nI i)), (2, .int (nI j)), (3, .int mask), (4, .int v), (5, .int (nI (A0.length + M1.length))), (6, .int (nI (st_cnt (st_ex M1) (fun e => st_mix e (st_bits mask) v)))), (7, .int (nI (i + (st_ex M1).length))), (8, .int (nI (M1.length)))]) hx hb dX0_style_89 hl (by decide) rfl (fun ls hl => ?_)
                      refine lv_iload hx hb dX0_style_91 (lv_at hl 0 rfl) ?_
                      refine lv_aload_n hx hb dX0_style_93 rfl (lv_at hl 1 rfl) ?_
                      refine x_get C w 5 (v := .ref (ad 3)) q44 (by decide) rfl dX0_style_94 ?_
                      refine lv_iload hx hb dX0_style_97 (lv_at hl 6 rfl) ?_
                      refine x_ld C w 2 (n := 68) (f := lk) (i := A0.length + M1.length) rfl rfl (by omega) (by decide) dX0_style_99 ?_
                      refine lv_icmp_eq (tgt := 115) hx hb dX0_style_100 (by decide) (fun c100 => ?_) (fun c100 => ?_)
                      · refine lv_aload_n hx hb dX0_style_115 rfl (lv_at hl 1 rfl) ?_
                        refine x_get C w 5 (v := .ref (ad 3)) q44 (by decide) rfl dX0_style_116 ?_
                        refine lv_iload hx hb dX0_style_119 (lv_at hl 6 rfl) ?_
                        refine lv_iload hx hb dX0_style_121 (lv_at hl 0 rfl) ?_
                        refine x_st C w 2 (n := 68) (f := lk) (i := A0.length + M1.length) (L.length, g, k2, f, d, b2, cell, sz2, upd lk (A0.length + M1.length) (st_mix (lk (A0.length + M1.length)) (st_bits mask) v), hL, hS) rfl rfl (by omega) (by decide) rfl dX0_style_123 (fun H locs w => ?_)
                        refine lv_iload hx hb dX0_style_124 (lv_at hl 8 rfl) ?_
                        refine lv_aload_n hx hb dX0_style_126 rfl (lv_at hl 1 rfl) ?_
                        refine x_get C w 4 (v := .ref (ad 2)) q43 (by decide) rfl dX0_style_127 ?_
                        refine lv_iload hx hb dX0_style_130 (lv_at hl 6 rfl) ?_
                        refine x_ld C w 1 (n := 68) (f := fun j => nI (sz2 j)) (i := A0.length + M1.length) rfl rfl (by omega) (by decide) dX0_style_132 ?_
                        refine n_iadd hx hb dX0_style_133 ?_
                        refine lv_istore (lv' := [(7, .int (nI ((i + (st_ex M1).length) + (sz2 (A0.length + M1.length))))), (9, .int (st_mix (lk (A0.length + M1.length)) (st_bits mask) v)), (0, .ref (ad 0)), (1, .int (nI i)), (2, .int (nI j)), (3, .int mask), (4, .int v), (5, .int (nI (A0.length + M1.length))), (6, .int (nI (st_cnt (st_ex M1) (fun e => st_mix e (st_bits mask) v)))), (8, .int (nI (M1.length)))]) hx hb dX0_style_134 hl (by decide) rfl (fun ls hl => ?_)
                        refine lv_iinc (v := (nI (A0.length + M1.length + 1))) (lv' := [(5, .int (nI (A0.length + M1.length + 1))), (7, .int (nI ((i + (st_ex M1).length) + (sz2 (A0.length + M1.length))))), (9, .int (st_mix (lk (A0.length + M1.length)) (st_bits mask) v)), (0, .ref (ad 0)), (1, .int (nI i)), (2, .int (nI j)), (3, .int mask), (4, .int v), (6, .int (nI (st_cnt (st_ex M1) (fun e => st_mix e (st_bits mask) v)))), (8, .int (nI (M1.length)))]) hx hb dX0_style_136 hl (k := 7) rfl (n_inc _) (by decide) rfl (fun ls hl => ?_)
                        refine lv_iinc (v := (nI (M1.length + 1))) (lv' := [(8, .int (nI (M1.length + 1))), (5, .int (nI (A0.length + M1.length + 1))), (7, .int (nI ((i + (st_ex M1).length) + (sz2 (A0.length + M1.length))))), (9, .int (st_mix (lk (A0.length + M1.length)) (st_bits mask) v)), (0, .ref (ad 0)), (1, .int (nI i)), (2, .int (nI j)), (3, .int mask), (4, .int v), (6, .int (nI (st_cnt (st_ex M1) (fun e => st_mix e (st_bits mask) v))))]) hx hb dX0_style_139 hl (k := 9) rfl (n_inc _) (by decide) rfl (fun ls hl => ?_)
                        have y4 : st_cnt (st_ex M1) (fun e => st_mix e (st_bits mask) v) = st_cnt (st_ex (M1 ++ [x])) (fun e => st_mix e (st_bits mask) v) := by rw [st_cnt_x, if_pos (by rw [← a3]; exact c100)]; exact (Nat.add_zero _).symm
                        have y3 : i + (st_ex M1).length + sz2 (A0.length + M1.length) = i + (st_ex (M1 ++ [x])).length := by rw [a2, st_ex_app, List.length_append, st_ex_cl]; simp [st_ex]; omega
                        have y1 : A0.length + M1.length + 1 = A0.length + (M1 ++ [x]).length := by simp; omega
                        have y2 : M1.length + 1 = (M1 ++ [x]).length := by simp
                        rw [y4, y3, y1, y2] at hl
                        have y5 : st_rl k2 sz2 (upd lk (A0.length + M1.length) (st_mix (lk (A0.length + M1.length)) (st_bits mask) v)) = A0 ++ (st_mp (fun e => st_mix e (st_bits mask) v) (M1 ++ [x]) ++ (M2 ++ B0)) := by have z := st_rl_look (v := st_mix (lk (A0.length + M1.length)) (st_bits mask) v) hrl0; rw [hll] at z; rw [z, st_mp_s, a3]; simp
                        refine lv_goto (tgt := 62) hx hb dX0_style_142 (by decide) ?_
                        exact ih (M1 ++ [x]) M2 _ (by omega) (by rw [← hM]; simp) (y5) _ _ _ w (lv_sub hl [4, 5, 6, 7, 8, 1, 9, 2, 0] rfl)
                      · refine lv_iload hx hb dX0_style_103 (lv_at hl 7 rfl) ?_
                        refine lv_aload_n hx hb dX0_style_105 rfl (lv_at hl 1 rfl) ?_
                        refine x_get C w 4 (v := .ref (ad 2)) q43 (by decide) rfl dX0_style_106 ?_
                        refine lv_iload hx hb dX0_style_109 (lv_at hl 6 rfl) ?_
                        refine x_ld C w 1 (n := 68) (f := fun j => nI (sz2 j)) (i := A0.length + M1.length) rfl rfl (by omega) (by decide) dX0_style_111 ?_
                        refine n_iadd hx hb dX0_style_112 ?_
                        refine lv_istore (lv' := [(6, .int (nI ((st_cnt (st_ex M1) (fun e => st_mix e (st_bits mask) v)) + (sz2 (A0.length + M1.length))))), (9, .int (st_mix (lk (A0.length + M1.length)) (st_bits mask) v)), (0, .ref (ad 0)), (1, .int (nI i)), (2, .int (nI j)), (3, .int mask), (4, .int v), (5, .int (nI (A0.length + M1.length))), (7, .int (nI (i + (st_ex M1).length))), (8, .int (nI (M1.length)))]) hx hb dX0_style_113 hl (by decide) rfl (fun ls hl => ?_)
                        refine lv_aload_n hx hb dX0_style_115 rfl (lv_at hl 2 rfl) ?_
                        refine x_get C w 5 (v := .ref (ad 3)) q44 (by decide) rfl dX0_style_116 ?_
                        refine lv_iload hx hb dX0_style_119 (lv_at hl 7 rfl) ?_
                        refine lv_iload hx hb dX0_style_121 (lv_at hl 1 rfl) ?_
                        refine x_st C w 2 (n := 68) (f := lk) (i := A0.length + M1.length) (L.length, g, k2, f, d, b2, cell, sz2, upd lk (A0.length + M1.length) (st_mix (lk (A0.length + M1.length)) (st_bits mask) v), hL, hS) rfl rfl (by omega) (by decide) rfl dX0_style_123 (fun H locs w => ?_)
                        refine lv_iload hx hb dX0_style_124 (lv_at hl 8 rfl) ?_
                        refine lv_aload_n hx hb dX0_style_126 rfl (lv_at hl 2 rfl) ?_
                        refine x_get C w 4 (v := .ref (ad 2)) q43 (by decide) rfl dX0_style_127 ?_
                        refine lv_iload hx hb dX0_style_130 (lv_at hl 7 rfl) ?_
                        refine x_ld C w 1 (n := 68) (f := fun j => nI (sz2 j)) (i := A0.length + M1.length) rfl rfl (by omega) (by decide) dX0_style_132 ?_
                        refine n_iadd hx hb dX0_style_133 ?_
                        refine lv_istore (lv' := [(7, .int (nI ((i + (st_ex M1).length) + (sz2 (A0.length + M1.length))))), (6, .int (nI ((st_cnt (st_ex M1) (fun e => st_mix e (st_bits mask) v)) + (sz2 (A0.length + M1.length))))), (9, .int (st_mix (lk (A0.length + M1.length)) (st_bits mask) v)), (0, .ref (ad 0)), (1, .int (nI i)), (2, .int (nI j)), (3, .int mask), (4, .int v), (5, .int (nI (A0.length + M1.length))), (8, .int (nI (M1.length)))]) hx hb dX0_style_134 hl (by decide) rfl (fun ls hl => ?_)
                        refine lv_iinc (v := (nI (A0.length + M1.length + 1))) (lv' := [(5, .int (nI (A0.length + M1.length + 1))), (7, .int (nI ((i + (st_ex M1).length) + (sz2 (A0.length + M1.length))))), (6, .int (nI ((st_cnt (st_ex M1) (fun e => st_mix e (st_bits mask) v)) + (sz2 (A0.length + M1.length))))), (9, .int (st_mix (lk (A0.length + M1.length)) (st_bits mask) v)), (0, .ref (ad 0)), (1, .int (nI i)), (2, .int (nI j)), (3, .int mask), (4, .int v), (8, .int (nI (M1.length)))]) hx hb dX0_style_136 hl (k := 8) rfl (n_inc _) (by decide) rfl (fun ls hl => ?_)
                        refine lv_iinc (v := (nI (M1.length + 1))) (lv' := [(8, .int (nI (M1.length + 1))), (5, .int (nI (A0.length + M1.length + 1))), (7, .int (nI ((i + (st_ex M1).length) + (sz2 (A0.length + M1.length))))), (6, .int (nI ((st_cnt (st_ex M1) (fun e => st_mix e (st_bits mask) v)) + (sz2 (A0.length + M1.length))))), (9, .int (st_mix (lk (A0.length + M1.length)) (st_bits mask) v)), (0, .ref (ad 0)), (1, .int (nI i)), (2, .int (nI j)), (3, .int mask), (4, .int v)]) hx hb dX0_style_139 hl (k := 9) rfl (n_inc _) (by decide) rfl (fun ls hl => ?_)
                        have y4 : st_cnt (st_ex M1) (fun e => st_mix e (st_bits mask) v) + sz2 (A0.length + M1.length) = st_cnt (st_ex (M1 ++ [x])) (fun e => st_mix e (st_bits mask) v) := by rw [st_cnt_x, if_neg (by rw [← a3]; exact c100), a2]
                        have y3 : i + (st_ex M1).length + sz2 (A0.length + M1.length) = i + (st_ex (M1 ++ [x])).length := by rw [a2, st_ex_app, List.length_append, st_ex_cl]; simp [st_ex]; omega
                        have y1 : A0.length + M1.length + 1 = A0.length + (M1 ++ [x]).length := by simp; omega
                        have y2 : M1.length + 1 = (M1 ++ [x]).length := by simp
                        rw [y4, y3, y1, y2] at hl
                        have y5 : st_rl k2 sz2 (upd lk (A0.length + M1.length) (st_mix (lk (A0.length + M1.length)) (st_bits mask) v)) = A0 ++ (st_mp (fun e => st_mix e (st_bits mask) v) (M1 ++ [x]) ++ (M2 ++ B0)) := by have z := st_rl_look (v := st_mix (lk (A0.length + M1.length)) (st_bits mask) v) hrl0; rw [hll] at z; rw [z, st_mp_s, a3]; simp
                        refine lv_goto (tgt := 62) hx hb dX0_style_142 (by decide) ?_
                        exact ih (M1 ++ [x]) M2 _ (by omega) (by rw [← hM]; simp) (y5) _ _ _ w (lv_sub hl [5, 6, 7, 8, 9, 1, 3, 2, 0] rfl)
              exact loop (Md.length + 1) ([]) Md _ (by omega) (rfl) (hrl2) _ _ _ w (lv_sub hl [4, 5, 6, 7, 8, 3, 2, 1, 0] rfl)
            · refine lv_iconst (v := nI 0) hx hb dX0_style_38 (by decide) ?_
              subst c35
              have hop : st_oStyle (nI i) (nI i) mask v (L, E, f) = (nI 0, L, E, f) := by unfold st_oStyle; rw [if_neg hbdA, st_clamp (show i ≤ 64 by omega), st_map_same, show st_seg E i i = [] by simp [st_seg]]; rfl
              exact hend _ _ _ _ ((nI 0)) (L.length, g, k, f, d, b, cell, size, look, hL, hS) (by rw [hop]; exact ⟨rfl, hX, hE, hLE, rfl, hf⟩) w rfl dX0_style_39
          · refine lv_iconst (v := (-1)) hx hb dX0_style_31 (by decide) ?_
            have hop : st_oStyle vi vj mask v (L, E, f) = (-1, L, E, f) := by unfold st_oStyle; exact if_pos (Or.inr (Or.inr (Or.inr (Or.inr c28))))
            exact hend _ _ _ _ ((-1)) (L.length, g, k, f, d, b, cell, size, look, hL, hS) (by rw [hop]; exact ⟨rfl, hX, hE, hLE, rfl, hf⟩) w rfl dX0_style_32
end
section
set_option maxRecDepth 100000
set_option maxHeartbeats 4000000 in
/-- toggle -/
theorem px_toggle (l : Launch) (g k f d b : Nat) (cell : Nat → Int32) (size : Nat → Nat) (look hL hS : Nat → Int32) (L E : List Int32) (vi vj bt : Int32) (hX : st_XL L.length g cell L) (hE : st_XE k size look E) (hLE : E.length = L.length) (hf : f ≤ L.length) : XMi l yX0_toggle cX0_toggle 8 .int (st_rm 3 74) [.int vi, .int vj, .int bt] (L.length, g, k, f, d, b, cell, size, look, hL, hS) (fun r u => r = (st_oToggle vi vj bt (L, E, f)).1 ∧ st_XR u (st_oToggle vi vj bt (L, E, f)).2) := by
  intro D ad ca
  refine g_enter_i RX0 rfl (by decide +kernel) (Nat.le_of_ble_eq_true rfl) ?_
  intro p e s m below meth c A Q args ls C w hl hend
  have hx := C.1
  have hb := C.2.1
  have hl : lv_has ls 8 [(0, .ref (ad 0)), (1, .int vi), (2, .int vj), (3, .int bt)] := hl
  have hn := hX.2.1
  have hg := hX.2.2.1
  have he := st_XE_len hE
  have hek := st_XE_k hE
  have hpos := st_Pos_rl (st_XE_pos hE)
  have tail : (bt = 1 ∨ bt = 2 ∨ bt = 4) → ∀ {r0 : Int32}, r0 = 0 → (r0 = if st_bad L.length vi vj then 1 else 0) → ∀ (H : Heap) (locs : List Loc) (ls : Array Slot), wd D A s (xw ad ca (L.length, g, k, f, d, b, cell, size, look, hL, hS)) (xt ca) H locs → lv_has ls 8 [(0, .ref (ad 0)), (1, .int vi), (2, .int vj), (3, .int bt)] → W p l e (st_rm 3 74) s m args below meth c H locs 0 0 Q (F0 m 26 ls []) := by
    intro hbt r0 c6 hr0 H locs ls w hl
    have hbd := st_b0 hr0 c6
    have hbd0 := hbd
    obtain ⟨i, j, rfl, rfl, hij, hj⟩ := st_bad_no (by omega) hbd0
    have hbt1 : ¬ (¬ bt = 1 ∧ ¬ bt = 2 ∧ ¬ bt = 4) := fun z => hbt.elim z.1 (fun y => y.elim z.2.1 z.2.2)
    have hbdA : ¬ (st_bad L.length (nI i) (nI j) ∨ (¬ bt = 1 ∧ ¬ bt = 2 ∧ ¬ bt = 4)) := fun z => z.elim hbd hbt1
    have hmk : ¬ bt < 0 ∧ bt ≤ nI 15 ∧ bt ≤ nI 63 := by rcases hbt with rfl | rfl | rfl <;> decide
    refine lv_iload_n hx hb dX0_toggle_26 rfl (lv_at hl 1 rfl) ?_
    refine lv_iload_n hx hb dX0_toggle_27 rfl (lv_at hl 2 rfl) ?_
    refine n_icmp_ne (tgt := 33) hx hb dX0_toggle_28 (by decide) (by omega) (by omega) (fun c28 => ?_) (fun c28 => ?_)
    · refine lv_aload_n hx hb dX0_toggle_33 rfl (lv_at hl 0 rfl) ?_
      refine lv_iload_n hx hb dX0_toggle_34 rfl (lv_at hl 1 rfl) ?_
      refine x_calli (n := 1) (As := [.int (nI i)]) (rest := []) C w (m_runAt l (L.length) g k f d b cell size look hL hS i (by omega) (by omega) (by omega)) q86 q88 qs2 q89 rfl (by decide +kernel) rfl ⟨rfl, rfl⟩ ⟨Nat.le_of_ble_eq_true rfl, Nat.le_of_ble_eq_true rfl⟩ ⟨Nat.le_refl _, Nat.le_refl _⟩ rfl hl.1 (Nat.le_of_ble_eq_true rfl) dX0_toggle_35 (fun r u H locs hp w => ?_)
      obtain ⟨r0, rfl, rfl, i0, i1, i2⟩ := hp
      refine lv_istore (lv' := [(4, .int (nI r0)), (0, .ref (ad 0)), (1, .int (nI i)), (2, .int (nI j)), (3, .int bt)]) hx hb dX0_toggle_38 hl (by decide) rfl (fun ls hl => ?_)
      refine lv_aload_n hx hb dX0_toggle_40 rfl (lv_at hl 1 rfl) ?_
      refine x_get C w 10 (v := .int (nI (st_ps size r0))) q49 (by decide) rfl dX0_toggle_41 ?_
      refine lv_istore (lv' := [(5, .int (nI (st_ps size r0))), (4, .int (nI r0)), (0, .ref (ad 0)), (1, .int (nI i)), (2, .int (nI j)), (3, .int bt)]) hx hb dX0_toggle_44 hl (by decide) rfl (fun ls hl => ?_)
      refine lv_iconst (v := nI 1) hx hb dX0_toggle_46 (by decide) ?_
      refine lv_istore (lv' := [(6, .int (nI 1)), (5, .int (nI (st_ps size r0))), (4, .int (nI r0)), (0, .ref (ad 0)), (1, .int (nI i)), (2, .int (nI j)), (3, .int bt)]) hx hb dX0_toggle_47 hl (by decide) rfl (fun ls hl => ?_)
      refine lv_iconst (v := nI 0) hx hb dX0_toggle_49 (by decide) ?_
      refine lv_istore (lv' := [(7, .int (nI 0)), (6, .int (nI 1)), (5, .int (nI (st_ps size r0))), (4, .int (nI r0)), (0, .ref (ad 0)), (1, .int (nI i)), (2, .int (nI j)), (3, .int bt)]) hx hb dX0_toggle_50 hl (by decide) rfl (fun ls hl => ?_)
      have loop : ∀ (N : Nat) (t z : Nat), 64 - t < N → (r0 + t ≤ k) → (r0 + t < k → i < st_ps size (r0 + t) + size (r0 + t)) → (z = 1 ∧ (∀ q, i ≤ q → q < st_ps size (r0 + t) → ∃ e, E[q]? = some e ∧ ¬ e &&& bt = 0) ∨ z = 0 ∧ ∃ q e, i ≤ q ∧ q < j ∧ E[q]? = some e ∧ e &&& bt = 0) → ∀ (H : Heap) (locs : List Loc) (ls : Array Slot), wd D A s (xw ad ca (L.length, g, k, f, d, st_ps size r0, cell, size, look, hL, hS)) (xt ca) H locs → lv_has ls 8 [(0, .ref (ad 0)), (1, .int (nI i)), (2, .int (nI j)), (3, .int bt), (4, .int (nI (r0 + t))), (5, .int (nI (st_ps size (r0 + t)))), (6, .int (nI z)), (7, .int (nI t))] → W p l e (st_rm 3 74) s m args below meth c H locs 0 0 Q (F0 m 52 ls []) := by
        intro N
        induction N with
        | zero => intro t z hN; exact absurd hN (Nat.not_lt_zero _)
        | succ N ih =>
          intro t z hN ht hir hal H locs ls w hl
          have hz : z ≤ 1 := by rcases hal with y | y <;> omega
          have hmm := st_ps_le size ht
          refine lv_iload hx hb dX0_toggle_52 (lv_at hl 7 rfl) ?_
          refine lv_bipush (v := nI 64) hx hb dX0_toggle_54 (by decide) ?_
          refine n_icmp_ge (tgt := 110) hx hb dX0_toggle_56 (by decide) (by omega) (by omega) (fun c56 => ?_) (fun c56 => ?_)
          · have hend2 : j ≤ st_ps size (r0 + t) := by rcases Nat.lt_or_ge (r0 + t) k with y | y; omega; rw [show r0 + t = k by omega]; omega
            refine lv_aload_n hx hb dX0_toggle_110 rfl (lv_at hl 0 rfl) ?_
            refine lv_iload_n hx hb dX0_toggle_111 rfl (lv_at hl 1 rfl) ?_
            refine lv_iload_n hx hb dX0_toggle_112 rfl (lv_at hl 2 rfl) ?_
            refine lv_iload_n hx hb dX0_toggle_113 rfl (lv_at hl 3 rfl) ?_
            refine lv_iload hx hb dX0_toggle_114 (lv_at hl 6 rfl) ?_
            refine n_if_eq (tgt := 123) hx hb dX0_toggle_116 (by decide) (by omega) (fun c116 => ?_) (fun c116 => ?_)
            · refine lv_iload_n hx hb dX0_toggle_123 rfl (lv_at hl 3 rfl) ?_
              refine x_calli (n := 4) (As := [.int (nI i), .int (nI j), .int bt, .int bt]) (rest := []) C w (px_style l g k f d (st_ps size r0) cell size look hL hS L E (nI i) (nI j) bt bt hX hE hLE hf) q182 q171 q172 q173 rfl (by decide +kernel) rfl ⟨rfl, rfl⟩ ⟨Nat.le_of_ble_eq_true rfl, Nat.le_of_ble_eq_true rfl⟩ ⟨Nat.le_refl _, Nat.le_refl _⟩ rfl hl.1 (Nat.le_of_ble_eq_true rfl) dX0_toggle_124 (fun rs u H locs hp w => ?_)
              obtain ⟨n4, g4, k4, f4, d4, b4, cl4, sz4, lk4, hL4, hS4⟩ := u
              obtain ⟨hrs, hXR⟩ := hp
              refine lv_pop hx hb dX0_toggle_127 rfl ?_
              refine lv_iload hx hb dX0_toggle_128 (lv_at hl 6 rfl) ?_
              refine n_if_eq (tgt := 137) hx hb dX0_toggle_130 (by decide) (by omega) (fun c130 => ?_) (fun c130 => ?_)
              · refine lv_iconst (v := nI 1) hx hb dX0_toggle_137 (by decide) ?_
                have hall : st_all (st_seg E i j) bt = false := by rcases hal with y | y; exfalso; omega; obtain ⟨q, e, y1, y2, y3, y4⟩ := y.2; exact st_all_f y1 y2 y3 y4
                have hop2 : (st_oStyle (nI i) (nI j) bt bt (L, E, f)).2 = (L, st_map E i j (fun e => st_mix e bt bt), f) := by unfold st_oStyle; rw [if_neg (fun z => z.elim hbd (fun z => z.elim hmk.1 (fun z => z.elim (fun z => z hmk.2.1) (fun z => z.elim hmk.1 (fun z => z hmk.2.2))))), st_clamp (show i ≤ 64 by omega), st_clamp (show j ≤ 64 by omega), st_bits_b hbt]
                have hop : st_oToggle (nI i) (nI j) bt (L, E, f) = (nI 1, L, st_map E i j (fun e => st_mix e bt bt), f) := by unfold st_oToggle; rw [if_neg hbdA, st_clamp (show i ≤ 64 by omega), st_clamp (show j ≤ 64 by omega)]; simp only [hall]; rfl
                rw [hop2] at hXR
                exact hend _ _ _ _ ((nI 1)) (n4, g4, k4, f4, d4, b4, cl4, sz4, lk4, hL4, hS4) (by rw [hop]; exact ⟨rfl, hXR⟩) w rfl dX0_toggle_138
              · exfalso; omega
            · refine lv_iconst (v := nI 0) hx hb dX0_toggle_119 (by decide) ?_
              refine lv_goto (tgt := 124) hx hb dX0_toggle_120 (by decide) ?_
              refine x_calli (n := 4) (As := [.int (nI i), .int (nI j), .int bt, .int (nI 0)]) (rest := []) C w (px_style l g k f d (st_ps size r0) cell size look hL hS L E (nI i) (nI j) bt (nI 0) hX hE hLE hf) q182 q171 q172 q173 rfl (by decide +kernel) rfl ⟨rfl, rfl⟩ ⟨Nat.le_of_ble_eq_true rfl, Nat.le_of_ble_eq_true rfl⟩ ⟨Nat.le_refl _, Nat.le_refl _⟩ rfl hl.1 (Nat.le_of_ble_eq_true rfl) dX0_toggle_124 (fun rs u H locs hp w => ?_)
              obtain ⟨n4, g4, k4, f4, d4, b4, cl4, sz4, lk4, hL4, hS4⟩ := u
              obtain ⟨hrs, hXR⟩ := hp
              refine lv_pop hx hb dX0_toggle_127 rfl ?_
              refine lv_iload hx hb dX0_toggle_128 (lv_at hl 6 rfl) ?_
              refine n_if_eq (tgt := 137) hx hb dX0_toggle_130 (by decide) (by omega) (fun c130 => ?_) (fun c130 => ?_)
              · exfalso; omega
              · refine lv_iconst (v := nI 0) hx hb dX0_toggle_133 (by decide) ?_
                refine lv_goto (tgt := 138) hx hb dX0_toggle_134 (by decide) ?_
                have hall : st_all (st_seg E i j) bt = true := by rcases hal with y | y; exact st_all_t hij (by omega) (fun q y1 y2 => y.2 q y1 (by omega)); exfalso; omega
                have hop2 : (st_oStyle (nI i) (nI j) bt (nI 0) (L, E, f)).2 = (L, st_map E i j (fun e => st_mix e bt (nI 0)), f) := by unfold st_oStyle; rw [if_neg (fun z => z.elim hbd (fun z => z.elim hmk.1 (fun z => z.elim (fun z => z hmk.2.1) (fun z => z.elim (by decide) (fun z => z (by decide)))))), st_clamp (show i ≤ 64 by omega), st_clamp (show j ≤ 64 by omega), st_bits_b hbt]
                have hop : st_oToggle (nI i) (nI j) bt (L, E, f) = (nI 0, L, st_map E i j (fun e => st_mix e bt (nI 0)), f) := by unfold st_oToggle; rw [if_neg hbdA, st_clamp (show i ≤ 64 by omega), st_clamp (show j ≤ 64 by omega)]; simp only [hall]; rfl
                rw [hop2] at hXR
                exact hend _ _ _ _ ((nI 0)) (n4, g4, k4, f4, d4, b4, cl4, sz4, lk4, hL4, hS4) (by rw [hop]; exact ⟨rfl, hXR⟩) w rfl dX0_toggle_138
          · refine lv_iload hx hb dX0_toggle_59 (lv_at hl 5 rfl) ?_
            refine lv_iload_n hx hb dX0_toggle_61 rfl (lv_at hl 2 rfl) ?_
            refine n_icmp_ge (tgt := 110) hx hb dX0_toggle_62 (by decide) (by omega) (by omega) (fun c62 => ?_) (fun c62 => ?_)
            · have hend2 : j ≤ st_ps size (r0 + t) := by rcases Nat.lt_or_ge (r0 + t) k with y | y; omega; rw [show r0 + t = k by omega]; omega
              refine lv_aload_n hx hb dX0_toggle_110 rfl (lv_at hl 0 rfl) ?_
              refine lv_iload_n hx hb dX0_toggle_111 rfl (lv_at hl 1 rfl) ?_
              refine lv_iload_n hx hb dX0_toggle_112 rfl (lv_at hl 2 rfl) ?_
              refine lv_iload_n hx hb dX0_toggle_113 rfl (lv_at hl 3 rfl) ?_
              refine lv_iload hx hb dX0_toggle_114 (lv_at hl 6 rfl) ?_
              refine n_if_eq (tgt := 123) hx hb dX0_toggle_116 (by decide) (by omega) (fun c116 => ?_) (fun c116 => ?_)
              · refine lv_iload_n hx hb dX0_toggle_123 rfl (lv_at hl 3 rfl) ?_
                refine x_calli (n := 4) (As := [.int (nI i), .int (nI j), .int bt, .int bt]) (rest := []) C w (px_style l g k f d (st_ps size r0) cell size look hL hS L E (nI i) (nI j) bt bt hX hE hLE hf) q182 q171 q172 q173 rfl (by decide +kernel) rfl ⟨rfl, rfl⟩ ⟨Nat.le_of_ble_eq_true rfl, Nat.le_of_ble_eq_true rfl⟩ ⟨Nat.le_refl _, Nat.le_refl _⟩ rfl hl.1 (Nat.le_of_ble_eq_true rfl) dX0_toggle_124 (fun rs u H locs hp w => ?_)
                obtain ⟨n4, g4, k4, f4, d4, b4, cl4, sz4, lk4, hL4, hS4⟩ := u
                obtain ⟨hrs, hXR⟩ := hp
                refine lv_pop hx hb dX0_toggle_127 rfl ?_
                refine lv_iload hx hb dX0_toggle_128 (lv_at hl 6 rfl) ?_
                refine n_if_eq (tgt := 137) hx hb dX0_toggle_130 (by decide) (by omega) (fun c130 => ?_) (fun c130 => ?_)
                · refine lv_iconst (v := nI 1) hx hb dX0_toggle_137 (by decide) ?_
                  have hall : st_all (st_seg E i j) bt = false := by rcases hal with y | y; exfalso; omega; obtain ⟨q, e, y1, y2, y3, y4⟩ := y.2; exact st_all_f y1 y2 y3 y4
                  have hop2 : (st_oStyle (nI i) (nI j) bt bt (L, E, f)).2 = (L, st_map E i j (fun e => st_mix e bt bt), f) := by unfold st_oStyle; rw [if_neg (fun z => z.elim hbd (fun z => z.elim hmk.1 (fun z => z.elim (fun z => z hmk.2.1) (fun z => z.elim hmk.1 (fun z => z hmk.2.2))))), st_clamp (show i ≤ 64 by omega), st_clamp (show j ≤ 64 by omega), st_bits_b hbt]
                  have hop : st_oToggle (nI i) (nI j) bt (L, E, f) = (nI 1, L, st_map E i j (fun e => st_mix e bt bt), f) := by unfold st_oToggle; rw [if_neg hbdA, st_clamp (show i ≤ 64 by omega), st_clamp (show j ≤ 64 by omega)]; simp only [hall]; rfl
                  rw [hop2] at hXR
                  exact hend _ _ _ _ ((nI 1)) (n4, g4, k4, f4, d4, b4, cl4, sz4, lk4, hL4, hS4) (by rw [hop]; exact ⟨rfl, hXR⟩) w rfl dX0_toggle_138
                · exfalso; omega
              · refine lv_iconst (v := nI 0) hx hb dX0_toggle_119 (by decide) ?_
                refine lv_goto (tgt := 124) hx hb dX0_toggle_120 (by decide) ?_
                refine x_calli (n := 4) (As := [.int (nI i), .int (nI j), .int bt, .int (nI 0)]) (rest := []) C w (px_style l g k f d (st_ps size r0) cell size look hL hS L E (nI i) (nI j) bt (nI 0) hX hE hLE hf) q182 q171 q172 q173 rfl (by decide +kernel) rfl ⟨rfl, rfl⟩ ⟨Nat.le_of_ble_eq_true rfl, Nat.le_of_ble_eq_true rfl⟩ ⟨Nat.le_refl _, Nat.le_refl _⟩ rfl hl.1 (Nat.le_of_ble_eq_true rfl) dX0_toggle_124 (fun rs u H locs hp w => ?_)
                obtain ⟨n4, g4, k4, f4, d4, b4, cl4, sz4, lk4, hL4, hS4⟩ := u
                obtain ⟨hrs, hXR⟩ := hp
                refine lv_pop hx hb dX0_toggle_127 rfl ?_
                refine lv_iload hx hb dX0_toggle_128 (lv_at hl 6 rfl) ?_
                refine n_if_eq (tgt := 137) hx hb dX0_toggle_130 (by decide) (by omega) (fun c130 => ?_) (fun c130 => ?_)
                · exfalso; omega
                · refine lv_iconst (v := nI 0) hx hb dX0_toggle_133 (by decide) ?_
                  refine lv_goto (tgt := 138) hx hb dX0_toggle_134 (by decide) ?_
                  have hall : st_all (st_seg E i j) bt = true := by rcases hal with y | y; exact st_all_t hij (by omega) (fun q y1 y2 => y.2 q y1 (by omega)); exfalso; omega
                  have hop2 : (st_oStyle (nI i) (nI j) bt (nI 0) (L, E, f)).2 = (L, st_map E i j (fun e => st_mix e bt (nI 0)), f) := by unfold st_oStyle; rw [if_neg (fun z => z.elim hbd (fun z => z.elim hmk.1 (fun z => z.elim (fun z => z hmk.2.1) (fun z => z.elim (by decide) (fun z => z (by decide)))))), st_clamp (show i ≤ 64 by omega), st_clamp (show j ≤ 64 by omega), st_bits_b hbt]
                  have hop : st_oToggle (nI i) (nI j) bt (L, E, f) = (nI 0, L, st_map E i j (fun e => st_mix e bt (nI 0)), f) := by unfold st_oToggle; rw [if_neg hbdA, st_clamp (show i ≤ 64 by omega), st_clamp (show j ≤ 64 by omega)]; simp only [hall]; rfl
                  rw [hop2] at hXR
                  exact hend _ _ _ _ ((nI 0)) (n4, g4, k4, f4, d4, b4, cl4, sz4, lk4, hL4, hS4) (by rw [hop]; exact ⟨rfl, hXR⟩) w rfl dX0_toggle_138
            · have hrk : r0 + t < k := by rcases Nat.lt_or_ge (r0 + t) k with y | y; exact y; exfalso; rw [show r0 + t = k by omega] at c62; omega
              have hm1 := st_ps_s size (r0 + t)
              have hm := st_ps_le size (show r0 + t + 1 ≤ k by omega)
              have hii := hir hrk
              have hp1 := hpos _ hrk
              refine lv_iload hx hb dX0_toggle_65 (lv_at hl 6 rfl) ?_
              refine n_if_eq (tgt := 86) hx hb dX0_toggle_67 (by decide) (by omega) (fun c67 => ?_) (fun c67 => ?_)
              · refine lv_iconst (v := nI 0) hx hb dX0_toggle_86 (by decide) ?_
                refine lv_istore (lv' := [(6, .int (nI 0)), (0, .ref (ad 0)), (1, .int (nI i)), (2, .int (nI j)), (3, .int bt), (4, .int (nI (r0 + t))), (5, .int (nI (st_ps size (r0 + t)))), (7, .int (nI t))]) hx hb dX0_toggle_87 hl (by decide) rfl (fun ls hl => ?_)
                refine lv_iload hx hb dX0_toggle_89 (lv_at hl 6 rfl) ?_
                refine lv_aload_n hx hb dX0_toggle_91 rfl (lv_at hl 1 rfl) ?_
                refine x_get C w 4 (v := .ref (ad 2)) q43 (by decide) rfl dX0_toggle_92 ?_
                refine lv_iload hx hb dX0_toggle_95 (lv_at hl 5 rfl) ?_
                refine x_ld C w 1 (n := 68) (f := fun j => nI (size j)) (i := r0 + t) rfl rfl (by omega) (by decide) dX0_toggle_97 ?_
                refine n_iadd hx hb dX0_toggle_98 ?_
                refine lv_istore (lv' := [(5, .int (nI ((st_ps size (r0 + t)) + (size (r0 + t))))), (6, .int (nI 0)), (0, .ref (ad 0)), (1, .int (nI i)), (2, .int (nI j)), (3, .int bt), (4, .int (nI (r0 + t))), (7, .int (nI t))]) hx hb dX0_toggle_99 hl (by decide) rfl (fun ls hl => ?_)
                refine lv_iinc (v := (nI (r0 + t + 1))) (lv' := [(4, .int (nI (r0 + t + 1))), (5, .int (nI ((st_ps size (r0 + t)) + (size (r0 + t))))), (6, .int (nI 0)), (0, .ref (ad 0)), (1, .int (nI i)), (2, .int (nI j)), (3, .int bt), (7, .int (nI t))]) hx hb dX0_toggle_101 hl (k := 6) rfl (n_inc _) (by decide) rfl (fun ls hl => ?_)
                refine lv_iinc (v := (nI (t + 1))) (lv' := [(7, .int (nI (t + 1))), (4, .int (nI (r0 + t + 1))), (5, .int (nI ((st_ps size (r0 + t)) + (size (r0 + t))))), (6, .int (nI 0)), (0, .ref (ad 0)), (1, .int (nI i)), (2, .int (nI j)), (3, .int bt)]) hx hb dX0_toggle_104 hl (k := 7) rfl (n_inc _) (by decide) rfl (fun ls hl => ?_)
                refine lv_goto (tgt := 52) hx hb dX0_toggle_107 (by decide) ?_
                exact ih (t + 1) _ (by omega) (by omega) (by intro y; have := st_ps_s size (r0 + t); have := hpos _ y; have y4 : r0 + (t + 1) = r0 + t + 1 := rfl; rw [y4]; omega) (by rcases hal with y | y; exfalso; omega; exact Or.inr ⟨rfl, y.2⟩) _ _ _ w (lv_sub hl [4, 5, 6, 7, 1, 2, 3, 0] rfl)
              · refine lv_aload_n hx hb dX0_toggle_70 rfl (lv_at hl 0 rfl) ?_
                refine x_get C w 5 (v := .ref (ad 3)) q44 (by decide) rfl dX0_toggle_71 ?_
                refine lv_iload hx hb dX0_toggle_74 (lv_at hl 4 rfl) ?_
                refine x_ld C w 2 (n := 68) (f := look) (i := r0 + t) rfl rfl (by omega) (by decide) dX0_toggle_76 ?_
                refine lv_iload_n hx hb dX0_toggle_77 rfl (lv_at hl 3 rfl) ?_
                refine lv_iand hx hb dX0_toggle_78 ?_
                refine lv_if_eq (tgt := 86) hx hb dX0_toggle_79 (by decide) (fun c79 => ?_) (fun c79 => ?_)
                · refine lv_iconst (v := nI 0) hx hb dX0_toggle_86 (by decide) ?_
                  refine lv_istore (lv' := [(6, .int (nI 0)), (0, .ref (ad 0)), (1, .int (nI i)), (2, .int (nI j)), (3, .int bt), (4, .int (nI (r0 + t))), (5, .int (nI (st_ps size (r0 + t)))), (7, .int (nI t))]) hx hb dX0_toggle_87 hl (by decide) rfl (fun ls hl => ?_)
                  refine lv_iload hx hb dX0_toggle_89 (lv_at hl 6 rfl) ?_
                  refine lv_aload_n hx hb dX0_toggle_91 rfl (lv_at hl 1 rfl) ?_
                  refine x_get C w 4 (v := .ref (ad 2)) q43 (by decide) rfl dX0_toggle_92 ?_
                  refine lv_iload hx hb dX0_toggle_95 (lv_at hl 5 rfl) ?_
                  refine x_ld C w 1 (n := 68) (f := fun j => nI (size j)) (i := r0 + t) rfl rfl (by omega) (by decide) dX0_toggle_97 ?_
                  refine n_iadd hx hb dX0_toggle_98 ?_
                  refine lv_istore (lv' := [(5, .int (nI ((st_ps size (r0 + t)) + (size (r0 + t))))), (6, .int (nI 0)), (0, .ref (ad 0)), (1, .int (nI i)), (2, .int (nI j)), (3, .int bt), (4, .int (nI (r0 + t))), (7, .int (nI t))]) hx hb dX0_toggle_99 hl (by decide) rfl (fun ls hl => ?_)
                  refine lv_iinc (v := (nI (r0 + t + 1))) (lv' := [(4, .int (nI (r0 + t + 1))), (5, .int (nI ((st_ps size (r0 + t)) + (size (r0 + t))))), (6, .int (nI 0)), (0, .ref (ad 0)), (1, .int (nI i)), (2, .int (nI j)), (3, .int bt), (7, .int (nI t))]) hx hb dX0_toggle_101 hl (k := 6) rfl (n_inc _) (by decide) rfl (fun ls hl => ?_)
                  refine lv_iinc (v := (nI (t + 1))) (lv' := [(7, .int (nI (t + 1))), (4, .int (nI (r0 + t + 1))), (5, .int (nI ((st_ps size (r0 + t)) + (size (r0 + t))))), (6, .int (nI 0)), (0, .ref (ad 0)), (1, .int (nI i)), (2, .int (nI j)), (3, .int bt)]) hx hb dX0_toggle_104 hl (k := 7) rfl (n_inc _) (by decide) rfl (fun ls hl => ?_)
                  refine lv_goto (tgt := 52) hx hb dX0_toggle_107 (by decide) ?_
                  exact ih (t + 1) _ (by omega) (by omega) (by intro y; have := st_ps_s size (r0 + t); have := hpos _ y; have y4 : r0 + (t + 1) = r0 + t + 1 := rfl; rw [y4]; omega) (Or.inr ⟨rfl, max i (st_ps size (r0 + t)), look (r0 + t), by omega, by omega, st_XE_at hE hrk (by omega) (by omega), c79⟩) _ _ _ w (lv_sub hl [4, 5, 6, 7, 1, 2, 3, 0] rfl)
                · refine lv_iconst (v := nI 1) hx hb dX0_toggle_82 (by decide) ?_
                  refine lv_goto (tgt := 87) hx hb dX0_toggle_83 (by decide) ?_
                  refine lv_istore (lv' := [(6, .int (nI 1)), (0, .ref (ad 0)), (1, .int (nI i)), (2, .int (nI j)), (3, .int bt), (4, .int (nI (r0 + t))), (5, .int (nI (st_ps size (r0 + t)))), (7, .int (nI t))]) hx hb dX0_toggle_87 hl (by decide) rfl (fun ls hl => ?_)
                  refine lv_iload hx hb dX0_toggle_89 (lv_at hl 6 rfl) ?_
                  refine lv_aload_n hx hb dX0_toggle_91 rfl (lv_at hl 1 rfl) ?_
                  refine x_get C w 4 (v := .ref (ad 2)) q43 (by decide) rfl dX0_toggle_92 ?_
                  refine lv_iload hx hb dX0_toggle_95 (lv_at hl 5 rfl) ?_
                  refine x_ld C w 1 (n := 68) (f := fun j => nI (size j)) (i := r0 + t) rfl rfl (by omega) (by decide) dX0_toggle_97 ?_
                  refine n_iadd hx hb dX0_toggle_98 ?_
                  refine lv_istore (lv' := [(5, .int (nI ((st_ps size (r0 + t)) + (size (r0 + t))))), (6, .int (nI 1)), (0, .ref (ad 0)), (1, .int (nI i)), (2, .int (nI j)), (3, .int bt), (4, .int (nI (r0 + t))), (7, .int (nI t))]) hx hb dX0_toggle_99 hl (by decide) rfl (fun ls hl => ?_)
                  refine lv_iinc (v := (nI (r0 + t + 1))) (lv' := [(4, .int (nI (r0 + t + 1))), (5, .int (nI ((st_ps size (r0 + t)) + (size (r0 + t))))), (6, .int (nI 1)), (0, .ref (ad 0)), (1, .int (nI i)), (2, .int (nI j)), (3, .int bt), (7, .int (nI t))]) hx hb dX0_toggle_101 hl (k := 6) rfl (n_inc _) (by decide) rfl (fun ls hl => ?_)
                  refine lv_iinc (v := (nI (t + 1))) (lv' := [(7, .int (nI (t + 1))), (4, .int (nI (r0 + t + 1))), (5, .int (nI ((st_ps size (r0 + t)) + (size (r0 + t))))), (6, .int (nI 1)), (0, .ref (ad 0)), (1, .int (nI i)), (2, .int (nI j)), (3, .int bt)]) hx hb dX0_toggle_104 hl (k := 7) rfl (n_inc _) (by decide) rfl (fun ls hl => ?_)
                  refine lv_goto (tgt := 52) hx hb dX0_toggle_107 (by decide) ?_
                  exact ih (t + 1) _ (by omega) (by omega) (by intro y; have := st_ps_s size (r0 + t); have := hpos _ y; have y4 : r0 + (t + 1) = r0 + t + 1 := rfl; rw [y4]; omega) (by rcases hal with y | y; exact Or.inl ⟨rfl, fun q y1 y2 => by rcases Nat.lt_or_ge q (st_ps size (r0 + t)) with y3 | y3; exact y.2 q y1 y3; exact ⟨look (r0 + t), st_XE_at hE hrk y3 (by rw [← hm1]; exact y2), c79⟩⟩; exfalso; omega) _ _ _ w (lv_sub hl [4, 5, 6, 7, 1, 2, 3, 0] rfl)
      exact loop (65) 0 1 (by omega) (i0) (i2) (Or.inl ⟨rfl, fun q y1 y2 => by exfalso; have y3 : q < st_ps size r0 := y2; omega⟩) _ _ _ w (lv_sub hl [4, 5, 6, 7, 3, 2, 1, 0] rfl)
    · refine lv_iconst (v := nI 0) hx hb dX0_toggle_31 (by decide) ?_
      subst c28
      have hop : st_oToggle (nI i) (nI i) bt (L, E, f) = (nI 0, L, E, f) := by unfold st_oToggle; rw [if_neg hbdA, st_clamp (show i ≤ 64 by omega), st_map_same, show st_seg E i i = [] by simp [st_seg]]; rfl
      exact hend _ _ _ _ ((nI 0)) (L.length, g, k, f, d, b, cell, size, look, hL, hS) (by rw [hop]; exact ⟨rfl, hX, hE, hLE, rfl, hf⟩) w rfl dX0_toggle_32
  refine lv_aload_n hx hb dX0_toggle_0 rfl (lv_at hl 0 rfl) ?_
  refine lv_iload_n hx hb dX0_toggle_1 rfl (lv_at hl 1 rfl) ?_
  refine lv_iload_n hx hb dX0_toggle_2 rfl (lv_at hl 2 rfl) ?_
  refine x_calli (n := 2) (As := [.int vi, .int vj]) (rest := []) C w (m_bad l (L.length) g k f d b cell size look hL hS vi vj) q134 q136 qs12 q137 rfl (by decide +kernel) rfl ⟨rfl, rfl⟩ ⟨Nat.le_of_ble_eq_true rfl, Nat.le_of_ble_eq_true rfl⟩ ⟨Nat.le_refl _, Nat.le_refl _⟩ rfl hl.1 (Nat.le_of_ble_eq_true rfl) dX0_toggle_3 (fun r0 u H locs hp w => ?_)
  obtain ⟨rfl, hr0⟩ := hp
  refine lv_if_ne (tgt := 24) hx hb dX0_toggle_6 (by decide) (fun c6 => ?_) (fun c6 => ?_)
  · refine lv_iconst (v := (-1)) hx hb dX0_toggle_24 (by decide) ?_
    have hop : st_oToggle vi vj bt (L, E, f) = (-1, L, E, f) := by unfold st_oToggle; exact if_pos (Or.inl (st_b1 hr0 c6))
    exact hend _ _ _ _ ((-1)) (L.length, g, k, f, d, b, cell, size, look, hL, hS) (by rw [hop]; exact ⟨rfl, hX, hE, hLE, rfl, hf⟩) w rfl dX0_toggle_25
  · refine lv_iload_n hx hb dX0_toggle_9 rfl (lv_at hl 3 rfl) ?_
    refine lv_iconst (v := 1) hx hb dX0_toggle_10 (by decide) ?_
    refine lv_icmp_eq (tgt := 26) hx hb dX0_toggle_11 (by decide) (fun c11 => ?_) (fun c11 => ?_)
    · exact tail (Or.inl c11) c6 hr0 _ _ _ w (lv_sub hl [0, 1, 2, 3] rfl)
    · refine lv_iload_n hx hb dX0_toggle_14 rfl (lv_at hl 3 rfl) ?_
      refine lv_iconst (v := 2) hx hb dX0_toggle_15 (by decide) ?_
      refine lv_icmp_eq (tgt := 26) hx hb dX0_toggle_16 (by decide) (fun c16 => ?_) (fun c16 => ?_)
      · exact tail (Or.inr (Or.inl c16)) c6 hr0 _ _ _ w (lv_sub hl [0, 1, 2, 3] rfl)
      · refine lv_iload_n hx hb dX0_toggle_19 rfl (lv_at hl 3 rfl) ?_
        refine lv_iconst (v := 4) hx hb dX0_toggle_20 (by decide) ?_
        refine lv_icmp_eq (tgt := 26) hx hb dX0_toggle_21 (by decide) (fun c21 => ?_) (fun c21 => ?_)
        · exact tail (Or.inr (Or.inr c21)) c6 hr0 _ _ _ w (lv_sub hl [0, 1, 2, 3] rfl)
        · refine lv_iconst (v := (-1)) hx hb dX0_toggle_24 (by decide) ?_
          have hop : st_oToggle vi vj bt (L, E, f) = (-1, L, E, f) := by unfold st_oToggle; exact if_pos (Or.inr ⟨c11, c16, c21⟩)
          exact hend _ _ _ _ ((-1)) (L.length, g, k, f, d, b, cell, size, look, hL, hS) (by rw [hop]; exact ⟨rfl, hX, hE, hLE, rfl, hf⟩) w rfl dX0_toggle_25
end
section
set_option maxRecDepth 100000
def st_ad (a b c d e f : Nat) : Nat → Nat := fun k => match k with | 0 => a | 1 => b | 2 => c | 3 => d | 4 => e | _ => f
def st_ca (a b c d e : ClassId) : Nat → ClassId := fun k => match k with | 0 => a | 1 => b | 2 => c | 3 => d | _ => e
def st_xz : XS := (0, 0, 0, 0, 0, 0, fun _ => nI 0, fun _ => 0, fun _ => nI 0, fun _ => nI 0, fun _ => nI 0)
def st_mz : MS := (0, 0, fun _ => nI 0, fun _ => nI 0, fun _ => nI 0, fun _ => nI 0)
abbrev st_x0 : List Value := [.int (nI 0), .int (nI 0), .null, .int (nI 0), .null, .null, .int (nI 0), .int (nI 0), .null, .null, .int (nI 0)]
abbrev st_m0 : List Value := [.null, .null, .int (nI 0), .int (nI 0), .null, .null]
set_option maxHeartbeats 4000000 in
/-- the constructor: the arrays are made -/
theorem mi_X0 (l : Launch) (D : va_G) (a0 sz : Nat) : Met l yX0_init (ws_ yX0_init cX0_init 1 none) ({ frames := 1, cells := 5, slots := 328, locals := 12 }) (va_Pc [.ref a0] (gP D [] [(a0, .inr (0, st_x0))] sz)) (va_Qv (fun u : (Nat → Nat) × (Nat → ClassId) => u.1 0 = a0) (fun u t => va_P D vwCl (xw u.1 u.2 st_xz) t.heap ∧ va_K D vwCl (xt u.2) t ∧ va_D (va_A [(a0, .inr (0, st_x0))] sz) (xw u.1 u.2 st_xz)) (va_A [(a0, .inr (0, st_x0))] sz)) 5 328 (va_A [(a0, .inr (0, st_x0))] sz) := by
  refine Met.ofW (cc := cX0_init) (maxL := 1) (ret := none) (by decide +kernel) rfl ?_
  intro p e s m args below meth c s₁ B hml hv
  obtain ⟨rfl, hsz, hP, hK, hD0⟩ := hv
  have hx := B.exec
  have hb := B.bytes
  have hr := B.returns
  have hts := atoms_spec (ws := ws_ yX0_init cX0_init 1 none) B.pre
  have hts : ∀ w ∈ lw_all, w.before _ s = true := fun w h => hts w (List.mem_cons_of_mem _ h)
  have hown : s.vm.findClass RX0 = some m.cls := findClass_of_methodNamed B.named
  have hlocks := B.notSynchronized
  have hin : meth.name = "<init>" := (name_of_methodNamed B.named B.method).1
  subst hsz
  have hD := hD0.self (sz := s.heap.size)
  generalize hAe : va_A [(a0, .inr (0, st_x0))] s.heap.size = A at hD ⊢
  have hA : ∀ q : Nat, s.heap.size ≤ q → A q := fun q h => by rw [← hAe]; exact Or.inr h
  have hS : va_S A s.heap s.heap [] := va_S.rf
  have hP : va_P D vwCl [(a0, .inr (0, st_x0))] s.heap := hP
  have hl := lv_entry ([.ref a0]) (n := 1) (Nat.le_of_ble_eq_true rfl)
  rw [lg_entry_eq]
  generalize (lg_sl ([.ref a0]) ++ List.replicate (1 - (lg_sl ([.ref a0])).length) Slot.unset).toArray = ls at hl ⊢
  have hl : lv_has ls 1 [(0, .ref a0)] := hl
  refine lv_aload_n hx hb dX0_init_0 rfl (lv_at hl 0 rfl) ?_
  refine W.objInit hx hb hown (hts _ q36) (hts _ q37) (hts _ q38) rfl (by rw [hml]; exact hl.1) rfl dX0_init_1 (Nat.le_of_ble_eq_true rfl) (Nat.le_of_ble_eq_true rfl) ?_
  refine W.eq (g2 := F0 m 4 ls []) rfl ?_
  refine lv_aload_n hx hb dX0_init_4 rfl (lv_at hl 0 rfl) ?_
  refine lv_bipush (v := 64) hx hb dX0_init_5 (by decide) ?_
  refine va_newa (atype := .int) (ty := .int) (N' := 64) (a0 := (64, .inl (fun _ => nI 0))) hx hb (hts _ q73) rfl hK hP hD hS hA (fun cA => rfl) (by decide) (by decide) (by decide) (Nat.le_of_ble_eq_true rfl) (Nat.le_of_ble_eq_true rfl) dX0_init_7 (fun q1v k1v H hK hP hD hS => ?_)
  have hK : va_K D vwCl [(k1v, .int)] s := hK
  have hP : va_P D vwCl [(a0, .inr (0, [.int (nI 0), .int (nI 0), .null, .int (nI 0), .null, .null, .int (nI 0), .int (nI 0), .null, .null, .int (nI 0)])), (q1v, .inl (k1v, 64, .inl (fun _ => nI 0)))] H := hP
  have hD : va_D A [(a0, .inr (0, [.int (nI 0), .int (nI 0), .null, .int (nI 0), .null, .null, .int (nI 0), .int (nI 0), .null, .null, .int (nI 0)])), (q1v, .inl (k1v, 64, .inl (fun _ => nI 0)))] := hD
  refine W.widen (k := 1) (n := 64) (Nat.le_of_ble_eq_true rfl) (Nat.le_of_ble_eq_true rfl) ?_
  refine va_putF (D := D) (ci := 0) (v := .ref q1v) (ty := .array .int) (C := RX0) (T := TX0) (N := 11) (ref := (TX0 2).1) hx hb hts in_X0 tyX0 tyX0_ok nmX0 hown hK hP hD hS 0 rfl rfl 2 (by decide) (hts _ q41) (fun _ h9 => h9) rfl hin rfl (by decide +kernel) rfl rfl (Nat.le_of_ble_eq_true rfl) dX0_init_9 (fun H locs hP hD hS => ?_)
  have hP : va_P D vwCl [(a0, .inr (0, [.int (nI 0), .int (nI 0), .ref q1v, .int (nI 0), .null, .null, .int (nI 0), .int (nI 0), .null, .null, .int (nI 0)])), (q1v, .inl (k1v, 64, .inl (fun _ => nI 0)))] H := hP
  have hD : va_D A [(a0, .inr (0, [.int (nI 0), .int (nI 0), .ref q1v, .int (nI 0), .null, .null, .int (nI 0), .int (nI 0), .null, .null, .int (nI 0)])), (q1v, .inl (k1v, 64, .inl (fun _ => nI 0)))] := hD
  refine lv_aload_n hx hb dX0_init_12 rfl (lv_at hl 0 rfl) ?_
  refine lv_bipush (v := 68) hx hb dX0_init_13 (by decide) ?_
  refine va_newa (atype := .int) (ty := .int) (N' := 68) (a0 := (68, .inl (fun _ => nI 0))) hx hb (hts _ q73) rfl hK hP hD hS hA (fun cA => rfl) (by decide) (by decide) (by decide) (Nat.le_of_ble_eq_true rfl) (Nat.le_of_ble_eq_true rfl) dX0_init_15 (fun q2v k2v H hK hP hD hS => ?_)
  have hK : va_K D vwCl [(k1v, .int), (k2v, .int)] s := hK
  have hP : va_P D vwCl [(a0, .inr (0, [.int (nI 0), .int (nI 0), .ref q1v, .int (nI 0), .null, .null, .int (nI 0), .int (nI 0), .null, .null, .int (nI 0)])), (q1v, .inl (k1v, 64, .inl (fun _ => nI 0))), (q2v, .inl (k2v, 68, .inl (fun _ => nI 0)))] H := hP
  have hD : va_D A [(a0, .inr (0, [.int (nI 0), .int (nI 0), .ref q1v, .int (nI 0), .null, .null, .int (nI 0), .int (nI 0), .null, .null, .int (nI 0)])), (q1v, .inl (k1v, 64, .inl (fun _ => nI 0))), (q2v, .inl (k2v, 68, .inl (fun _ => nI 0)))] := hD
  refine W.widen (k := 2) (n := 132) (Nat.le_of_ble_eq_true rfl) (Nat.le_of_ble_eq_true rfl) ?_
  refine va_putF (D := D) (ci := 0) (v := .ref q2v) (ty := .array .int) (C := RX0) (T := TX0) (N := 11) (ref := (TX0 4).1) hx hb hts in_X0 tyX0 tyX0_ok nmX0 hown hK hP hD hS 0 rfl rfl 4 (by decide) (hts _ q43) (fun _ h9 => h9) rfl hin rfl (by decide +kernel) rfl rfl (Nat.le_of_ble_eq_true rfl) dX0_init_17 (fun H locs hP hD hS => ?_)
  have hP : va_P D vwCl [(a0, .inr (0, [.int (nI 0), .int (nI 0), .ref q1v, .int (nI 0), .ref q2v, .null, .int (nI 0), .int (nI 0), .null, .null, .int (nI 0)])), (q1v, .inl (k1v, 64, .inl (fun _ => nI 0))), (q2v, .inl (k2v, 68, .inl (fun _ => nI 0)))] H := hP
  have hD : va_D A [(a0, .inr (0, [.int (nI 0), .int (nI 0), .ref q1v, .int (nI 0), .ref q2v, .null, .int (nI 0), .int (nI 0), .null, .null, .int (nI 0)])), (q1v, .inl (k1v, 64, .inl (fun _ => nI 0))), (q2v, .inl (k2v, 68, .inl (fun _ => nI 0)))] := hD
  refine lv_aload_n hx hb dX0_init_20 rfl (lv_at hl 0 rfl) ?_
  refine lv_bipush (v := 68) hx hb dX0_init_21 (by decide) ?_
  refine va_newa (atype := .int) (ty := .int) (N' := 68) (a0 := (68, .inl (fun _ => nI 0))) hx hb (hts _ q73) rfl hK hP hD hS hA (fun cA => rfl) (by decide) (by decide) (by decide) (Nat.le_of_ble_eq_true rfl) (Nat.le_of_ble_eq_true rfl) dX0_init_23 (fun q3v k3v H hK hP hD hS => ?_)
  have hK : va_K D vwCl [(k1v, .int), (k2v, .int), (k3v, .int)] s := hK
  have hP : va_P D vwCl [(a0, .inr (0, [.int (nI 0), .int (nI 0), .ref q1v, .int (nI 0), .ref q2v, .null, .int (nI 0), .int (nI 0), .null, .null, .int (nI 0)])), (q1v, .inl (k1v, 64, .inl (fun _ => nI 0))), (q2v, .inl (k2v, 68, .inl (fun _ => nI 0))), (q3v, .inl (k3v, 68, .inl (fun _ => nI 0)))] H := hP
  have hD : va_D A [(a0, .inr (0, [.int (nI 0), .int (nI 0), .ref q1v, .int (nI 0), .ref q2v, .null, .int (nI 0), .int (nI 0), .null, .null, .int (nI 0)])), (q1v, .inl (k1v, 64, .inl (fun _ => nI 0))), (q2v, .inl (k2v, 68, .inl (fun _ => nI 0))), (q3v, .inl (k3v, 68, .inl (fun _ => nI 0)))] := hD
  refine W.widen (k := 3) (n := 200) (Nat.le_of_ble_eq_true rfl) (Nat.le_of_ble_eq_true rfl) ?_
  refine va_putF (D := D) (ci := 0) (v := .ref q3v) (ty := .array .int) (C := RX0) (T := TX0) (N := 11) (ref := (TX0 5).1) hx hb hts in_X0 tyX0 tyX0_ok nmX0 hown hK hP hD hS 0 rfl rfl 5 (by decide) (hts _ q44) (fun _ h9 => h9) rfl hin rfl (by decide +kernel) rfl rfl (Nat.le_of_ble_eq_true rfl) dX0_init_25 (fun H locs hP hD hS => ?_)
  have hP : va_P D vwCl [(a0, .inr (0, [.int (nI 0), .int (nI 0), .ref q1v, .int (nI 0), .ref q2v, .ref q3v, .int (nI 0), .int (nI 0), .null, .null, .int (nI 0)])), (q1v, .inl (k1v, 64, .inl (fun _ => nI 0))), (q2v, .inl (k2v, 68, .inl (fun _ => nI 0))), (q3v, .inl (k3v, 68, .inl (fun _ => nI 0)))] H := hP
  have hD : va_D A [(a0, .inr (0, [.int (nI 0), .int (nI 0), .ref q1v, .int (nI 0), .ref q2v, .ref q3v, .int (nI 0), .int (nI 0), .null, .null, .int (nI 0)])), (q1v, .inl (k1v, 64, .inl (fun _ => nI 0))), (q2v, .inl (k2v, 68, .inl (fun _ => nI 0))), (q3v, .inl (k3v, 68, .inl (fun _ => nI 0)))] := hD
  refine lv_aload_n hx hb dX0_init_28 rfl (lv_at hl 0 rfl) ?_
  refine lv_bipush (v := 64) hx hb dX0_init_29 (by decide) ?_
  refine va_newa (atype := .int) (ty := .int) (N' := 64) (a0 := (64, .inl (fun _ => nI 0))) hx hb (hts _ q73) rfl hK hP hD hS hA (fun cA => rfl) (by decide) (by decide) (by decide) (Nat.le_of_ble_eq_true rfl) (Nat.le_of_ble_eq_true rfl) dX0_init_31 (fun q4v k4v H hK hP hD hS => ?_)
  have hK : va_K D vwCl [(k1v, .int), (k2v, .int), (k3v, .int), (k4v, .int)] s := hK
  have hP : va_P D vwCl [(a0, .inr (0, [.int (nI 0), .int (nI 0), .ref q1v, .int (nI 0), .ref q2v, .ref q3v, .int (nI 0), .int (nI 0), .null, .null, .int (nI 0)])), (q1v, .inl (k1v, 64, .inl (fun _ => nI 0))), (q2v, .inl (k2v, 68, .inl (fun _ => nI 0))), (q3v, .inl (k3v, 68, .inl (fun _ => nI 0))), (q4v, .inl (k4v, 64, .inl (fun _ => nI 0)))] H := hP
  have hD : va_D A [(a0, .inr (0, [.int (nI 0), .int (nI 0), .ref q1v, .int (nI 0), .ref q2v, .ref q3v, .int (nI 0), .int (nI 0), .null, .null, .int (nI 0)])), (q1v, .inl (k1v, 64, .inl (fun _ => nI 0))), (q2v, .inl (k2v, 68, .inl (fun _ => nI 0))), (q3v, .inl (k3v, 68, .inl (fun _ => nI 0))), (q4v, .inl (k4v, 64, .inl (fun _ => nI 0)))] := hD
  refine W.widen (k := 4) (n := 264) (Nat.le_of_ble_eq_true rfl) (Nat.le_of_ble_eq_true rfl) ?_
  refine va_putF (D := D) (ci := 0) (v := .ref q4v) (ty := .array .int) (C := RX0) (T := TX0) (N := 11) (ref := (TX0 8).1) hx hb hts in_X0 tyX0 tyX0_ok nmX0 hown hK hP hD hS 0 rfl rfl 8 (by decide) (hts _ q47) (fun _ h9 => h9) rfl hin rfl (by decide +kernel) rfl rfl (Nat.le_of_ble_eq_true rfl) dX0_init_33 (fun H locs hP hD hS => ?_)
  have hP : va_P D vwCl [(a0, .inr (0, [.int (nI 0), .int (nI 0), .ref q1v, .int (nI 0), .ref q2v, .ref q3v, .int (nI 0), .int (nI 0), .ref q4v, .null, .int (nI 0)])), (q1v, .inl (k1v, 64, .inl (fun _ => nI 0))), (q2v, .inl (k2v, 68, .inl (fun _ => nI 0))), (q3v, .inl (k3v, 68, .inl (fun _ => nI 0))), (q4v, .inl (k4v, 64, .inl (fun _ => nI 0)))] H := hP
  have hD : va_D A [(a0, .inr (0, [.int (nI 0), .int (nI 0), .ref q1v, .int (nI 0), .ref q2v, .ref q3v, .int (nI 0), .int (nI 0), .ref q4v, .null, .int (nI 0)])), (q1v, .inl (k1v, 64, .inl (fun _ => nI 0))), (q2v, .inl (k2v, 68, .inl (fun _ => nI 0))), (q3v, .inl (k3v, 68, .inl (fun _ => nI 0))), (q4v, .inl (k4v, 64, .inl (fun _ => nI 0)))] := hD
  refine lv_aload_n hx hb dX0_init_36 rfl (lv_at hl 0 rfl) ?_
  refine lv_bipush (v := 64) hx hb dX0_init_37 (by decide) ?_
  refine va_newa (atype := .int) (ty := .int) (N' := 64) (a0 := (64, .inl (fun _ => nI 0))) hx hb (hts _ q73) rfl hK hP hD hS hA (fun cA => rfl) (by decide) (by decide) (by decide) (Nat.le_of_ble_eq_true rfl) (Nat.le_of_ble_eq_true rfl) dX0_init_39 (fun q5v k5v H hK hP hD hS => ?_)
  have hK : va_K D vwCl [(k1v, .int), (k2v, .int), (k3v, .int), (k4v, .int), (k5v, .int)] s := hK
  have hP : va_P D vwCl [(a0, .inr (0, [.int (nI 0), .int (nI 0), .ref q1v, .int (nI 0), .ref q2v, .ref q3v, .int (nI 0), .int (nI 0), .ref q4v, .null, .int (nI 0)])), (q1v, .inl (k1v, 64, .inl (fun _ => nI 0))), (q2v, .inl (k2v, 68, .inl (fun _ => nI 0))), (q3v, .inl (k3v, 68, .inl (fun _ => nI 0))), (q4v, .inl (k4v, 64, .inl (fun _ => nI 0))), (q5v, .inl (k5v, 64, .inl (fun _ => nI 0)))] H := hP
  have hD : va_D A [(a0, .inr (0, [.int (nI 0), .int (nI 0), .ref q1v, .int (nI 0), .ref q2v, .ref q3v, .int (nI 0), .int (nI 0), .ref q4v, .null, .int (nI 0)])), (q1v, .inl (k1v, 64, .inl (fun _ => nI 0))), (q2v, .inl (k2v, 68, .inl (fun _ => nI 0))), (q3v, .inl (k3v, 68, .inl (fun _ => nI 0))), (q4v, .inl (k4v, 64, .inl (fun _ => nI 0))), (q5v, .inl (k5v, 64, .inl (fun _ => nI 0)))] := hD
  refine W.widen (k := 5) (n := 328) (Nat.le_of_ble_eq_true rfl) (Nat.le_of_ble_eq_true rfl) ?_
  refine va_putF (D := D) (ci := 0) (v := .ref q5v) (ty := .array .int) (C := RX0) (T := TX0) (N := 11) (ref := (TX0 9).1) hx hb hts in_X0 tyX0 tyX0_ok nmX0 hown hK hP hD hS 0 rfl rfl 9 (by decide) (hts _ q48) (fun _ h9 => h9) rfl hin rfl (by decide +kernel) rfl rfl (Nat.le_of_ble_eq_true rfl) dX0_init_41 (fun H locs hP hD hS => ?_)
  have hP : va_P D vwCl [(a0, .inr (0, [.int (nI 0), .int (nI 0), .ref q1v, .int (nI 0), .ref q2v, .ref q3v, .int (nI 0), .int (nI 0), .ref q4v, .ref q5v, .int (nI 0)])), (q1v, .inl (k1v, 64, .inl (fun _ => nI 0))), (q2v, .inl (k2v, 68, .inl (fun _ => nI 0))), (q3v, .inl (k3v, 68, .inl (fun _ => nI 0))), (q4v, .inl (k4v, 64, .inl (fun _ => nI 0))), (q5v, .inl (k5v, 64, .inl (fun _ => nI 0)))] H := hP
  have hD : va_D A [(a0, .inr (0, [.int (nI 0), .int (nI 0), .ref q1v, .int (nI 0), .ref q2v, .ref q3v, .int (nI 0), .int (nI 0), .ref q4v, .ref q5v, .int (nI 0)])), (q1v, .inl (k1v, 64, .inl (fun _ => nI 0))), (q2v, .inl (k2v, 68, .inl (fun _ => nI 0))), (q3v, .inl (k3v, 68, .inl (fun _ => nI 0))), (q4v, .inl (k4v, 64, .inl (fun _ => nI 0))), (q5v, .inl (k5v, 64, .inl (fun _ => nI 0)))] := hD
  exact W.vret hx hb hr (fun t ht hW => ⟨⟨(st_ad a0 q1v q2v q3v q4v q5v, st_ca k1v k2v k3v k4v k5v), rfl, rfl, by rw [ht]; exact hP, va_K.moved hW.alike hK, hD⟩, hS.F ht⟩) hS.2.2 dX0_init_44
set_option maxHeartbeats 4000000 in
/-- the constructor: the arrays are made -/
theorem mi_X1 (l : Launch) (D : va_G) (a0 sz : Nat) : Met l yX1_init (ws_ yX1_init cX1_init 1 none) ({ frames := 1, cells := 4, slots := 256, locals := 12 }) (va_Pc [.ref a0] (gP D [] [(a0, .inr (1, st_m0))] sz)) (va_Qv (fun u : (Nat → Nat) × (Nat → ClassId) => u.1 0 = a0) (fun u t => va_P D vwCl (mw u.1 u.2 st_mz) t.heap ∧ va_K D vwCl (mt u.2) t ∧ va_D (va_A [(a0, .inr (1, st_m0))] sz) (mw u.1 u.2 st_mz)) (va_A [(a0, .inr (1, st_m0))] sz)) 4 256 (va_A [(a0, .inr (1, st_m0))] sz) := by
  refine Met.ofW (cc := cX1_init) (maxL := 1) (ret := none) (by decide +kernel) rfl ?_
  intro p e s m args below meth c s₁ B hml hv
  obtain ⟨rfl, hsz, hP, hK, hD0⟩ := hv
  have hx := B.exec
  have hb := B.bytes
  have hr := B.returns
  have hts := atoms_spec (ws := ws_ yX1_init cX1_init 1 none) B.pre
  have hts : ∀ w ∈ lw_all, w.before _ s = true := fun w h => hts w (List.mem_cons_of_mem _ h)
  have hown : s.vm.findClass RX1 = some m.cls := findClass_of_methodNamed B.named
  have hlocks := B.notSynchronized
  have hin : meth.name = "<init>" := (name_of_methodNamed B.named B.method).1
  subst hsz
  have hD := hD0.self (sz := s.heap.size)
  generalize hAe : va_A [(a0, .inr (1, st_m0))] s.heap.size = A at hD ⊢
  have hA : ∀ q : Nat, s.heap.size ≤ q → A q := fun q h => by rw [← hAe]; exact Or.inr h
  have hS : va_S A s.heap s.heap [] := va_S.rf
  have hP : va_P D vwCl [(a0, .inr (1, st_m0))] s.heap := hP
  have hl := lv_entry ([.ref a0]) (n := 1) (Nat.le_of_ble_eq_true rfl)
  rw [lg_entry_eq]
  generalize (lg_sl ([.ref a0]) ++ List.replicate (1 - (lg_sl ([.ref a0])).length) Slot.unset).toArray = ls at hl ⊢
  have hl : lv_has ls 1 [(0, .ref a0)] := hl
  refine lv_aload_n hx hb dX1_init_0 rfl (lv_at hl 0 rfl) ?_
  refine W.objInit hx hb hown (hts _ q240) (hts _ q37) (hts _ q38) rfl (by rw [hml]; exact hl.1) rfl dX1_init_1 (Nat.le_of_ble_eq_true rfl) (Nat.le_of_ble_eq_true rfl) ?_
  refine W.eq (g2 := F0 m 4 ls []) rfl ?_
  refine lv_aload_n hx hb dX1_init_4 rfl (lv_at hl 0 rfl) ?_
  refine lv_bipush (v := 64) hx hb dX1_init_5 (by decide) ?_
  refine va_newa (atype := .int) (ty := .int) (N' := 64) (a0 := (64, .inl (fun _ => nI 0))) hx hb (hts _ q73) rfl hK hP hD hS hA (fun cA => rfl) (by decide) (by decide) (by decide) (Nat.le_of_ble_eq_true rfl) (Nat.le_of_ble_eq_true rfl) dX1_init_7 (fun q1v k1v H hK hP hD hS => ?_)
  have hK : va_K D vwCl [(k1v, .int)] s := hK
  have hP : va_P D vwCl [(a0, .inr (1, [.null, .null, .int (nI 0), .int (nI 0), .null, .null])), (q1v, .inl (k1v, 64, .inl (fun _ => nI 0)))] H := hP
  have hD : va_D A [(a0, .inr (1, [.null, .null, .int (nI 0), .int (nI 0), .null, .null])), (q1v, .inl (k1v, 64, .inl (fun _ => nI 0)))] := hD
  refine W.widen (k := 1) (n := 64) (Nat.le_of_ble_eq_true rfl) (Nat.le_of_ble_eq_true rfl) ?_
  refine va_putF (D := D) (ci := 1) (v := .ref q1v) (ty := .array .int) (C := RX1) (T := TX1) (N := 6) (ref := (TX1 0).1) hx hb hts in_X1 tyX1 tyX1_ok nmX1 hown hK hP hD hS 0 rfl rfl 0 (by decide) (hts _ q241) (fun _ h9 => h9) rfl hin rfl (by decide +kernel) rfl rfl (Nat.le_of_ble_eq_true rfl) dX1_init_9 (fun H locs hP hD hS => ?_)
  have hP : va_P D vwCl [(a0, .inr (1, [.ref q1v, .null, .int (nI 0), .int (nI 0), .null, .null])), (q1v, .inl (k1v, 64, .inl (fun _ => nI 0)))] H := hP
  have hD : va_D A [(a0, .inr (1, [.ref q1v, .null, .int (nI 0), .int (nI 0), .null, .null])), (q1v, .inl (k1v, 64, .inl (fun _ => nI 0)))] := hD
  refine lv_aload_n hx hb dX1_init_12 rfl (lv_at hl 0 rfl) ?_
  refine lv_bipush (v := 64) hx hb dX1_init_13 (by decide) ?_
  refine va_newa (atype := .int) (ty := .int) (N' := 64) (a0 := (64, .inl (fun _ => nI 0))) hx hb (hts _ q73) rfl hK hP hD hS hA (fun cA => rfl) (by decide) (by decide) (by decide) (Nat.le_of_ble_eq_true rfl) (Nat.le_of_ble_eq_true rfl) dX1_init_15 (fun q2v k2v H hK hP hD hS => ?_)
  have hK : va_K D vwCl [(k1v, .int), (k2v, .int)] s := hK
  have hP : va_P D vwCl [(a0, .inr (1, [.ref q1v, .null, .int (nI 0), .int (nI 0), .null, .null])), (q1v, .inl (k1v, 64, .inl (fun _ => nI 0))), (q2v, .inl (k2v, 64, .inl (fun _ => nI 0)))] H := hP
  have hD : va_D A [(a0, .inr (1, [.ref q1v, .null, .int (nI 0), .int (nI 0), .null, .null])), (q1v, .inl (k1v, 64, .inl (fun _ => nI 0))), (q2v, .inl (k2v, 64, .inl (fun _ => nI 0)))] := hD
  refine W.widen (k := 2) (n := 128) (Nat.le_of_ble_eq_true rfl) (Nat.le_of_ble_eq_true rfl) ?_
  refine va_putF (D := D) (ci := 1) (v := .ref q2v) (ty := .array .int) (C := RX1) (T := TX1) (N := 6) (ref := (TX1 1).1) hx hb hts in_X1 tyX1 tyX1_ok nmX1 hown hK hP hD hS 0 rfl rfl 1 (by decide) (hts _ q242) (fun _ h9 => h9) rfl hin rfl (by decide +kernel) rfl rfl (Nat.le_of_ble_eq_true rfl) dX1_init_17 (fun H locs hP hD hS => ?_)
  have hP : va_P D vwCl [(a0, .inr (1, [.ref q1v, .ref q2v, .int (nI 0), .int (nI 0), .null, .null])), (q1v, .inl (k1v, 64, .inl (fun _ => nI 0))), (q2v, .inl (k2v, 64, .inl (fun _ => nI 0)))] H := hP
  have hD : va_D A [(a0, .inr (1, [.ref q1v, .ref q2v, .int (nI 0), .int (nI 0), .null, .null])), (q1v, .inl (k1v, 64, .inl (fun _ => nI 0))), (q2v, .inl (k2v, 64, .inl (fun _ => nI 0)))] := hD
  refine lv_aload_n hx hb dX1_init_20 rfl (lv_at hl 0 rfl) ?_
  refine lv_bipush (v := 64) hx hb dX1_init_21 (by decide) ?_
  refine va_newa (atype := .int) (ty := .int) (N' := 64) (a0 := (64, .inl (fun _ => nI 0))) hx hb (hts _ q73) rfl hK hP hD hS hA (fun cA => rfl) (by decide) (by decide) (by decide) (Nat.le_of_ble_eq_true rfl) (Nat.le_of_ble_eq_true rfl) dX1_init_23 (fun q3v k3v H hK hP hD hS => ?_)
  have hK : va_K D vwCl [(k1v, .int), (k2v, .int), (k3v, .int)] s := hK
  have hP : va_P D vwCl [(a0, .inr (1, [.ref q1v, .ref q2v, .int (nI 0), .int (nI 0), .null, .null])), (q1v, .inl (k1v, 64, .inl (fun _ => nI 0))), (q2v, .inl (k2v, 64, .inl (fun _ => nI 0))), (q3v, .inl (k3v, 64, .inl (fun _ => nI 0)))] H := hP
  have hD : va_D A [(a0, .inr (1, [.ref q1v, .ref q2v, .int (nI 0), .int (nI 0), .null, .null])), (q1v, .inl (k1v, 64, .inl (fun _ => nI 0))), (q2v, .inl (k2v, 64, .inl (fun _ => nI 0))), (q3v, .inl (k3v, 64, .inl (fun _ => nI 0)))] := hD
  refine W.widen (k := 3) (n := 192) (Nat.le_of_ble_eq_true rfl) (Nat.le_of_ble_eq_true rfl) ?_
  refine va_putF (D := D) (ci := 1) (v := .ref q3v) (ty := .array .int) (C := RX1) (T := TX1) (N := 6) (ref := (TX1 4).1) hx hb hts in_X1 tyX1 tyX1_ok nmX1 hown hK hP hD hS 0 rfl rfl 4 (by decide) (hts _ q245) (fun _ h9 => h9) rfl hin rfl (by decide +kernel) rfl rfl (Nat.le_of_ble_eq_true rfl) dX1_init_25 (fun H locs hP hD hS => ?_)
  have hP : va_P D vwCl [(a0, .inr (1, [.ref q1v, .ref q2v, .int (nI 0), .int (nI 0), .ref q3v, .null])), (q1v, .inl (k1v, 64, .inl (fun _ => nI 0))), (q2v, .inl (k2v, 64, .inl (fun _ => nI 0))), (q3v, .inl (k3v, 64, .inl (fun _ => nI 0)))] H := hP
  have hD : va_D A [(a0, .inr (1, [.ref q1v, .ref q2v, .int (nI 0), .int (nI 0), .ref q3v, .null])), (q1v, .inl (k1v, 64, .inl (fun _ => nI 0))), (q2v, .inl (k2v, 64, .inl (fun _ => nI 0))), (q3v, .inl (k3v, 64, .inl (fun _ => nI 0)))] := hD
  refine lv_aload_n hx hb dX1_init_28 rfl (lv_at hl 0 rfl) ?_
  refine lv_bipush (v := 64) hx hb dX1_init_29 (by decide) ?_
  refine va_newa (atype := .int) (ty := .int) (N' := 64) (a0 := (64, .inl (fun _ => nI 0))) hx hb (hts _ q73) rfl hK hP hD hS hA (fun cA => rfl) (by decide) (by decide) (by decide) (Nat.le_of_ble_eq_true rfl) (Nat.le_of_ble_eq_true rfl) dX1_init_31 (fun q4v k4v H hK hP hD hS => ?_)
  have hK : va_K D vwCl [(k1v, .int), (k2v, .int), (k3v, .int), (k4v, .int)] s := hK
  have hP : va_P D vwCl [(a0, .inr (1, [.ref q1v, .ref q2v, .int (nI 0), .int (nI 0), .ref q3v, .null])), (q1v, .inl (k1v, 64, .inl (fun _ => nI 0))), (q2v, .inl (k2v, 64, .inl (fun _ => nI 0))), (q3v, .inl (k3v, 64, .inl (fun _ => nI 0))), (q4v, .inl (k4v, 64, .inl (fun _ => nI 0)))] H := hP
  have hD : va_D A [(a0, .inr (1, [.ref q1v, .ref q2v, .int (nI 0), .int (nI 0), .ref q3v, .null])), (q1v, .inl (k1v, 64, .inl (fun _ => nI 0))), (q2v, .inl (k2v, 64, .inl (fun _ => nI 0))), (q3v, .inl (k3v, 64, .inl (fun _ => nI 0))), (q4v, .inl (k4v, 64, .inl (fun _ => nI 0)))] := hD
  refine W.widen (k := 4) (n := 256) (Nat.le_of_ble_eq_true rfl) (Nat.le_of_ble_eq_true rfl) ?_
  refine va_putF (D := D) (ci := 1) (v := .ref q4v) (ty := .array .int) (C := RX1) (T := TX1) (N := 6) (ref := (TX1 5).1) hx hb hts in_X1 tyX1 tyX1_ok nmX1 hown hK hP hD hS 0 rfl rfl 5 (by decide) (hts _ q246) (fun _ h9 => h9) rfl hin rfl (by decide +kernel) rfl rfl (Nat.le_of_ble_eq_true rfl) dX1_init_33 (fun H locs hP hD hS => ?_)
  have hP : va_P D vwCl [(a0, .inr (1, [.ref q1v, .ref q2v, .int (nI 0), .int (nI 0), .ref q3v, .ref q4v])), (q1v, .inl (k1v, 64, .inl (fun _ => nI 0))), (q2v, .inl (k2v, 64, .inl (fun _ => nI 0))), (q3v, .inl (k3v, 64, .inl (fun _ => nI 0))), (q4v, .inl (k4v, 64, .inl (fun _ => nI 0)))] H := hP
  have hD : va_D A [(a0, .inr (1, [.ref q1v, .ref q2v, .int (nI 0), .int (nI 0), .ref q3v, .ref q4v])), (q1v, .inl (k1v, 64, .inl (fun _ => nI 0))), (q2v, .inl (k2v, 64, .inl (fun _ => nI 0))), (q3v, .inl (k3v, 64, .inl (fun _ => nI 0))), (q4v, .inl (k4v, 64, .inl (fun _ => nI 0)))] := hD
  exact W.vret hx hb hr (fun t ht hW => ⟨⟨(st_ad a0 q1v q2v q3v q4v q4v, st_ca k1v k2v k3v k4v k4v), rfl, rfl, by rw [ht]; exact hP, va_K.moved hW.alike hK, hD⟩, hS.F ht⟩) hS.2.2 dX1_init_36
end
section
def R_law : String := "StyledTextLaw"
def lw_P (b : Addr) (xs : List Int32) (args : Array Value) (s : State) : Prop := args = #[.ref b] ∧ s.IntsAt b xs ∧ xs.length ≤ 320 ∧ (Jvm.Cond.and given_1 narrow_1).before args s = true
def lw_Q (_ : Array Value) (s : State) (o : Outcome) (t : State) : Prop := o = .returned (some (.int 1)) ∧ Framed s o t [] 600000 7290000
def lw_Z (below : List Frame) (a : Array Value) (s : State) : State → Prop := fun t => ∃ o, t.status = .running ∧ Ended t below o ∧ lw_Q a s o t
/-- the law's own end, with 1 on the stack, nothing written that was there before, its room as the claim has it -/
theorem lw_ret {p : Program} {l : Launch} {e : Env} {s : State} {m : MethodId} {below : List Frame} {meth : Method} {c : Code} {b : Nat} (hx : p.tables.exec = Jvm.exec) (hb : c.code = code) (hr : meth.sig.returnType = ret) (hlocks : meth.locks = false) {pc : Nat} {H : Heap} {ls : Array Slot} (hdg : decode code pc = .ok (.ireturn, 1)) : W p l e room_1 s m #[Value.ref b] below meth c H [] 600000 7290000 (lw_Z below #[Value.ref b] s) (F0 m pc ls [.int 1]) := by
  intro T hT X
  obtain ⟨fs, hret, hrun, hended, hW, hframe⟩ := X.leave (v := some (.int 1)) (hlocks := hlocks) (fun h => by rw [hr] at h; cases h)
  have hmeth' : T.vm.method? m = some meth := X.method'
  refine ⟨T.setFrames fs, ?_, .returned (some (.int 1)), hrun, hended, rfl, ⟨_, rfl⟩, hW, hframe⟩
  jvm_step X.here [X.here.top, hx, hb, hdg, hmeth', hr, ret, narrow_b1]
  (try refine ⟨rfl, ?_⟩); (try refine ⟨rfl, ?_⟩)
  first | (intro acts; rw [hret _ acts rfl rfl rfl]) | rw [hret _ _ rfl rfl rfl]
  exact Steps.refl _
/-- what holds at the law's entry: the machine, the code, the tables' words (any of lw_tbl by 'hts w (by decide +kernel)'), the script of L ints xs at the cell b, what the Statement gives of the start (any of its parts by flat_of_before) -/
def lw_At (p : Program) (s : State) (m : MethodId) (meth : Method) (c : Code) (b L : Nat) (xs : Nat → Int32) : Prop :=
  p.tables.exec = Jvm.exec ∧ c.code = code ∧ meth.sig.returnType = ret ∧ c.maxLocals = 4 ∧ s.vm.findClass R_law = some m.cls ∧ (∀ w ∈ lw_tbl, w.before #[Value.ref b] s = true) ∧ va_X b L xs s s.heap ∧ b < s.heap.size ∧ meth.locks = false ∧ (Jvm.Cond.and given_1 narrow_1).before #[Value.ref b] s = true
end
section
set_option maxRecDepth 100000
section LR
variable {p : Program} {l : Launch} {e : Env} {R : Room} {s : State} {m : MethodId} {args : Array Value} {below : List Frame} {meth : Method} {c : Code} {H : Heap} {locs : List Loc} {cells slots : Nat} {Q : State → Prop}
variable {cc : ByteArray} {pc nL : Nat} {ls : Array Slot} {rest st : List Value} {D : va_G} {A : Nat → Prop} {ad ad2 : Nat → Nat} {ca ca2 : Nat → ClassId}
set_option maxHeartbeats 4000000 in
/-- the law calls StyledText: the reference stays -/
theorem l_callX {own : String} {σ : XS} {τ : MS} {y : MethodName} {b : ByteArray} {L index n : Nat} {rty : FieldType} {rm : Room} {As : List Value} {post : Int32 → XS → Prop} (C : CallFix p m c cc nL s args lw_all own) (w : wd D A s (xw ad ca σ ++ mw ad2 ca2 τ) (xt ca ++ mt ca2) H locs) (hM : XMi l y b L rty rm As σ post) (hlk : Cond.methodLink own index y ∈ lw_all) (hin : Cond.instanceMethod y ∈ lw_all) (hsel : Cond.selects RX0 y y ∈ lw_all) (hcode : Cond.code y b L (some rty) ∈ lw_all) (hyc : y.cls = RX0) (hd : (parseMethodDescriptor y.desc).map (fun d => d.parameters.length) = some n) (hn : As.length = n) (hrm : rm.cells = 0 ∧ rm.slots = 0) (hR : rm.frames + 1 ≤ R.frames ∧ 8 + (L + 11) + rm.locals ≤ R.locals) (hcs : cells ≤ R.cells ∧ slots ≤ R.slots) (hst : st = As.reverse ++ .ref (ad 0) :: rest) (hls : ls.size = nL) (hW : (rest.map fun v => v.category).sum ≤ 8) (hdg : decode cc pc = .ok (.invokevirtual index, 3)) (kk : ∀ (r : Int32) (u : XS) (H1 : Heap) (locs1 : List Loc), post r u → wd D A s (xw ad ca u ++ mw ad2 ca2 τ) (xt ca ++ mt ca2) H1 locs1 → W p l e R s m args below meth c H1 locs1 cells slots Q (F0 m (pc + 3) ls (.int r :: rest))) : W p l e R s m args below meth c H locs cells slots Q (F0 m pc ls st) := by
  have hPc := w.1.sub (ws' := xw ad ca σ) [0, 1, 2, 3, 4, 5] rfl
  have hDc := w.2.1.sub (ws' := xw ad ca σ) [0, 1, 2, 3, 4, 5] (by decide) rfl
  have hKc := w.2.2.2.1.sub (tys' := xt ca) [0, 1, 2, 3, 4] rfl
  have hFc := va_free (wc := xw ad ca σ) w.2.1 w.2.2.1 w.2.2.2.2 [0, 1, 2, 3, 4, 5] rfl
  subst hst
  refine va_calli (va_runV (As := As) (rest := rest) C (hM D ad ca H.size) (cwV n C.2.2.2.2 (lw_V hlk hin hsel q29 hcode) rfl hrm.1 hrm.2 ⟨hyc, by rw [hyc]; decide +kernel, by rw [hyc]; decide +kernel, hd⟩ hR) ⟨gP_blind, va_recv hKc hPc (ci := 0) (q0 := 0) rfl rfl, fun U hU hW => ⟨rfl, by rw [hU], by rw [hU]; exact hPc, va_K.moved hW.alike hKc, hDc.weaken (fun _ _ _ _ => trivial)⟩⟩ rfl hn hls rfl (lv_room hW) hdg ⟨hcs.1, hcs.2⟩) w.2.2.1 (fun q _ h => hFc q h) hFc (fun r u t H1 locs1 ht hvm hw1 hB hz1 hk1 hS => ?_)
  obtain ⟨hP1, hK1, hD1⟩ := hB
  rw [ht] at hP1
  obtain ⟨hP, hD⟩ := va_join (wr := mw ad2 ca2 τ) (w1 := xw ad ca u) w.1 w.2.1 [0, 1, 2, 3, 4, 5] [6, 7, 8, 9, 10] rfl rfl (by decide) (by decide) hk1 hFc hP1 hD1
  exact kk r u H1 locs1 hw1 ⟨hP.sub (ws' := xw ad ca u ++ mw ad2 ca2 τ) [5, 6, 7, 8, 9, 10, 0, 1, 2, 3, 4] rfl, hD.sub (ws' := xw ad ca u ++ mw ad2 ca2 τ) [5, 6, 7, 8, 9, 10, 0, 1, 2, 3, 4] (by decide) rfl, hS, w.2.2.2.1, w.2.2.2.2⟩
set_option maxHeartbeats 4000000 in
/-- the law calls StyledTextModel: the class stays -/
theorem l_callM {own : String} {σ : XS} {τ : MS} {y : MethodName} {b : ByteArray} {L index n : Nat} {rty : FieldType} {rm : Room} {As : List Value} {post : Int32 → MS → Prop} (C : CallFix p m c cc nL s args lw_all own) (w : wd D A s (xw ad ca σ ++ mw ad2 ca2 τ) (xt ca ++ mt ca2) H locs) (hM : MMi l y b L rty rm As τ post) (hlk : Cond.methodLink own index y ∈ lw_all) (hin : Cond.instanceMethod y ∈ lw_all) (hsel : Cond.selects RX1 y y ∈ lw_all) (hcode : Cond.code y b L (some rty) ∈ lw_all) (hyc : y.cls = RX1) (hd : (parseMethodDescriptor y.desc).map (fun d => d.parameters.length) = some n) (hn : As.length = n) (hrm : rm.cells = 0 ∧ rm.slots = 0) (hR : rm.frames + 1 ≤ R.frames ∧ 8 + (L + 11) + rm.locals ≤ R.locals) (hcs : cells ≤ R.cells ∧ slots ≤ R.slots) (hst : st = As.reverse ++ .ref (ad2 0) :: rest) (hls : ls.size = nL) (hW : (rest.map fun v => v.category).sum ≤ 8) (hdg : decode cc pc = .ok (.invokevirtual index, 3)) (kk : ∀ (r : Int32) (u : MS) (H1 : Heap) (locs1 : List Loc), post r u → wd D A s (xw ad ca σ ++ mw ad2 ca2 u) (xt ca ++ mt ca2) H1 locs1 → W p l e R s m args below meth c H1 locs1 cells slots Q (F0 m (pc + 3) ls (.int r :: rest))) : W p l e R s m args below meth c H locs cells slots Q (F0 m pc ls st) := by
  have hPc := w.1.sub (ws' := mw ad2 ca2 τ) [6, 7, 8, 9, 10] rfl
  have hDc := w.2.1.sub (ws' := mw ad2 ca2 τ) [6, 7, 8, 9, 10] (by decide) rfl
  have hKc := w.2.2.2.1.sub (tys' := mt ca2) [5, 6, 7, 8] rfl
  have hFc := va_free (wc := mw ad2 ca2 τ) w.2.1 w.2.2.1 w.2.2.2.2 [6, 7, 8, 9, 10] rfl
  subst hst
  refine va_calli (va_runV (As := As) (rest := rest) C (hM D ad2 ca2 H.size) (cwV n C.2.2.2.2 (lw_V hlk hin hsel q30 hcode) rfl hrm.1 hrm.2 ⟨hyc, by rw [hyc]; decide +kernel, by rw [hyc]; decide +kernel, hd⟩ hR) ⟨gP_blind, va_recv hKc hPc (ci := 1) (q0 := 0) rfl rfl, fun U hU hW => ⟨rfl, by rw [hU], by rw [hU]; exact hPc, va_K.moved hW.alike hKc, hDc.weaken (fun _ _ _ _ => trivial)⟩⟩ rfl hn hls rfl (lv_room hW) hdg ⟨hcs.1, hcs.2⟩) w.2.2.1 (fun q _ h => hFc q h) hFc (fun r u t H1 locs1 ht hvm hw1 hB hz1 hk1 hS => ?_)
  obtain ⟨hP1, hK1, hD1⟩ := hB
  rw [ht] at hP1
  obtain ⟨hP, hD⟩ := va_join (wr := xw ad ca σ) (w1 := mw ad2 ca2 u) w.1 w.2.1 [6, 7, 8, 9, 10] [0, 1, 2, 3, 4, 5] rfl rfl (by decide) (by decide) hk1 hFc hP1 hD1
  exact kk r u H1 locs1 hw1 ⟨hP.sub (ws' := xw ad ca σ ++ mw ad2 ca2 u) [0, 1, 2, 3, 4, 5, 6, 7, 8, 9, 10] rfl, hD.sub (ws' := xw ad ca σ ++ mw ad2 ca2 u) [0, 1, 2, 3, 4, 5, 6, 7, 8, 9, 10] (by decide) rfl, hS, w.2.2.2.1, w.2.2.2.2⟩
/-- an int of the script -/
theorem l_sld (hx : p.tables.exec = Jvm.exec) (hb : c.code = cc) {b L : Nat} {xs : Nat → Int32} (hX : va_X b L xs s s.heap) (hbl : b < s.heap.size) (hL : L ≤ 320) (hS : va_S (fun q : Nat => s.heap.size ≤ q) s.heap H locs) {i : Nat} (hi : i < L) (hdg : decode cc pc = .ok (.iaload, 1)) (kk : W p l e R s m args below meth c H locs cells slots Q (F0 m (pc + 1) ls (.int (xs i) :: rest))) : W p l e R s m args below meth c H locs cells slots Q (F0 m pc ls (.int (nI i) :: .ref b :: rest)) := by
  refine va_sld hx hb hX hbl (Nat.not_le.mpr hbl) hS (vp_in_nI hi (by omega)) hdg ?_
  rw [nI_clamp (show i < 2 ^ 31 by omega)]
  exact kk
end LR
theorem lx_type (l : Launch) (σ : XS) (a : AS) (h : st_XR σ a) (v1 v2 : Int32) : XMi l yX0_type cX0_type 4 .int (st_rm 4 95) [.int v1, .int v2] σ (fun r u => r = (st_oType v1 v2 a).1 ∧ st_XR u (st_oType v1 v2 a).2) := by
  obtain ⟨n, g, k, f, d, b, cell, size, look, hL, hS⟩ := σ
  obtain ⟨L, E, f2⟩ := a
  obtain ⟨hX, hE, hLE, hf, hf2⟩ := h
  have hX : st_XL n g cell L := hX
  have hn : n = L.length := hX.1.symm
  have hf : f = f2 := hf
  subst hn
  subst hf
  exact px_type l g k f d b cell size look hL hS L E v1 v2 hX hE hLE hf2
theorem lm_type (l : Launch) (τ : MS) (a : AS) (h : st_MR τ a) (v1 v2 : Int32) : MMi l yX1_type cX1_type 4 .int (st_rm 1 23) [.int v1, .int v2] τ (fun r u => r = (st_oType v1 v2 a).1 ∧ st_MR u (st_oType v1 v2 a).2) := by
  obtain ⟨n, f, le, sy, kL, kS⟩ := τ
  obtain ⟨L, E, f2⟩ := a
  obtain ⟨hA, hB, hn, hf, hf2⟩ := h
  have hA : st_AR n le L := hA
  have hn2 : n = L.length := hA.1.symm
  have hf : f = f2 := hf
  subst hn2
  subst hf
  exact pm_type l f le sy kL kS L E v1 v2 hA hB hn hf2
theorem lx_put (l : Launch) (σ : XS) (a : AS) (h : st_XR σ a) (v1 v2 v3 v4 : Int32) : XMi l yX0_put cX0_put 5 .int (st_rm 4 95) [.int v1, .int v2, .int v3, .int v4] σ (fun r u => r = (st_oPut v1 v2 v3 v4 a).1 ∧ st_XR u (st_oPut v1 v2 v3 v4 a).2) := by
  obtain ⟨n, g, k, f, d, b, cell, size, look, hL, hS⟩ := σ
  obtain ⟨L, E, f2⟩ := a
  obtain ⟨hX, hE, hLE, hf, hf2⟩ := h
  have hX : st_XL n g cell L := hX
  have hn : n = L.length := hX.1.symm
  have hf : f = f2 := hf
  subst hn
  subst hf
  exact px_put l g k f d b cell size look hL hS L E v1 v2 v3 v4 hX hE hLE hf2
theorem lm_put (l : Launch) (τ : MS) (a : AS) (h : st_MR τ a) (v1 v2 v3 v4 : Int32) : MMi l yX1_put cX1_put 6 .int (st_rm 1 23) [.int v1, .int v2, .int v3, .int v4] τ (fun r u => r = (st_oPut v1 v2 v3 v4 a).1 ∧ st_MR u (st_oPut v1 v2 v3 v4 a).2) := by
  obtain ⟨n, f, le, sy, kL, kS⟩ := τ
  obtain ⟨L, E, f2⟩ := a
  obtain ⟨hA, hB, hn, hf, hf2⟩ := h
  have hA : st_AR n le L := hA
  have hn2 : n = L.length := hA.1.symm
  have hf : f = f2 := hf
  subst hn2
  subst hf
  exact pm_put l f le sy kL kS L E v1 v2 v3 v4 hA hB hn hf2
theorem lx_remove (l : Launch) (σ : XS) (a : AS) (h : st_XR σ a) (v1 v2 : Int32) : XMi l yX0_remove cX0_remove 3 .int (st_rm 4 93) [.int v1, .int v2] σ (fun r u => r = (st_oRemove v1 v2 a).1 ∧ st_XR u (st_oRemove v1 v2 a).2) := by
  obtain ⟨n, g, k, f, d, b, cell, size, look, hL, hS⟩ := σ
  obtain ⟨L, E, f2⟩ := a
  obtain ⟨hX, hE, hLE, hf, hf2⟩ := h
  have hX : st_XL n g cell L := hX
  have hn : n = L.length := hX.1.symm
  have hf : f = f2 := hf
  subst hn
  subst hf
  exact px_remove l g k f d b cell size look hL hS L E v1 v2 hX hE hLE hf2
theorem lm_remove (l : Launch) (τ : MS) (a : AS) (h : st_MR τ a) (v1 v2 : Int32) : MMi l yX1_remove cX1_remove 4 .int (st_rm 1 22) [.int v1, .int v2] τ (fun r u => r = (st_oRemove v1 v2 a).1 ∧ st_MR u (st_oRemove v1 v2 a).2 ∧ u.2.2.2.2 = τ.2.2.2.2) := by
  obtain ⟨n, f, le, sy, kL, kS⟩ := τ
  obtain ⟨L, E, f2⟩ := a
  obtain ⟨hA, hB, hn, hf, hf2⟩ := h
  have hA : st_AR n le L := hA
  have hn2 : n = L.length := hA.1.symm
  have hf : f = f2 := hf
  subst hn2
  subst hf
  exact pm_remove l f le sy kL kS L E v1 v2 hA hB hn hf2
theorem lx_move (l : Launch) (σ : XS) (a : AS) (h : st_XR σ a) (v1 v2 v3 : Int32) : XMi l yX0_move cX0_move 4 .int (st_rm 4 93) [.int v1, .int v2, .int v3] σ (fun r u => r = (st_oMove v1 v2 v3 a).1 ∧ st_XR u (st_oMove v1 v2 v3 a).2) := by
  obtain ⟨n, g, k, f, d, b, cell, size, look, hL, hS⟩ := σ
  obtain ⟨L, E, f2⟩ := a
  obtain ⟨hX, hE, hLE, hf, hf2⟩ := h
  have hX : st_XL n g cell L := hX
  have hn : n = L.length := hX.1.symm
  have hf : f = f2 := hf
  subst hn
  subst hf
  exact px_move l g k f d b cell size look hL hS L E v1 v2 v3 hX hE hLE hf2
theorem lm_move (l : Launch) (τ : MS) (a : AS) (h : st_MR τ a) (v1 v2 v3 : Int32) : MMi l yX1_move cX1_move 4 .int (st_rm 2 46) [.int v1, .int v2, .int v3] τ (fun r u => r = (st_oMove v1 v2 v3 a).1 ∧ st_MR u (st_oMove v1 v2 v3 a).2) := by
  obtain ⟨n, f, le, sy, kL, kS⟩ := τ
  obtain ⟨L, E, f2⟩ := a
  obtain ⟨hA, hB, hn, hf, hf2⟩ := h
  have hA : st_AR n le L := hA
  have hn2 : n = L.length := hA.1.symm
  have hf : f = f2 := hf
  subst hn2
  subst hf
  exact pm_move l f le sy kL kS L E v1 v2 v3 hA hB hn hf2
theorem lx_copy (l : Launch) (σ : XS) (a : AS) (h : st_XR σ a) (v1 v2 v3 : Int32) : XMi l yX0_copy cX0_copy 4 .int (st_rm 4 93) [.int v1, .int v2, .int v3] σ (fun r u => r = (st_oCopy v1 v2 v3 a).1 ∧ st_XR u (st_oCopy v1 v2 v3 a).2) := by
  obtain ⟨n, g, k, f, d, b, cell, size, look, hL, hS⟩ := σ
  obtain ⟨L, E, f2⟩ := a
  obtain ⟨hX, hE, hLE, hf, hf2⟩ := h
  have hX : st_XL n g cell L := hX
  have hn : n = L.length := hX.1.symm
  have hf : f = f2 := hf
  subst hn
  subst hf
  exact px_copy l g k f d b cell size look hL hS L E v1 v2 v3 hX hE hLE hf2
theorem lm_copy (l : Launch) (τ : MS) (a : AS) (h : st_MR τ a) (v1 v2 v3 : Int32) : MMi l yX1_copy cX1_copy 4 .int (st_rm 2 46) [.int v1, .int v2, .int v3] τ (fun r u => r = (st_oCopy v1 v2 v3 a).1 ∧ st_MR u (st_oCopy v1 v2 v3 a).2) := by
  obtain ⟨n, f, le, sy, kL, kS⟩ := τ
  obtain ⟨L, E, f2⟩ := a
  obtain ⟨hA, hB, hn, hf, hf2⟩ := h
  have hA : st_AR n le L := hA
  have hn2 : n = L.length := hA.1.symm
  have hf : f = f2 := hf
  subst hn2
  subst hf
  exact pm_copy l f le sy kL kS L E v1 v2 v3 hA hB hn hf2
theorem lx_style (l : Launch) (σ : XS) (a : AS) (h : st_XR σ a) (v1 v2 v3 v4 : Int32) : XMi l yX0_style cX0_style 10 .int (st_rm 2 45) [.int v1, .int v2, .int v3, .int v4] σ (fun r u => r = (st_oStyle v1 v2 v3 v4 a).1 ∧ st_XR u (st_oStyle v1 v2 v3 v4 a).2) := by
  obtain ⟨n, g, k, f, d, b, cell, size, look, hL, hS⟩ := σ
  obtain ⟨L, E, f2⟩ := a
  obtain ⟨hX, hE, hLE, hf, hf2⟩ := h
  have hX : st_XL n g cell L := hX
  have hn : n = L.length := hX.1.symm
  have hf : f = f2 := hf
  subst hn
  subst hf
  exact px_style l g k f d b cell size look hL hS L E v1 v2 v3 v4 hX hE hLE hf2
theorem lm_style (l : Launch) (τ : MS) (a : AS) (h : st_MR τ a) (v1 v2 v3 v4 : Int32) : MMi l yX1_style cX1_style 6 .int (st_rm 1 27) [.int v1, .int v2, .int v3, .int v4] τ (fun r u => r = (st_oStyle v1 v2 v3 v4 a).1 ∧ st_MR u (st_oStyle v1 v2 v3 v4 a).2) := by
  obtain ⟨n, f, le, sy, kL, kS⟩ := τ
  obtain ⟨L, E, f2⟩ := a
  obtain ⟨hA, hB, hn, hf, hf2⟩ := h
  have hA : st_AR n le L := hA
  have hn2 : n = L.length := hA.1.symm
  have hf : f = f2 := hf
  subst hn2
  subst hf
  exact pm_style l f le sy kL kS L E v1 v2 v3 v4 hA hB hn hf2
theorem lx_toggle (l : Launch) (σ : XS) (a : AS) (h : st_XR σ a) (v1 v2 v3 : Int32) : XMi l yX0_toggle cX0_toggle 8 .int (st_rm 3 74) [.int v1, .int v2, .int v3] σ (fun r u => r = (st_oToggle v1 v2 v3 a).1 ∧ st_XR u (st_oToggle v1 v2 v3 a).2) := by
  obtain ⟨n, g, k, f, d, b, cell, size, look, hL, hS⟩ := σ
  obtain ⟨L, E, f2⟩ := a
  obtain ⟨hX, hE, hLE, hf, hf2⟩ := h
  have hX : st_XL n g cell L := hX
  have hn : n = L.length := hX.1.symm
  have hf : f = f2 := hf
  subst hn
  subst hf
  exact px_toggle l g k f d b cell size look hL hS L E v1 v2 v3 hX hE hLE hf2
theorem lm_toggle (l : Launch) (τ : MS) (a : AS) (h : st_MR τ a) (v1 v2 v3 : Int32) : MMi l yX1_toggle cX1_toggle 6 .int (st_rm 1 27) [.int v1, .int v2, .int v3] τ (fun r u => r = (st_oToggle v1 v2 v3 a).1 ∧ st_MR u (st_oToggle v1 v2 v3 a).2) := by
  obtain ⟨n, f, le, sy, kL, kS⟩ := τ
  obtain ⟨L, E, f2⟩ := a
  obtain ⟨hA, hB, hn, hf, hf2⟩ := h
  have hA : st_AR n le L := hA
  have hn2 : n = L.length := hA.1.symm
  have hf : f = f2 := hf
  subst hn2
  subst hf
  exact pm_toggle l f le sy kL kS L E v1 v2 v3 hA hB hn hf2
theorem lx_replace (l : Launch) (σ : XS) (a : AS) (h : st_XR σ a) (v1 v2 : Int32) : XMi l yX0_replace cX0_replace 6 .int (st_rm 1 21) [.int v1, .int v2] σ (fun r u => r = (st_oReplace v1 v2 a).1 ∧ st_XR u (st_oReplace v1 v2 a).2) := by
  obtain ⟨n, g, k, f, d, b, cell, size, look, hL, hS⟩ := σ
  obtain ⟨L, E, f2⟩ := a
  obtain ⟨hX, hE, hLE, hf, hf2⟩ := h
  have hX : st_XL n g cell L := hX
  have hn : n = L.length := hX.1.symm
  have hf : f = f2 := hf
  subst hn
  subst hf
  exact px_replace l g k f d b cell size look hL hS L E v1 v2 hX hE hLE hf2
theorem lm_replace (l : Launch) (τ : MS) (a : AS) (h : st_MR τ a) (v1 v2 : Int32) : MMi l yX1_replace cX1_replace 5 .int (st_rm 1 21) [.int v1, .int v2] τ (fun r u => r = (st_oReplace v1 v2 a).1 ∧ st_MR u (st_oReplace v1 v2 a).2) := by
  obtain ⟨n, f, le, sy, kL, kS⟩ := τ
  obtain ⟨L, E, f2⟩ := a
  obtain ⟨hA, hB, hn, hf, hf2⟩ := h
  have hA : st_AR n le L := hA
  have hn2 : n = L.length := hA.1.symm
  have hf : f = f2 := hf
  subst hn2
  subst hf
  exact pm_replace l f le sy kL kS L E v1 v2 hA hB hn hf2
theorem lx_length (l : Launch) (σ : XS) (a : AS) (h : st_XR σ a) : XMi l yX0_length cX0_length 1 .int (st_rm 0 0) [] σ (fun r u => r = (st_oLength a).1 ∧ st_XR u (st_oLength a).2) := by
  obtain ⟨n, g, k, f, d, b, cell, size, look, hL, hS⟩ := σ
  obtain ⟨L, E, f2⟩ := a
  obtain ⟨hX, hE, hLE, hf, hf2⟩ := h
  have hX : st_XL n g cell L := hX
  have hn : n = L.length := hX.1.symm
  have hf : f = f2 := hf
  subst hn
  subst hf
  exact px_length l g k f d b cell size look hL hS L E  hX hE hLE hf2
theorem lm_length (l : Launch) (τ : MS) (a : AS) (h : st_MR τ a) : MMi l yX1_length cX1_length 1 .int (st_rm 0 0) [] τ (fun r u => r = (st_oLength a).1 ∧ st_MR u (st_oLength a).2) := by
  obtain ⟨n, f, le, sy, kL, kS⟩ := τ
  obtain ⟨L, E, f2⟩ := a
  obtain ⟨hA, hB, hn, hf, hf2⟩ := h
  have hA : st_AR n le L := hA
  have hn2 : n = L.length := hA.1.symm
  have hf : f = f2 := hf
  subst hn2
  subst hf
  exact pm_length l f le sy kL kS L E  hA hB hn hf2
theorem lx_letter (l : Launch) (σ : XS) (a : AS) (h : st_XR σ a) (v1 : Int32) : XMi l yX0_letter cX0_letter 2 .int (st_rm 1 21) [.int v1] σ (fun r u => r = (st_oLetter v1 a).1 ∧ st_XR u (st_oLetter v1 a).2) := by
  obtain ⟨n, g, k, f, d, b, cell, size, look, hL, hS⟩ := σ
  obtain ⟨L, E, f2⟩ := a
  obtain ⟨hX, hE, hLE, hf, hf2⟩ := h
  have hX : st_XL n g cell L := hX
  have hn : n = L.length := hX.1.symm
  have hf : f = f2 := hf
  subst hn
  subst hf
  exact px_letter l g k f d b cell size look hL hS L E v1 hX hE hLE hf2
theorem lm_letter (l : Launch) (τ : MS) (a : AS) (h : st_MR τ a) (v1 : Int32) : MMi l yX1_letter cX1_letter 2 .int (st_rm 0 0) [.int v1] τ (fun r u => r = (st_oLetter v1 a).1 ∧ st_MR u (st_oLetter v1 a).2) := by
  obtain ⟨n, f, le, sy, kL, kS⟩ := τ
  obtain ⟨L, E, f2⟩ := a
  obtain ⟨hA, hB, hn, hf, hf2⟩ := h
  have hA : st_AR n le L := hA
  have hn2 : n = L.length := hA.1.symm
  have hf : f = f2 := hf
  subst hn2
  subst hf
  exact pm_letter l f le sy kL kS L E v1 hA hB hn hf2
theorem lx_styleAt (l : Launch) (σ : XS) (a : AS) (h : st_XR σ a) (v1 : Int32) : XMi l yX0_styleAt cX0_styleAt 2 .int (st_rm 2 45) [.int v1] σ (fun r u => r = (st_oStyleAt v1 a).1 ∧ st_XR u (st_oStyleAt v1 a).2) := by
  obtain ⟨n, g, k, f, d, b, cell, size, look, hL, hS⟩ := σ
  obtain ⟨L, E, f2⟩ := a
  obtain ⟨hX, hE, hLE, hf, hf2⟩ := h
  have hX : st_XL n g cell L := hX
  have hn : n = L.length := hX.1.symm
  have hf : f = f2 := hf
  subst hn
  subst hf
  exact px_styleAt l g k f d b cell size look hL hS L E v1 hX hE hLE hf2
theorem lm_styleAt (l : Launch) (τ : MS) (a : AS) (h : st_MR τ a) (v1 : Int32) : MMi l yX1_styleAt cX1_styleAt 2 .int (st_rm 0 0) [.int v1] τ (fun r u => r = (st_oStyleAt v1 a).1 ∧ st_MR u (st_oStyleAt v1 a).2) := by
  obtain ⟨n, f, le, sy, kL, kS⟩ := τ
  obtain ⟨L, E, f2⟩ := a
  obtain ⟨hA, hB, hn, hf, hf2⟩ := h
  have hA : st_AR n le L := hA
  have hn2 : n = L.length := hA.1.symm
  have hf : f = f2 := hf
  subst hn2
  subst hf
  exact pm_styleAt l f le sy kL kS L E v1 hA hB hn hf2
theorem lx_runs (l : Launch) (σ : XS) (a : AS) (h : st_XR σ a) : XMi l yX0_runs cX0_runs 1 .int (st_rm 0 0) [] σ (fun r u => r = (st_oRuns a).1 ∧ st_XR u (st_oRuns a).2) := by
  obtain ⟨n, g, k, f, d, b, cell, size, look, hL, hS⟩ := σ
  obtain ⟨L, E, f2⟩ := a
  obtain ⟨hX, hE, hLE, hf, hf2⟩ := h
  have hX : st_XL n g cell L := hX
  have hn : n = L.length := hX.1.symm
  have hf : f = f2 := hf
  subst hn
  subst hf
  exact px_runs l g k f d b cell size look hL hS L E  hX hE hLE hf2
theorem lm_runs (l : Launch) (τ : MS) (a : AS) (h : st_MR τ a) : MMi l yX1_runs cX1_runs 3 .int (st_rm 1 21) [] τ (fun r u => r = (st_oRuns a).1 ∧ st_MR u (st_oRuns a).2) := by
  obtain ⟨n, f, le, sy, kL, kS⟩ := τ
  obtain ⟨L, E, f2⟩ := a
  obtain ⟨hA, hB, hn, hf, hf2⟩ := h
  have hA : st_AR n le L := hA
  have hn2 : n = L.length := hA.1.symm
  have hf : f = f2 := hf
  subst hn2
  subst hf
  exact pm_runs l f le sy kL kS L E  hA hB hn hf2
theorem lx_runBegin (l : Launch) (σ : XS) (a : AS) (h : st_XR σ a) (v1 : Int32) : XMi l yX0_runBegin cX0_runBegin 4 .int (st_rm 0 0) [.int v1] σ (fun r u => r = (st_oRunBegin v1 a).1 ∧ st_XR u (st_oRunBegin v1 a).2) := by
  obtain ⟨n, g, k, f, d, b, cell, size, look, hL, hS⟩ := σ
  obtain ⟨L, E, f2⟩ := a
  obtain ⟨hX, hE, hLE, hf, hf2⟩ := h
  have hX : st_XL n g cell L := hX
  have hn : n = L.length := hX.1.symm
  have hf : f = f2 := hf
  subst hn
  subst hf
  exact px_runBegin l g k f d b cell size look hL hS L E v1 hX hE hLE hf2
theorem lm_runBegin (l : Launch) (τ : MS) (a : AS) (h : st_MR τ a) (v1 : Int32) : MMi l yX1_runBegin cX1_runBegin 4 .int (st_rm 1 21) [.int v1] τ (fun r u => r = (st_oRunBegin v1 a).1 ∧ st_MR u (st_oRunBegin v1 a).2 ∧ u = τ) := by
  obtain ⟨n, f, le, sy, kL, kS⟩ := τ
  obtain ⟨L, E, f2⟩ := a
  obtain ⟨hA, hB, hn, hf, hf2⟩ := h
  have hA : st_AR n le L := hA
  have hn2 : n = L.length := hA.1.symm
  have hf : f = f2 := hf
  subst hn2
  subst hf
  exact pm_runBegin l f le sy kL kS L E v1 hA hB hn hf2
theorem lx_runStyle (l : Launch) (σ : XS) (a : AS) (h : st_XR σ a) (v1 : Int32) : XMi l yX0_runStyle cX0_runStyle 2 .int (st_rm 0 0) [.int v1] σ (fun r u => r = (st_oRunStyle v1 a).1 ∧ st_XR u (st_oRunStyle v1 a).2) := by
  obtain ⟨n, g, k, f, d, b, cell, size, look, hL, hS⟩ := σ
  obtain ⟨L, E, f2⟩ := a
  obtain ⟨hX, hE, hLE, hf, hf2⟩ := h
  have hX : st_XL n g cell L := hX
  have hn : n = L.length := hX.1.symm
  have hf : f = f2 := hf
  subst hn
  subst hf
  exact px_runStyle l g k f d b cell size look hL hS L E v1 hX hE hLE hf2
theorem lm_runStyle (l : Launch) (τ : MS) (a : AS) (h : st_MR τ a) (v1 : Int32) : MMi l yX1_runStyle cX1_runStyle 3 .int (st_rm 2 44) [.int v1] τ (fun r u => r = (st_oRunStyle v1 a).1 ∧ st_MR u (st_oRunStyle v1 a).2) := by
  obtain ⟨n, f, le, sy, kL, kS⟩ := τ
  obtain ⟨L, E, f2⟩ := a
  obtain ⟨hA, hB, hn, hf, hf2⟩ := h
  have hA : st_AR n le L := hA
  have hn2 : n = L.length := hA.1.symm
  have hf : f = f2 := hf
  subst hn2
  subst hf
  exact pm_runStyle l f le sy kL kS L E v1 hA hB hn hf2
theorem lx_runOf (l : Launch) (σ : XS) (a : AS) (h : st_XR σ a) (v1 : Int32) : XMi l yX0_runOf cX0_runOf 2 .int (st_rm 1 23) [.int v1] σ (fun r u => r = (st_oRunOf v1 a).1 ∧ st_XR u (st_oRunOf v1 a).2) := by
  obtain ⟨n, g, k, f, d, b, cell, size, look, hL, hS⟩ := σ
  obtain ⟨L, E, f2⟩ := a
  obtain ⟨hX, hE, hLE, hf, hf2⟩ := h
  have hX : st_XL n g cell L := hX
  have hn : n = L.length := hX.1.symm
  have hf : f = f2 := hf
  subst hn
  subst hf
  exact px_runOf l g k f d b cell size look hL hS L E v1 hX hE hLE hf2
theorem lm_runOf (l : Launch) (τ : MS) (a : AS) (h : st_MR τ a) (v1 : Int32) : MMi l yX1_runOf cX1_runOf 4 .int (st_rm 1 21) [.int v1] τ (fun r u => r = (st_oRunOf v1 a).1 ∧ st_MR u (st_oRunOf v1 a).2) := by
  obtain ⟨n, f, le, sy, kL, kS⟩ := τ
  obtain ⟨L, E, f2⟩ := a
  obtain ⟨hA, hB, hn, hf, hf2⟩ := h
  have hA : st_AR n le L := hA
  have hn2 : n = L.length := hA.1.symm
  have hf : f = f2 := hf
  subst hn2
  subst hf
  exact pm_runOf l f le sy kL kS L E v1 hA hB hn hf2
theorem lx_having (l : Launch) (σ : XS) (a : AS) (h : st_XR σ a) (v1 : Int32) : XMi l yX0_having cX0_having 4 .int (st_rm 0 0) [.int v1] σ (fun r u => r = (st_oHaving v1 a).1 ∧ st_XR u (st_oHaving v1 a).2) := by
  obtain ⟨n, g, k, f, d, b, cell, size, look, hL, hS⟩ := σ
  obtain ⟨L, E, f2⟩ := a
  obtain ⟨hX, hE, hLE, hf, hf2⟩ := h
  have hX : st_XL n g cell L := hX
  have hn : n = L.length := hX.1.symm
  have hf : f = f2 := hf
  subst hn
  subst hf
  exact px_having l g k f d b cell size look hL hS L E v1 hX hE hLE hf2
theorem lm_having (l : Launch) (τ : MS) (a : AS) (h : st_MR τ a) (v1 : Int32) : MMi l yX1_having cX1_having 4 .int (st_rm 0 0) [.int v1] τ (fun r u => r = (st_oHaving v1 a).1 ∧ st_MR u (st_oHaving v1 a).2) := by
  obtain ⟨n, f, le, sy, kL, kS⟩ := τ
  obtain ⟨L, E, f2⟩ := a
  obtain ⟨hA, hB, hn, hf, hf2⟩ := h
  have hA : st_AR n le L := hA
  have hn2 : n = L.length := hA.1.symm
  have hf : f = f2 := hf
  subst hn2
  subst hf
  exact pm_having l f le sy kL kS L E v1 hA hB hn hf2
theorem lx_setFlag (l : Launch) (σ : XS) (a : AS) (h : st_XR σ a) (v1 : Int32) : XMi l yX0_setFlag cX0_setFlag 3 .int (st_rm 0 0) [.int v1] σ (fun r u => r = (st_oSetFlag v1 a).1 ∧ st_XR u (st_oSetFlag v1 a).2) := by
  obtain ⟨n, g, k, f, d, b, cell, size, look, hL, hS⟩ := σ
  obtain ⟨L, E, f2⟩ := a
  obtain ⟨hX, hE, hLE, hf, hf2⟩ := h
  have hX : st_XL n g cell L := hX
  have hn : n = L.length := hX.1.symm
  have hf : f = f2 := hf
  subst hn
  subst hf
  exact px_setFlag l g k f d b cell size look hL hS L E v1 hX hE hLE hf2
theorem lm_setFlag (l : Launch) (τ : MS) (a : AS) (h : st_MR τ a) (v1 : Int32) : MMi l yX1_setFlag cX1_setFlag 3 .int (st_rm 0 0) [.int v1] τ (fun r u => r = (st_oSetFlag v1 a).1 ∧ st_MR u (st_oSetFlag v1 a).2) := by
  obtain ⟨n, f, le, sy, kL, kS⟩ := τ
  obtain ⟨L, E, f2⟩ := a
  obtain ⟨hA, hB, hn, hf, hf2⟩ := h
  have hA : st_AR n le L := hA
  have hn2 : n = L.length := hA.1.symm
  have hf : f = f2 := hf
  subst hn2
  subst hf
  exact pm_setFlag l f le sy kL kS L E v1 hA hB hn hf2
theorem lx_flag (l : Launch) (σ : XS) (a : AS) (h : st_XR σ a) : XMi l yX0_flag cX0_flag 1 .int (st_rm 0 0) [] σ (fun r u => r = (st_oFlag a).1 ∧ st_XR u (st_oFlag a).2) := by
  obtain ⟨n, g, k, f, d, b, cell, size, look, hL, hS⟩ := σ
  obtain ⟨L, E, f2⟩ := a
  obtain ⟨hX, hE, hLE, hf, hf2⟩ := h
  have hX : st_XL n g cell L := hX
  have hn : n = L.length := hX.1.symm
  have hf : f = f2 := hf
  subst hn
  subst hf
  exact px_flag l g k f d b cell size look hL hS L E  hX hE hLE hf2
theorem lm_flag (l : Launch) (τ : MS) (a : AS) (h : st_MR τ a) : MMi l yX1_flag cX1_flag 1 .int (st_rm 0 0) [] τ (fun r u => r = (st_oFlag a).1 ∧ st_MR u (st_oFlag a).2) := by
  obtain ⟨n, f, le, sy, kL, kS⟩ := τ
  obtain ⟨L, E, f2⟩ := a
  obtain ⟨hA, hB, hn, hf, hf2⟩ := h
  have hA : st_AR n le L := hA
  have hn2 : n = L.length := hA.1.symm
  have hf : f = f2 := hf
  subst hn2
  subst hf
  exact pm_flag l f le sy kL kS L E  hA hB hn hf2
theorem lx_digest (l : Launch) (σ : XS) (a : AS) (h : st_XR σ a) : XMi l yX0_digest cX0_digest 6 .int (st_rm 1 21) [] σ (fun r u => r = (st_oDigest a).1 ∧ st_XR u (st_oDigest a).2) := by
  obtain ⟨n, g, k, f, d, b, cell, size, look, hL, hS⟩ := σ
  obtain ⟨L, E, f2⟩ := a
  obtain ⟨hX, hE, hLE, hf, hf2⟩ := h
  have hX : st_XL n g cell L := hX
  have hn : n = L.length := hX.1.symm
  have hf : f = f2 := hf
  subst hn
  subst hf
  exact px_digest l g k f d b cell size look hL hS L E  hX hE hLE hf2
theorem lm_digest (l : Launch) (τ : MS) (a : AS) (h : st_MR τ a) : MMi l yX1_digest cX1_digest 3 .int (st_rm 0 0) [] τ (fun r u => r = (st_oDigest a).1 ∧ st_MR u (st_oDigest a).2) := by
  obtain ⟨n, f, le, sy, kL, kS⟩ := τ
  obtain ⟨L, E, f2⟩ := a
  obtain ⟨hA, hB, hn, hf, hf2⟩ := h
  have hA : st_AR n le L := hA
  have hn2 : n = L.length := hA.1.symm
  have hf : f = f2 := hf
  subst hn2
  subst hf
  exact pm_digest l f le sy kL kS L E  hA hB hn hf2
/-- the switch and the end of the script -/
theorem st_and31 (x : Int32) : ∃ k, k < 32 ∧ x &&& 31 = nI k := by
  have h := pk_andIn x (m := 31) 5 (by decide) (by decide)
  have h0 : ¬ (x &&& 31) < 0 := fun z => h (Or.inl z)
  obtain ⟨k, hk, e⟩ := nI_of h0
  refine ⟨k, ?_, e⟩
  rcases Nat.lt_or_ge k 32 with z | z
  · exact z
  · exact absurd (Or.inr (by rw [e, nI_clamp hk]; exact z)) h
theorem st_len5 {L i : Nat} (hL : L ≤ 320) (hi : i ≤ 320) (h : ¬ nI L - nI 5 < nI i) : i + 5 ≤ L := by
  rcases Nat.lt_or_ge L 5 with z | z
  · exfalso
    apply h
    rw [Int32.lt_iff_toInt_lt, nI_toInt (show i < 2 ^ 31 by omega)]
    have key : ∀ a : Fin 5, (nI a.val - nI 5).toInt < 0 := by decide
    have k2 : (nI L - nI 5).toInt < 0 := key ⟨L, z⟩
    omega
  · rw [pk_sub z] at h
    rcases Nat.lt_or_ge (L - 5) i with y | y
    · exact absurd ((nI_ltI (show L - 5 < 2 ^ 31 by omega) (show i < 2 ^ 31 by omega)).mpr y) h
    · omega
theorem st_n18 {k : Nat} (h : k < 32) : k = 0 ∨ k = 1 ∨ k = 2 ∨ k = 3 ∨ k = 4 ∨ k = 5 ∨ k = 6 ∨ k = 7 ∨ k = 8 ∨ k = 9 ∨ k = 10 ∨ k = 11 ∨ k = 12 ∨ k = 13 ∨ k = 14 ∨ k = 15 ∨ k = 16 ∨ k = 17 ∨ k = 18 ∨ 18 < k := by omega
end
section
set_option maxRecDepth 100000
section LC
variable {p : Program} {l : Launch} {e : Env} {s : State} {m : MethodId} {below : List Frame} {meth : Method} {c : Code} {b L : Nat} {xs : Nat → Int32} {D : va_G} {ad ad2 : Nat → Nat} {ca ca2 : Nat → ClassId}
set_option maxHeartbeats 4000000 in
theorem lc_type (hL : L ≤ 320) (C0 : lw_At p s m meth c b L xs) {i : Nat} (hi : i + 5 ≤ L) (σ : XS) (τ : MS) (a : AS) (hXR : st_XR σ a) (hMR : st_MR τ a) (H : Heap) (locs : List Loc) (ls : Array Slot) (w : wd D (fun q : Nat => s.heap.size ≤ q) s (xw ad ca σ ++ mw ad2 ca2 τ) (xt ca ++ mt ca2) H locs) (hl : lv_has ls 4 [(0, .ref b), (1, .ref (ad 0)), (2, .ref (ad2 0)), (3, .int (nI i))]) (back : ∀ (σ : XS) (τ : MS) (a : AS), st_XR σ a → st_MR τ a → ∀ (H : Heap) (locs : List Loc), wd D (fun q : Nat => s.heap.size ≤ q) s (xw ad ca σ ++ mw ad2 ca2 τ) (xt ca ++ mt ca2) H locs → W p l e room_1 s m #[Value.ref b] below meth c H locs 11 601 (lw_Z below #[Value.ref b] s) (F0 m 671 ls [])) : W p l e room_1 s m #[Value.ref b] below meth c H locs 11 601 (lw_Z below #[Value.ref b] s) (F0 m 124 ls []) := by
  obtain ⟨hx, hb, hr, hml, hown, hts0, hX, hbl, hlocks, hgv⟩ := C0
  have hts : ∀ w ∈ lw_all, w.before #[Value.ref b] s = true := fun w h => hts0 w (lw_all_tbl h)
  have C : CallFix p m c cL_law 4 s #[Value.ref b] lw_all R_law := ⟨hx, hb, hml, hown, hts⟩
  refine lv_aload_n hx hb dL_law_124 rfl (lv_at hl 1 rfl) ?_
  refine lv_aload_n hx hb dL_law_125 rfl (lv_at hl 0 rfl) ?_
  refine lv_iload_n hx hb dL_law_126 rfl (lv_at hl 3 rfl) ?_
  refine lv_iconst (v := nI 1) hx hb dL_law_127 (by decide) ?_
  refine n_iadd hx hb dL_law_128 ?_
  refine l_sld hx hb hX hbl hL w.2.2.1 (i := i + 1) (by omega) dL_law_129 ?_
  refine lv_aload_n hx hb dL_law_130 rfl (lv_at hl 0 rfl) ?_
  refine lv_iload_n hx hb dL_law_131 rfl (lv_at hl 3 rfl) ?_
  refine lv_iconst (v := nI 2) hx hb dL_law_132 (by decide) ?_
  refine n_iadd hx hb dL_law_133 ?_
  refine l_sld hx hb hX hbl hL w.2.2.1 (i := i + 2) (by omega) dL_law_134 ?_
  refine l_callX (n := 2) (As := [.int (xs (i + 1)), .int (xs (i + 2))]) (rest := []) C w (lx_type l σ a hXR (xs (i + 1)) (xs (i + 2))) q74 q75 q76 q77 rfl (by decide +kernel) rfl ⟨rfl, rfl⟩ ⟨Nat.le_of_ble_eq_true rfl, Nat.le_of_ble_eq_true rfl⟩ ⟨Nat.le_of_ble_eq_true rfl, Nat.le_of_ble_eq_true rfl⟩ rfl hl.1 (Nat.le_of_ble_eq_true rfl) dL_law_135 (fun r1 σ1 H locs hp1 w => ?_)
  refine lv_aload_n hx hb dL_law_138 rfl (lv_at hl 2 rfl) ?_
  refine lv_aload_n hx hb dL_law_139 rfl (lv_at hl 0 rfl) ?_
  refine lv_iload_n hx hb dL_law_140 rfl (lv_at hl 3 rfl) ?_
  refine lv_iconst (v := nI 1) hx hb dL_law_141 (by decide) ?_
  refine n_iadd hx hb dL_law_142 ?_
  refine l_sld hx hb hX hbl hL w.2.2.1 (i := i + 1) (by omega) dL_law_143 ?_
  refine lv_aload_n hx hb dL_law_144 rfl (lv_at hl 0 rfl) ?_
  refine lv_iload_n hx hb dL_law_145 rfl (lv_at hl 3 rfl) ?_
  refine lv_iconst (v := nI 2) hx hb dL_law_146 (by decide) ?_
  refine n_iadd hx hb dL_law_147 ?_
  refine l_sld hx hb hX hbl hL w.2.2.1 (i := i + 2) (by omega) dL_law_148 ?_
  refine l_callM (n := 2) (As := [.int (xs (i + 1)), .int (xs (i + 2))]) (rest := [.int r1]) C w (lm_type l τ a hMR (xs (i + 1)) (xs (i + 2))) q260 q261 q262 q263 rfl (by decide +kernel) rfl ⟨rfl, rfl⟩ ⟨Nat.le_of_ble_eq_true rfl, Nat.le_of_ble_eq_true rfl⟩ ⟨Nat.le_of_ble_eq_true rfl, Nat.le_of_ble_eq_true rfl⟩ rfl hl.1 (Nat.le_of_ble_eq_true rfl) dL_law_149 (fun r2 τ1 H locs hp2 w => ?_)
  exact lv_icmp_eq (tgt := 671) hx hb dL_law_152 (by decide) (fun _ => back σ1 τ1 _ hp1.2 hp2.2 H locs w) (fun c9 => absurd (hp1.1.trans hp2.1.symm) c9)
set_option maxHeartbeats 4000000 in
theorem lc_put (hL : L ≤ 320) (C0 : lw_At p s m meth c b L xs) {i : Nat} (hi : i + 5 ≤ L) (σ : XS) (τ : MS) (a : AS) (hXR : st_XR σ a) (hMR : st_MR τ a) (H : Heap) (locs : List Loc) (ls : Array Slot) (w : wd D (fun q : Nat => s.heap.size ≤ q) s (xw ad ca σ ++ mw ad2 ca2 τ) (xt ca ++ mt ca2) H locs) (hl : lv_has ls 4 [(0, .ref b), (1, .ref (ad 0)), (2, .ref (ad2 0)), (3, .int (nI i))]) (back : ∀ (σ : XS) (τ : MS) (a : AS), st_XR σ a → st_MR τ a → ∀ (H : Heap) (locs : List Loc), wd D (fun q : Nat => s.heap.size ≤ q) s (xw ad ca σ ++ mw ad2 ca2 τ) (xt ca ++ mt ca2) H locs → W p l e room_1 s m #[Value.ref b] below meth c H locs 11 601 (lw_Z below #[Value.ref b] s) (F0 m 671 ls [])) : W p l e room_1 s m #[Value.ref b] below meth c H locs 11 601 (lw_Z below #[Value.ref b] s) (F0 m 157 ls []) := by
  obtain ⟨hx, hb, hr, hml, hown, hts0, hX, hbl, hlocks, hgv⟩ := C0
  have hts : ∀ w ∈ lw_all, w.before #[Value.ref b] s = true := fun w h => hts0 w (lw_all_tbl h)
  have C : CallFix p m c cL_law 4 s #[Value.ref b] lw_all R_law := ⟨hx, hb, hml, hown, hts⟩
  refine lv_aload_n hx hb dL_law_157 rfl (lv_at hl 1 rfl) ?_
  refine lv_aload_n hx hb dL_law_158 rfl (lv_at hl 0 rfl) ?_
  refine lv_iload_n hx hb dL_law_159 rfl (lv_at hl 3 rfl) ?_
  refine lv_iconst (v := nI 1) hx hb dL_law_160 (by decide) ?_
  refine n_iadd hx hb dL_law_161 ?_
  refine l_sld hx hb hX hbl hL w.2.2.1 (i := i + 1) (by omega) dL_law_162 ?_
  refine lv_aload_n hx hb dL_law_163 rfl (lv_at hl 0 rfl) ?_
  refine lv_iload_n hx hb dL_law_164 rfl (lv_at hl 3 rfl) ?_
  refine lv_iconst (v := nI 2) hx hb dL_law_165 (by decide) ?_
  refine n_iadd hx hb dL_law_166 ?_
  refine l_sld hx hb hX hbl hL w.2.2.1 (i := i + 2) (by omega) dL_law_167 ?_
  refine lv_aload_n hx hb dL_law_168 rfl (lv_at hl 0 rfl) ?_
  refine lv_iload_n hx hb dL_law_169 rfl (lv_at hl 3 rfl) ?_
  refine lv_iconst (v := nI 3) hx hb dL_law_170 (by decide) ?_
  refine n_iadd hx hb dL_law_171 ?_
  refine l_sld hx hb hX hbl hL w.2.2.1 (i := i + 3) (by omega) dL_law_172 ?_
  refine lv_aload_n hx hb dL_law_173 rfl (lv_at hl 0 rfl) ?_
  refine lv_iload_n hx hb dL_law_174 rfl (lv_at hl 3 rfl) ?_
  refine lv_iconst (v := nI 4) hx hb dL_law_175 (by decide) ?_
  refine n_iadd hx hb dL_law_176 ?_
  refine l_sld hx hb hX hbl hL w.2.2.1 (i := i + 4) (by omega) dL_law_177 ?_
  refine l_callX (n := 4) (As := [.int (xs (i + 1)), .int (xs (i + 2)), .int (xs (i + 3)), .int (xs (i + 4))]) (rest := []) C w (lx_put l σ a hXR (xs (i + 1)) (xs (i + 2)) (xs (i + 3)) (xs (i + 4))) q126 q127 q128 q129 rfl (by decide +kernel) rfl ⟨rfl, rfl⟩ ⟨Nat.le_of_ble_eq_true rfl, Nat.le_of_ble_eq_true rfl⟩ ⟨Nat.le_of_ble_eq_true rfl, Nat.le_of_ble_eq_true rfl⟩ rfl hl.1 (Nat.le_of_ble_eq_true rfl) dL_law_178 (fun r1 σ1 H locs hp1 w => ?_)
  refine lv_aload_n hx hb dL_law_181 rfl (lv_at hl 2 rfl) ?_
  refine lv_aload_n hx hb dL_law_182 rfl (lv_at hl 0 rfl) ?_
  refine lv_iload_n hx hb dL_law_183 rfl (lv_at hl 3 rfl) ?_
  refine lv_iconst (v := nI 1) hx hb dL_law_184 (by decide) ?_
  refine n_iadd hx hb dL_law_185 ?_
  refine l_sld hx hb hX hbl hL w.2.2.1 (i := i + 1) (by omega) dL_law_186 ?_
  refine lv_aload_n hx hb dL_law_187 rfl (lv_at hl 0 rfl) ?_
  refine lv_iload_n hx hb dL_law_188 rfl (lv_at hl 3 rfl) ?_
  refine lv_iconst (v := nI 2) hx hb dL_law_189 (by decide) ?_
  refine n_iadd hx hb dL_law_190 ?_
  refine l_sld hx hb hX hbl hL w.2.2.1 (i := i + 2) (by omega) dL_law_191 ?_
  refine lv_aload_n hx hb dL_law_192 rfl (lv_at hl 0 rfl) ?_
  refine lv_iload_n hx hb dL_law_193 rfl (lv_at hl 3 rfl) ?_
  refine lv_iconst (v := nI 3) hx hb dL_law_194 (by decide) ?_
  refine n_iadd hx hb dL_law_195 ?_
  refine l_sld hx hb hX hbl hL w.2.2.1 (i := i + 3) (by omega) dL_law_196 ?_
  refine lv_aload_n hx hb dL_law_197 rfl (lv_at hl 0 rfl) ?_
  refine lv_iload_n hx hb dL_law_198 rfl (lv_at hl 3 rfl) ?_
  refine lv_iconst (v := nI 4) hx hb dL_law_199 (by decide) ?_
  refine n_iadd hx hb dL_law_200 ?_
  refine l_sld hx hb hX hbl hL w.2.2.1 (i := i + 4) (by omega) dL_law_201 ?_
  refine l_callM (n := 4) (As := [.int (xs (i + 1)), .int (xs (i + 2)), .int (xs (i + 3)), .int (xs (i + 4))]) (rest := [.int r1]) C w (lm_put l τ a hMR (xs (i + 1)) (xs (i + 2)) (xs (i + 3)) (xs (i + 4))) q272 q273 q274 q275 rfl (by decide +kernel) rfl ⟨rfl, rfl⟩ ⟨Nat.le_of_ble_eq_true rfl, Nat.le_of_ble_eq_true rfl⟩ ⟨Nat.le_of_ble_eq_true rfl, Nat.le_of_ble_eq_true rfl⟩ rfl hl.1 (Nat.le_of_ble_eq_true rfl) dL_law_202 (fun r2 τ1 H locs hp2 w => ?_)
  exact lv_icmp_eq (tgt := 671) hx hb dL_law_205 (by decide) (fun _ => back σ1 τ1 _ hp1.2 hp2.2 H locs w) (fun c9 => absurd (hp1.1.trans hp2.1.symm) c9)
set_option maxHeartbeats 4000000 in
theorem lc_remove (hL : L ≤ 320) (C0 : lw_At p s m meth c b L xs) {i : Nat} (hi : i + 5 ≤ L) (σ : XS) (τ : MS) (a : AS) (hXR : st_XR σ a) (hMR : st_MR τ a) (H : Heap) (locs : List Loc) (ls : Array Slot) (w : wd D (fun q : Nat => s.heap.size ≤ q) s (xw ad ca σ ++ mw ad2 ca2 τ) (xt ca ++ mt ca2) H locs) (hl : lv_has ls 4 [(0, .ref b), (1, .ref (ad 0)), (2, .ref (ad2 0)), (3, .int (nI i))]) (back : ∀ (σ : XS) (τ : MS) (a : AS), st_XR σ a → st_MR τ a → ∀ (H : Heap) (locs : List Loc), wd D (fun q : Nat => s.heap.size ≤ q) s (xw ad ca σ ++ mw ad2 ca2 τ) (xt ca ++ mt ca2) H locs → W p l e room_1 s m #[Value.ref b] below meth c H locs 11 601 (lw_Z below #[Value.ref b] s) (F0 m 671 ls [])) : W p l e room_1 s m #[Value.ref b] below meth c H locs 11 601 (lw_Z below #[Value.ref b] s) (F0 m 210 ls []) := by
  obtain ⟨hx, hb, hr, hml, hown, hts0, hX, hbl, hlocks, hgv⟩ := C0
  have hts : ∀ w ∈ lw_all, w.before #[Value.ref b] s = true := fun w h => hts0 w (lw_all_tbl h)
  have C : CallFix p m c cL_law 4 s #[Value.ref b] lw_all R_law := ⟨hx, hb, hml, hown, hts⟩
  refine lv_aload_n hx hb dL_law_210 rfl (lv_at hl 1 rfl) ?_
  refine lv_aload_n hx hb dL_law_211 rfl (lv_at hl 0 rfl) ?_
  refine lv_iload_n hx hb dL_law_212 rfl (lv_at hl 3 rfl) ?_
  refine lv_iconst (v := nI 1) hx hb dL_law_213 (by decide) ?_
  refine n_iadd hx hb dL_law_214 ?_
  refine l_sld hx hb hX hbl hL w.2.2.1 (i := i + 1) (by omega) dL_law_215 ?_
  refine lv_aload_n hx hb dL_law_216 rfl (lv_at hl 0 rfl) ?_
  refine lv_iload_n hx hb dL_law_217 rfl (lv_at hl 3 rfl) ?_
  refine lv_iconst (v := nI 2) hx hb dL_law_218 (by decide) ?_
  refine n_iadd hx hb dL_law_219 ?_
  refine l_sld hx hb hX hbl hL w.2.2.1 (i := i + 2) (by omega) dL_law_220 ?_
  refine l_callX (n := 2) (As := [.int (xs (i + 1)), .int (xs (i + 2))]) (rest := []) C w (lx_remove l σ a hXR (xs (i + 1)) (xs (i + 2))) q130 q131 q132 q133 rfl (by decide +kernel) rfl ⟨rfl, rfl⟩ ⟨Nat.le_of_ble_eq_true rfl, Nat.le_of_ble_eq_true rfl⟩ ⟨Nat.le_of_ble_eq_true rfl, Nat.le_of_ble_eq_true rfl⟩ rfl hl.1 (Nat.le_of_ble_eq_true rfl) dL_law_221 (fun r1 σ1 H locs hp1 w => ?_)
  refine lv_aload_n hx hb dL_law_224 rfl (lv_at hl 2 rfl) ?_
  refine lv_aload_n hx hb dL_law_225 rfl (lv_at hl 0 rfl) ?_
  refine lv_iload_n hx hb dL_law_226 rfl (lv_at hl 3 rfl) ?_
  refine lv_iconst (v := nI 1) hx hb dL_law_227 (by decide) ?_
  refine n_iadd hx hb dL_law_228 ?_
  refine l_sld hx hb hX hbl hL w.2.2.1 (i := i + 1) (by omega) dL_law_229 ?_
  refine lv_aload_n hx hb dL_law_230 rfl (lv_at hl 0 rfl) ?_
  refine lv_iload_n hx hb dL_law_231 rfl (lv_at hl 3 rfl) ?_
  refine lv_iconst (v := nI 2) hx hb dL_law_232 (by decide) ?_
  refine n_iadd hx hb dL_law_233 ?_
  refine l_sld hx hb hX hbl hL w.2.2.1 (i := i + 2) (by omega) dL_law_234 ?_
  refine l_callM (n := 2) (As := [.int (xs (i + 1)), .int (xs (i + 2))]) (rest := [.int r1]) C w (lm_remove l τ a hMR (xs (i + 1)) (xs (i + 2))) q276 q277 q278 q279 rfl (by decide +kernel) rfl ⟨rfl, rfl⟩ ⟨Nat.le_of_ble_eq_true rfl, Nat.le_of_ble_eq_true rfl⟩ ⟨Nat.le_of_ble_eq_true rfl, Nat.le_of_ble_eq_true rfl⟩ rfl hl.1 (Nat.le_of_ble_eq_true rfl) dL_law_235 (fun r2 τ1 H locs hp2 w => ?_)
  exact lv_icmp_eq (tgt := 671) hx hb dL_law_238 (by decide) (fun _ => back σ1 τ1 _ hp1.2 hp2.2.1 H locs w) (fun c9 => absurd (hp1.1.trans hp2.1.symm) c9)
set_option maxHeartbeats 4000000 in
theorem lc_move (hL : L ≤ 320) (C0 : lw_At p s m meth c b L xs) {i : Nat} (hi : i + 5 ≤ L) (σ : XS) (τ : MS) (a : AS) (hXR : st_XR σ a) (hMR : st_MR τ a) (H : Heap) (locs : List Loc) (ls : Array Slot) (w : wd D (fun q : Nat => s.heap.size ≤ q) s (xw ad ca σ ++ mw ad2 ca2 τ) (xt ca ++ mt ca2) H locs) (hl : lv_has ls 4 [(0, .ref b), (1, .ref (ad 0)), (2, .ref (ad2 0)), (3, .int (nI i))]) (back : ∀ (σ : XS) (τ : MS) (a : AS), st_XR σ a → st_MR τ a → ∀ (H : Heap) (locs : List Loc), wd D (fun q : Nat => s.heap.size ≤ q) s (xw ad ca σ ++ mw ad2 ca2 τ) (xt ca ++ mt ca2) H locs → W p l e room_1 s m #[Value.ref b] below meth c H locs 11 601 (lw_Z below #[Value.ref b] s) (F0 m 671 ls [])) : W p l e room_1 s m #[Value.ref b] below meth c H locs 11 601 (lw_Z below #[Value.ref b] s) (F0 m 243 ls []) := by
  obtain ⟨hx, hb, hr, hml, hown, hts0, hX, hbl, hlocks, hgv⟩ := C0
  have hts : ∀ w ∈ lw_all, w.before #[Value.ref b] s = true := fun w h => hts0 w (lw_all_tbl h)
  have C : CallFix p m c cL_law 4 s #[Value.ref b] lw_all R_law := ⟨hx, hb, hml, hown, hts⟩
  refine lv_aload_n hx hb dL_law_243 rfl (lv_at hl 1 rfl) ?_
  refine lv_aload_n hx hb dL_law_244 rfl (lv_at hl 0 rfl) ?_
  refine lv_iload_n hx hb dL_law_245 rfl (lv_at hl 3 rfl) ?_
  refine lv_iconst (v := nI 1) hx hb dL_law_246 (by decide) ?_
  refine n_iadd hx hb dL_law_247 ?_
  refine l_sld hx hb hX hbl hL w.2.2.1 (i := i + 1) (by omega) dL_law_248 ?_
  refine lv_aload_n hx hb dL_law_249 rfl (lv_at hl 0 rfl) ?_
  refine lv_iload_n hx hb dL_law_250 rfl (lv_at hl 3 rfl) ?_
  refine lv_iconst (v := nI 2) hx hb dL_law_251 (by decide) ?_
  refine n_iadd hx hb dL_law_252 ?_
  refine l_sld hx hb hX hbl hL w.2.2.1 (i := i + 2) (by omega) dL_law_253 ?_
  refine lv_aload_n hx hb dL_law_254 rfl (lv_at hl 0 rfl) ?_
  refine lv_iload_n hx hb dL_law_255 rfl (lv_at hl 3 rfl) ?_
  refine lv_iconst (v := nI 3) hx hb dL_law_256 (by decide) ?_
  refine n_iadd hx hb dL_law_257 ?_
  refine l_sld hx hb hX hbl hL w.2.2.1 (i := i + 3) (by omega) dL_law_258 ?_
  refine l_callX (n := 3) (As := [.int (xs (i + 1)), .int (xs (i + 2)), .int (xs (i + 3))]) (rest := []) C w (lx_move l σ a hXR (xs (i + 1)) (xs (i + 2)) (xs (i + 3))) q150 q151 q152 q153 rfl (by decide +kernel) rfl ⟨rfl, rfl⟩ ⟨Nat.le_of_ble_eq_true rfl, Nat.le_of_ble_eq_true rfl⟩ ⟨Nat.le_of_ble_eq_true rfl, Nat.le_of_ble_eq_true rfl⟩ rfl hl.1 (Nat.le_of_ble_eq_true rfl) dL_law_259 (fun r1 σ1 H locs hp1 w => ?_)
  refine lv_aload_n hx hb dL_law_262 rfl (lv_at hl 2 rfl) ?_
  refine lv_aload_n hx hb dL_law_263 rfl (lv_at hl 0 rfl) ?_
  refine lv_iload_n hx hb dL_law_264 rfl (lv_at hl 3 rfl) ?_
  refine lv_iconst (v := nI 1) hx hb dL_law_265 (by decide) ?_
  refine n_iadd hx hb dL_law_266 ?_
  refine l_sld hx hb hX hbl hL w.2.2.1 (i := i + 1) (by omega) dL_law_267 ?_
  refine lv_aload_n hx hb dL_law_268 rfl (lv_at hl 0 rfl) ?_
  refine lv_iload_n hx hb dL_law_269 rfl (lv_at hl 3 rfl) ?_
  refine lv_iconst (v := nI 2) hx hb dL_law_270 (by decide) ?_
  refine n_iadd hx hb dL_law_271 ?_
  refine l_sld hx hb hX hbl hL w.2.2.1 (i := i + 2) (by omega) dL_law_272 ?_
  refine lv_aload_n hx hb dL_law_273 rfl (lv_at hl 0 rfl) ?_
  refine lv_iload_n hx hb dL_law_274 rfl (lv_at hl 3 rfl) ?_
  refine lv_iconst (v := nI 3) hx hb dL_law_275 (by decide) ?_
  refine n_iadd hx hb dL_law_276 ?_
  refine l_sld hx hb hX hbl hL w.2.2.1 (i := i + 3) (by omega) dL_law_277 ?_
  refine l_callM (n := 3) (As := [.int (xs (i + 1)), .int (xs (i + 2)), .int (xs (i + 3))]) (rest := [.int r1]) C w (lm_move l τ a hMR (xs (i + 1)) (xs (i + 2)) (xs (i + 3))) q284 q285 q286 q287 rfl (by decide +kernel) rfl ⟨rfl, rfl⟩ ⟨Nat.le_of_ble_eq_true rfl, Nat.le_of_ble_eq_true rfl⟩ ⟨Nat.le_of_ble_eq_true rfl, Nat.le_of_ble_eq_true rfl⟩ rfl hl.1 (Nat.le_of_ble_eq_true rfl) dL_law_278 (fun r2 τ1 H locs hp2 w => ?_)
  exact lv_icmp_eq (tgt := 671) hx hb dL_law_281 (by decide) (fun _ => back σ1 τ1 _ hp1.2 hp2.2 H locs w) (fun c9 => absurd (hp1.1.trans hp2.1.symm) c9)
set_option maxHeartbeats 4000000 in
theorem lc_copy (hL : L ≤ 320) (C0 : lw_At p s m meth c b L xs) {i : Nat} (hi : i + 5 ≤ L) (σ : XS) (τ : MS) (a : AS) (hXR : st_XR σ a) (hMR : st_MR τ a) (H : Heap) (locs : List Loc) (ls : Array Slot) (w : wd D (fun q : Nat => s.heap.size ≤ q) s (xw ad ca σ ++ mw ad2 ca2 τ) (xt ca ++ mt ca2) H locs) (hl : lv_has ls 4 [(0, .ref b), (1, .ref (ad 0)), (2, .ref (ad2 0)), (3, .int (nI i))]) (back : ∀ (σ : XS) (τ : MS) (a : AS), st_XR σ a → st_MR τ a → ∀ (H : Heap) (locs : List Loc), wd D (fun q : Nat => s.heap.size ≤ q) s (xw ad ca σ ++ mw ad2 ca2 τ) (xt ca ++ mt ca2) H locs → W p l e room_1 s m #[Value.ref b] below meth c H locs 11 601 (lw_Z below #[Value.ref b] s) (F0 m 671 ls [])) : W p l e room_1 s m #[Value.ref b] below meth c H locs 11 601 (lw_Z below #[Value.ref b] s) (F0 m 286 ls []) := by
  obtain ⟨hx, hb, hr, hml, hown, hts0, hX, hbl, hlocks, hgv⟩ := C0
  have hts : ∀ w ∈ lw_all, w.before #[Value.ref b] s = true := fun w h => hts0 w (lw_all_tbl h)
  have C : CallFix p m c cL_law 4 s #[Value.ref b] lw_all R_law := ⟨hx, hb, hml, hown, hts⟩
  refine lv_aload_n hx hb dL_law_286 rfl (lv_at hl 1 rfl) ?_
  refine lv_aload_n hx hb dL_law_287 rfl (lv_at hl 0 rfl) ?_
  refine lv_iload_n hx hb dL_law_288 rfl (lv_at hl 3 rfl) ?_
  refine lv_iconst (v := nI 1) hx hb dL_law_289 (by decide) ?_
  refine n_iadd hx hb dL_law_290 ?_
  refine l_sld hx hb hX hbl hL w.2.2.1 (i := i + 1) (by omega) dL_law_291 ?_
  refine lv_aload_n hx hb dL_law_292 rfl (lv_at hl 0 rfl) ?_
  refine lv_iload_n hx hb dL_law_293 rfl (lv_at hl 3 rfl) ?_
  refine lv_iconst (v := nI 2) hx hb dL_law_294 (by decide) ?_
  refine n_iadd hx hb dL_law_295 ?_
  refine l_sld hx hb hX hbl hL w.2.2.1 (i := i + 2) (by omega) dL_law_296 ?_
  refine lv_aload_n hx hb dL_law_297 rfl (lv_at hl 0 rfl) ?_
  refine lv_iload_n hx hb dL_law_298 rfl (lv_at hl 3 rfl) ?_
  refine lv_iconst (v := nI 3) hx hb dL_law_299 (by decide) ?_
  refine n_iadd hx hb dL_law_300 ?_
  refine l_sld hx hb hX hbl hL w.2.2.1 (i := i + 3) (by omega) dL_law_301 ?_
  refine l_callX (n := 3) (As := [.int (xs (i + 1)), .int (xs (i + 2)), .int (xs (i + 3))]) (rest := []) C w (lx_copy l σ a hXR (xs (i + 1)) (xs (i + 2)) (xs (i + 3))) q166 q167 q168 q169 rfl (by decide +kernel) rfl ⟨rfl, rfl⟩ ⟨Nat.le_of_ble_eq_true rfl, Nat.le_of_ble_eq_true rfl⟩ ⟨Nat.le_of_ble_eq_true rfl, Nat.le_of_ble_eq_true rfl⟩ rfl hl.1 (Nat.le_of_ble_eq_true rfl) dL_law_302 (fun r1 σ1 H locs hp1 w => ?_)
  refine lv_aload_n hx hb dL_law_305 rfl (lv_at hl 2 rfl) ?_
  refine lv_aload_n hx hb dL_law_306 rfl (lv_at hl 0 rfl) ?_
  refine lv_iload_n hx hb dL_law_307 rfl (lv_at hl 3 rfl) ?_
  refine lv_iconst (v := nI 1) hx hb dL_law_308 (by decide) ?_
  refine n_iadd hx hb dL_law_309 ?_
  refine l_sld hx hb hX hbl hL w.2.2.1 (i := i + 1) (by omega) dL_law_310 ?_
  refine lv_aload_n hx hb dL_law_311 rfl (lv_at hl 0 rfl) ?_
  refine lv_iload_n hx hb dL_law_312 rfl (lv_at hl 3 rfl) ?_
  refine lv_iconst (v := nI 2) hx hb dL_law_313 (by decide) ?_
  refine n_iadd hx hb dL_law_314 ?_
  refine l_sld hx hb hX hbl hL w.2.2.1 (i := i + 2) (by omega) dL_law_315 ?_
  refine lv_aload_n hx hb dL_law_316 rfl (lv_at hl 0 rfl) ?_
  refine lv_iload_n hx hb dL_law_317 rfl (lv_at hl 3 rfl) ?_
  refine lv_iconst (v := nI 3) hx hb dL_law_318 (by decide) ?_
  refine n_iadd hx hb dL_law_319 ?_
  refine l_sld hx hb hX hbl hL w.2.2.1 (i := i + 3) (by omega) dL_law_320 ?_
  refine l_callM (n := 3) (As := [.int (xs (i + 1)), .int (xs (i + 2)), .int (xs (i + 3))]) (rest := [.int r1]) C w (lm_copy l τ a hMR (xs (i + 1)) (xs (i + 2)) (xs (i + 3))) q297 q298 q299 q300 rfl (by decide +kernel) rfl ⟨rfl, rfl⟩ ⟨Nat.le_of_ble_eq_true rfl, Nat.le_of_ble_eq_true rfl⟩ ⟨Nat.le_of_ble_eq_true rfl, Nat.le_of_ble_eq_true rfl⟩ rfl hl.1 (Nat.le_of_ble_eq_true rfl) dL_law_321 (fun r2 τ1 H locs hp2 w => ?_)
  exact lv_icmp_eq (tgt := 671) hx hb dL_law_324 (by decide) (fun _ => back σ1 τ1 _ hp1.2 hp2.2 H locs w) (fun c9 => absurd (hp1.1.trans hp2.1.symm) c9)
set_option maxHeartbeats 4000000 in
theorem lc_style (hL : L ≤ 320) (C0 : lw_At p s m meth c b L xs) {i : Nat} (hi : i + 5 ≤ L) (σ : XS) (τ : MS) (a : AS) (hXR : st_XR σ a) (hMR : st_MR τ a) (H : Heap) (locs : List Loc) (ls : Array Slot) (w : wd D (fun q : Nat => s.heap.size ≤ q) s (xw ad ca σ ++ mw ad2 ca2 τ) (xt ca ++ mt ca2) H locs) (hl : lv_has ls 4 [(0, .ref b), (1, .ref (ad 0)), (2, .ref (ad2 0)), (3, .int (nI i))]) (back : ∀ (σ : XS) (τ : MS) (a : AS), st_XR σ a → st_MR τ a → ∀ (H : Heap) (locs : List Loc), wd D (fun q : Nat => s.heap.size ≤ q) s (xw ad ca σ ++ mw ad2 ca2 τ) (xt ca ++ mt ca2) H locs → W p l e room_1 s m #[Value.ref b] below meth c H locs 11 601 (lw_Z below #[Value.ref b] s) (F0 m 671 ls [])) : W p l e room_1 s m #[Value.ref b] below meth c H locs 11 601 (lw_Z below #[Value.ref b] s) (F0 m 329 ls []) := by
  obtain ⟨hx, hb, hr, hml, hown, hts0, hX, hbl, hlocks, hgv⟩ := C0
  have hts : ∀ w ∈ lw_all, w.before #[Value.ref b] s = true := fun w h => hts0 w (lw_all_tbl h)
  have C : CallFix p m c cL_law 4 s #[Value.ref b] lw_all R_law := ⟨hx, hb, hml, hown, hts⟩
  refine lv_aload_n hx hb dL_law_329 rfl (lv_at hl 1 rfl) ?_
  refine lv_aload_n hx hb dL_law_330 rfl (lv_at hl 0 rfl) ?_
  refine lv_iload_n hx hb dL_law_331 rfl (lv_at hl 3 rfl) ?_
  refine lv_iconst (v := nI 1) hx hb dL_law_332 (by decide) ?_
  refine n_iadd hx hb dL_law_333 ?_
  refine l_sld hx hb hX hbl hL w.2.2.1 (i := i + 1) (by omega) dL_law_334 ?_
  refine lv_aload_n hx hb dL_law_335 rfl (lv_at hl 0 rfl) ?_
  refine lv_iload_n hx hb dL_law_336 rfl (lv_at hl 3 rfl) ?_
  refine lv_iconst (v := nI 2) hx hb dL_law_337 (by decide) ?_
  refine n_iadd hx hb dL_law_338 ?_
  refine l_sld hx hb hX hbl hL w.2.2.1 (i := i + 2) (by omega) dL_law_339 ?_
  refine lv_aload_n hx hb dL_law_340 rfl (lv_at hl 0 rfl) ?_
  refine lv_iload_n hx hb dL_law_341 rfl (lv_at hl 3 rfl) ?_
  refine lv_iconst (v := nI 3) hx hb dL_law_342 (by decide) ?_
  refine n_iadd hx hb dL_law_343 ?_
  refine l_sld hx hb hX hbl hL w.2.2.1 (i := i + 3) (by omega) dL_law_344 ?_
  refine lv_aload_n hx hb dL_law_345 rfl (lv_at hl 0 rfl) ?_
  refine lv_iload_n hx hb dL_law_346 rfl (lv_at hl 3 rfl) ?_
  refine lv_iconst (v := nI 4) hx hb dL_law_347 (by decide) ?_
  refine n_iadd hx hb dL_law_348 ?_
  refine l_sld hx hb hX hbl hL w.2.2.1 (i := i + 4) (by omega) dL_law_349 ?_
  refine l_callX (n := 4) (As := [.int (xs (i + 1)), .int (xs (i + 2)), .int (xs (i + 3)), .int (xs (i + 4))]) (rest := []) C w (lx_style l σ a hXR (xs (i + 1)) (xs (i + 2)) (xs (i + 3)) (xs (i + 4))) q170 q171 q172 q173 rfl (by decide +kernel) rfl ⟨rfl, rfl⟩ ⟨Nat.le_of_ble_eq_true rfl, Nat.le_of_ble_eq_true rfl⟩ ⟨Nat.le_of_ble_eq_true rfl, Nat.le_of_ble_eq_true rfl⟩ rfl hl.1 (Nat.le_of_ble_eq_true rfl) dL_law_350 (fun r1 σ1 H locs hp1 w => ?_)
  refine lv_aload_n hx hb dL_law_353 rfl (lv_at hl 2 rfl) ?_
  refine lv_aload_n hx hb dL_law_354 rfl (lv_at hl 0 rfl) ?_
  refine lv_iload_n hx hb dL_law_355 rfl (lv_at hl 3 rfl) ?_
  refine lv_iconst (v := nI 1) hx hb dL_law_356 (by decide) ?_
  refine n_iadd hx hb dL_law_357 ?_
  refine l_sld hx hb hX hbl hL w.2.2.1 (i := i + 1) (by omega) dL_law_358 ?_
  refine lv_aload_n hx hb dL_law_359 rfl (lv_at hl 0 rfl) ?_
  refine lv_iload_n hx hb dL_law_360 rfl (lv_at hl 3 rfl) ?_
  refine lv_iconst (v := nI 2) hx hb dL_law_361 (by decide) ?_
  refine n_iadd hx hb dL_law_362 ?_
  refine l_sld hx hb hX hbl hL w.2.2.1 (i := i + 2) (by omega) dL_law_363 ?_
  refine lv_aload_n hx hb dL_law_364 rfl (lv_at hl 0 rfl) ?_
  refine lv_iload_n hx hb dL_law_365 rfl (lv_at hl 3 rfl) ?_
  refine lv_iconst (v := nI 3) hx hb dL_law_366 (by decide) ?_
  refine n_iadd hx hb dL_law_367 ?_
  refine l_sld hx hb hX hbl hL w.2.2.1 (i := i + 3) (by omega) dL_law_368 ?_
  refine lv_aload_n hx hb dL_law_369 rfl (lv_at hl 0 rfl) ?_
  refine lv_iload_n hx hb dL_law_370 rfl (lv_at hl 3 rfl) ?_
  refine lv_iconst (v := nI 4) hx hb dL_law_371 (by decide) ?_
  refine n_iadd hx hb dL_law_372 ?_
  refine l_sld hx hb hX hbl hL w.2.2.1 (i := i + 4) (by omega) dL_law_373 ?_
  refine l_callM (n := 4) (As := [.int (xs (i + 1)), .int (xs (i + 2)), .int (xs (i + 3)), .int (xs (i + 4))]) (rest := [.int r1]) C w (lm_style l τ a hMR (xs (i + 1)) (xs (i + 2)) (xs (i + 3)) (xs (i + 4))) q301 q302 q303 q304 rfl (by decide +kernel) rfl ⟨rfl, rfl⟩ ⟨Nat.le_of_ble_eq_true rfl, Nat.le_of_ble_eq_true rfl⟩ ⟨Nat.le_of_ble_eq_true rfl, Nat.le_of_ble_eq_true rfl⟩ rfl hl.1 (Nat.le_of_ble_eq_true rfl) dL_law_374 (fun r2 τ1 H locs hp2 w => ?_)
  exact lv_icmp_eq (tgt := 671) hx hb dL_law_377 (by decide) (fun _ => back σ1 τ1 _ hp1.2 hp2.2 H locs w) (fun c9 => absurd (hp1.1.trans hp2.1.symm) c9)
set_option maxHeartbeats 4000000 in
theorem lc_toggle (hL : L ≤ 320) (C0 : lw_At p s m meth c b L xs) {i : Nat} (hi : i + 5 ≤ L) (σ : XS) (τ : MS) (a : AS) (hXR : st_XR σ a) (hMR : st_MR τ a) (H : Heap) (locs : List Loc) (ls : Array Slot) (w : wd D (fun q : Nat => s.heap.size ≤ q) s (xw ad ca σ ++ mw ad2 ca2 τ) (xt ca ++ mt ca2) H locs) (hl : lv_has ls 4 [(0, .ref b), (1, .ref (ad 0)), (2, .ref (ad2 0)), (3, .int (nI i))]) (back : ∀ (σ : XS) (τ : MS) (a : AS), st_XR σ a → st_MR τ a → ∀ (H : Heap) (locs : List Loc), wd D (fun q : Nat => s.heap.size ≤ q) s (xw ad ca σ ++ mw ad2 ca2 τ) (xt ca ++ mt ca2) H locs → W p l e room_1 s m #[Value.ref b] below meth c H locs 11 601 (lw_Z below #[Value.ref b] s) (F0 m 671 ls [])) : W p l e room_1 s m #[Value.ref b] below meth c H locs 11 601 (lw_Z below #[Value.ref b] s) (F0 m 382 ls []) := by
  obtain ⟨hx, hb, hr, hml, hown, hts0, hX, hbl, hlocks, hgv⟩ := C0
  have hts : ∀ w ∈ lw_all, w.before #[Value.ref b] s = true := fun w h => hts0 w (lw_all_tbl h)
  have C : CallFix p m c cL_law 4 s #[Value.ref b] lw_all R_law := ⟨hx, hb, hml, hown, hts⟩
  refine lv_aload_n hx hb dL_law_382 rfl (lv_at hl 1 rfl) ?_
  refine lv_aload_n hx hb dL_law_383 rfl (lv_at hl 0 rfl) ?_
  refine lv_iload_n hx hb dL_law_384 rfl (lv_at hl 3 rfl) ?_
  refine lv_iconst (v := nI 1) hx hb dL_law_385 (by decide) ?_
  refine n_iadd hx hb dL_law_386 ?_
  refine l_sld hx hb hX hbl hL w.2.2.1 (i := i + 1) (by omega) dL_law_387 ?_
  refine lv_aload_n hx hb dL_law_388 rfl (lv_at hl 0 rfl) ?_
  refine lv_iload_n hx hb dL_law_389 rfl (lv_at hl 3 rfl) ?_
  refine lv_iconst (v := nI 2) hx hb dL_law_390 (by decide) ?_
  refine n_iadd hx hb dL_law_391 ?_
  refine l_sld hx hb hX hbl hL w.2.2.1 (i := i + 2) (by omega) dL_law_392 ?_
  refine lv_aload_n hx hb dL_law_393 rfl (lv_at hl 0 rfl) ?_
  refine lv_iload_n hx hb dL_law_394 rfl (lv_at hl 3 rfl) ?_
  refine lv_iconst (v := nI 3) hx hb dL_law_395 (by decide) ?_
  refine n_iadd hx hb dL_law_396 ?_
  refine l_sld hx hb hX hbl hL w.2.2.1 (i := i + 3) (by omega) dL_law_397 ?_
  refine l_callX (n := 3) (As := [.int (xs (i + 1)), .int (xs (i + 2)), .int (xs (i + 3))]) (rest := []) C w (lx_toggle l σ a hXR (xs (i + 1)) (xs (i + 2)) (xs (i + 3))) q178 q179 q180 q181 rfl (by decide +kernel) rfl ⟨rfl, rfl⟩ ⟨Nat.le_of_ble_eq_true rfl, Nat.le_of_ble_eq_true rfl⟩ ⟨Nat.le_of_ble_eq_true rfl, Nat.le_of_ble_eq_true rfl⟩ rfl hl.1 (Nat.le_of_ble_eq_true rfl) dL_law_398 (fun r1 σ1 H locs hp1 w => ?_)
  refine lv_aload_n hx hb dL_law_401 rfl (lv_at hl 2 rfl) ?_
  refine lv_aload_n hx hb dL_law_402 rfl (lv_at hl 0 rfl) ?_
  refine lv_iload_n hx hb dL_law_403 rfl (lv_at hl 3 rfl) ?_
  refine lv_iconst (v := nI 1) hx hb dL_law_404 (by decide) ?_
  refine n_iadd hx hb dL_law_405 ?_
  refine l_sld hx hb hX hbl hL w.2.2.1 (i := i + 1) (by omega) dL_law_406 ?_
  refine lv_aload_n hx hb dL_law_407 rfl (lv_at hl 0 rfl) ?_
  refine lv_iload_n hx hb dL_law_408 rfl (lv_at hl 3 rfl) ?_
  refine lv_iconst (v := nI 2) hx hb dL_law_409 (by decide) ?_
  refine n_iadd hx hb dL_law_410 ?_
  refine l_sld hx hb hX hbl hL w.2.2.1 (i := i + 2) (by omega) dL_law_411 ?_
  refine lv_aload_n hx hb dL_law_412 rfl (lv_at hl 0 rfl) ?_
  refine lv_iload_n hx hb dL_law_413 rfl (lv_at hl 3 rfl) ?_
  refine lv_iconst (v := nI 3) hx hb dL_law_414 (by decide) ?_
  refine n_iadd hx hb dL_law_415 ?_
  refine l_sld hx hb hX hbl hL w.2.2.1 (i := i + 3) (by omega) dL_law_416 ?_
  refine l_callM (n := 3) (As := [.int (xs (i + 1)), .int (xs (i + 2)), .int (xs (i + 3))]) (rest := [.int r1]) C w (lm_toggle l τ a hMR (xs (i + 1)) (xs (i + 2)) (xs (i + 3))) q309 q310 q311 q312 rfl (by decide +kernel) rfl ⟨rfl, rfl⟩ ⟨Nat.le_of_ble_eq_true rfl, Nat.le_of_ble_eq_true rfl⟩ ⟨Nat.le_of_ble_eq_true rfl, Nat.le_of_ble_eq_true rfl⟩ rfl hl.1 (Nat.le_of_ble_eq_true rfl) dL_law_417 (fun r2 τ1 H locs hp2 w => ?_)
  exact lv_icmp_eq (tgt := 671) hx hb dL_law_420 (by decide) (fun _ => back σ1 τ1 _ hp1.2 hp2.2 H locs w) (fun c9 => absurd (hp1.1.trans hp2.1.symm) c9)
set_option maxHeartbeats 4000000 in
theorem lc_replace (hL : L ≤ 320) (C0 : lw_At p s m meth c b L xs) {i : Nat} (hi : i + 5 ≤ L) (σ : XS) (τ : MS) (a : AS) (hXR : st_XR σ a) (hMR : st_MR τ a) (H : Heap) (locs : List Loc) (ls : Array Slot) (w : wd D (fun q : Nat => s.heap.size ≤ q) s (xw ad ca σ ++ mw ad2 ca2 τ) (xt ca ++ mt ca2) H locs) (hl : lv_has ls 4 [(0, .ref b), (1, .ref (ad 0)), (2, .ref (ad2 0)), (3, .int (nI i))]) (back : ∀ (σ : XS) (τ : MS) (a : AS), st_XR σ a → st_MR τ a → ∀ (H : Heap) (locs : List Loc), wd D (fun q : Nat => s.heap.size ≤ q) s (xw ad ca σ ++ mw ad2 ca2 τ) (xt ca ++ mt ca2) H locs → W p l e room_1 s m #[Value.ref b] below meth c H locs 11 601 (lw_Z below #[Value.ref b] s) (F0 m 671 ls [])) : W p l e room_1 s m #[Value.ref b] below meth c H locs 11 601 (lw_Z below #[Value.ref b] s) (F0 m 425 ls []) := by
  obtain ⟨hx, hb, hr, hml, hown, hts0, hX, hbl, hlocks, hgv⟩ := C0
  have hts : ∀ w ∈ lw_all, w.before #[Value.ref b] s = true := fun w h => hts0 w (lw_all_tbl h)
  have C : CallFix p m c cL_law 4 s #[Value.ref b] lw_all R_law := ⟨hx, hb, hml, hown, hts⟩
  refine lv_aload_n hx hb dL_law_425 rfl (lv_at hl 1 rfl) ?_
  refine lv_aload_n hx hb dL_law_426 rfl (lv_at hl 0 rfl) ?_
  refine lv_iload_n hx hb dL_law_427 rfl (lv_at hl 3 rfl) ?_
  refine lv_iconst (v := nI 1) hx hb dL_law_428 (by decide) ?_
  refine n_iadd hx hb dL_law_429 ?_
  refine l_sld hx hb hX hbl hL w.2.2.1 (i := i + 1) (by omega) dL_law_430 ?_
  refine lv_aload_n hx hb dL_law_431 rfl (lv_at hl 0 rfl) ?_
  refine lv_iload_n hx hb dL_law_432 rfl (lv_at hl 3 rfl) ?_
  refine lv_iconst (v := nI 2) hx hb dL_law_433 (by decide) ?_
  refine n_iadd hx hb dL_law_434 ?_
  refine l_sld hx hb hX hbl hL w.2.2.1 (i := i + 2) (by omega) dL_law_435 ?_
  refine l_callX (n := 2) (As := [.int (xs (i + 1)), .int (xs (i + 2))]) (rest := []) C w (lx_replace l σ a hXR (xs (i + 1)) (xs (i + 2))) q183 q184 q185 q186 rfl (by decide +kernel) rfl ⟨rfl, rfl⟩ ⟨Nat.le_of_ble_eq_true rfl, Nat.le_of_ble_eq_true rfl⟩ ⟨Nat.le_of_ble_eq_true rfl, Nat.le_of_ble_eq_true rfl⟩ rfl hl.1 (Nat.le_of_ble_eq_true rfl) dL_law_436 (fun r1 σ1 H locs hp1 w => ?_)
  refine lv_aload_n hx hb dL_law_439 rfl (lv_at hl 2 rfl) ?_
  refine lv_aload_n hx hb dL_law_440 rfl (lv_at hl 0 rfl) ?_
  refine lv_iload_n hx hb dL_law_441 rfl (lv_at hl 3 rfl) ?_
  refine lv_iconst (v := nI 1) hx hb dL_law_442 (by decide) ?_
  refine n_iadd hx hb dL_law_443 ?_
  refine l_sld hx hb hX hbl hL w.2.2.1 (i := i + 1) (by omega) dL_law_444 ?_
  refine lv_aload_n hx hb dL_law_445 rfl (lv_at hl 0 rfl) ?_
  refine lv_iload_n hx hb dL_law_446 rfl (lv_at hl 3 rfl) ?_
  refine lv_iconst (v := nI 2) hx hb dL_law_447 (by decide) ?_
  refine n_iadd hx hb dL_law_448 ?_
  refine l_sld hx hb hX hbl hL w.2.2.1 (i := i + 2) (by omega) dL_law_449 ?_
  refine l_callM (n := 2) (As := [.int (xs (i + 1)), .int (xs (i + 2))]) (rest := [.int r1]) C w (lm_replace l τ a hMR (xs (i + 1)) (xs (i + 2))) q313 q314 q315 q316 rfl (by decide +kernel) rfl ⟨rfl, rfl⟩ ⟨Nat.le_of_ble_eq_true rfl, Nat.le_of_ble_eq_true rfl⟩ ⟨Nat.le_of_ble_eq_true rfl, Nat.le_of_ble_eq_true rfl⟩ rfl hl.1 (Nat.le_of_ble_eq_true rfl) dL_law_450 (fun r2 τ1 H locs hp2 w => ?_)
  exact lv_icmp_eq (tgt := 671) hx hb dL_law_453 (by decide) (fun _ => back σ1 τ1 _ hp1.2 hp2.2 H locs w) (fun c9 => absurd (hp1.1.trans hp2.1.symm) c9)
set_option maxHeartbeats 4000000 in
theorem lc_length (hL : L ≤ 320) (C0 : lw_At p s m meth c b L xs) {i : Nat} (hi : i + 5 ≤ L) (σ : XS) (τ : MS) (a : AS) (hXR : st_XR σ a) (hMR : st_MR τ a) (H : Heap) (locs : List Loc) (ls : Array Slot) (w : wd D (fun q : Nat => s.heap.size ≤ q) s (xw ad ca σ ++ mw ad2 ca2 τ) (xt ca ++ mt ca2) H locs) (hl : lv_has ls 4 [(0, .ref b), (1, .ref (ad 0)), (2, .ref (ad2 0)), (3, .int (nI i))]) (back : ∀ (σ : XS) (τ : MS) (a : AS), st_XR σ a → st_MR τ a → ∀ (H : Heap) (locs : List Loc), wd D (fun q : Nat => s.heap.size ≤ q) s (xw ad ca σ ++ mw ad2 ca2 τ) (xt ca ++ mt ca2) H locs → W p l e room_1 s m #[Value.ref b] below meth c H locs 11 601 (lw_Z below #[Value.ref b] s) (F0 m 671 ls [])) : W p l e room_1 s m #[Value.ref b] below meth c H locs 11 601 (lw_Z below #[Value.ref b] s) (F0 m 458 ls []) := by
  obtain ⟨hx, hb, hr, hml, hown, hts0, hX, hbl, hlocks, hgv⟩ := C0
  have hts : ∀ w ∈ lw_all, w.before #[Value.ref b] s = true := fun w h => hts0 w (lw_all_tbl h)
  have C : CallFix p m c cL_law 4 s #[Value.ref b] lw_all R_law := ⟨hx, hb, hml, hown, hts⟩
  refine lv_aload_n hx hb dL_law_458 rfl (lv_at hl 1 rfl) ?_
  refine l_callX (n := 0) (As := []) (rest := []) C w (lx_length l σ a hXR ) q187 q188 q189 q190 rfl (by decide +kernel) rfl ⟨rfl, rfl⟩ ⟨Nat.le_of_ble_eq_true rfl, Nat.le_of_ble_eq_true rfl⟩ ⟨Nat.le_of_ble_eq_true rfl, Nat.le_of_ble_eq_true rfl⟩ rfl hl.1 (Nat.le_of_ble_eq_true rfl) dL_law_459 (fun r1 σ1 H locs hp1 w => ?_)
  refine lv_aload_n hx hb dL_law_462 rfl (lv_at hl 2 rfl) ?_
  refine l_callM (n := 0) (As := []) (rest := [.int r1]) C w (lm_length l τ a hMR ) q317 q318 q319 q320 rfl (by decide +kernel) rfl ⟨rfl, rfl⟩ ⟨Nat.le_of_ble_eq_true rfl, Nat.le_of_ble_eq_true rfl⟩ ⟨Nat.le_of_ble_eq_true rfl, Nat.le_of_ble_eq_true rfl⟩ rfl hl.1 (Nat.le_of_ble_eq_true rfl) dL_law_463 (fun r2 τ1 H locs hp2 w => ?_)
  exact lv_icmp_eq (tgt := 671) hx hb dL_law_466 (by decide) (fun _ => back σ1 τ1 _ hp1.2 hp2.2 H locs w) (fun c9 => absurd (hp1.1.trans hp2.1.symm) c9)
set_option maxHeartbeats 4000000 in
theorem lc_letter (hL : L ≤ 320) (C0 : lw_At p s m meth c b L xs) {i : Nat} (hi : i + 5 ≤ L) (σ : XS) (τ : MS) (a : AS) (hXR : st_XR σ a) (hMR : st_MR τ a) (H : Heap) (locs : List Loc) (ls : Array Slot) (w : wd D (fun q : Nat => s.heap.size ≤ q) s (xw ad ca σ ++ mw ad2 ca2 τ) (xt ca ++ mt ca2) H locs) (hl : lv_has ls 4 [(0, .ref b), (1, .ref (ad 0)), (2, .ref (ad2 0)), (3, .int (nI i))]) (back : ∀ (σ : XS) (τ : MS) (a : AS), st_XR σ a → st_MR τ a → ∀ (H : Heap) (locs : List Loc), wd D (fun q : Nat => s.heap.size ≤ q) s (xw ad ca σ ++ mw ad2 ca2 τ) (xt ca ++ mt ca2) H locs → W p l e room_1 s m #[Value.ref b] below meth c H locs 11 601 (lw_Z below #[Value.ref b] s) (F0 m 671 ls [])) : W p l e room_1 s m #[Value.ref b] below meth c H locs 11 601 (lw_Z below #[Value.ref b] s) (F0 m 471 ls []) := by
  obtain ⟨hx, hb, hr, hml, hown, hts0, hX, hbl, hlocks, hgv⟩ := C0
  have hts : ∀ w ∈ lw_all, w.before #[Value.ref b] s = true := fun w h => hts0 w (lw_all_tbl h)
  have C : CallFix p m c cL_law 4 s #[Value.ref b] lw_all R_law := ⟨hx, hb, hml, hown, hts⟩
  refine lv_aload_n hx hb dL_law_471 rfl (lv_at hl 1 rfl) ?_
  refine lv_aload_n hx hb dL_law_472 rfl (lv_at hl 0 rfl) ?_
  refine lv_iload_n hx hb dL_law_473 rfl (lv_at hl 3 rfl) ?_
  refine lv_iconst (v := nI 1) hx hb dL_law_474 (by decide) ?_
  refine n_iadd hx hb dL_law_475 ?_
  refine l_sld hx hb hX hbl hL w.2.2.1 (i := i + 1) (by omega) dL_law_476 ?_
  refine l_callX (n := 1) (As := [.int (xs (i + 1))]) (rest := []) C w (lx_letter l σ a hXR (xs (i + 1))) q191 q192 q193 q194 rfl (by decide +kernel) rfl ⟨rfl, rfl⟩ ⟨Nat.le_of_ble_eq_true rfl, Nat.le_of_ble_eq_true rfl⟩ ⟨Nat.le_of_ble_eq_true rfl, Nat.le_of_ble_eq_true rfl⟩ rfl hl.1 (Nat.le_of_ble_eq_true rfl) dL_law_477 (fun r1 σ1 H locs hp1 w => ?_)
  refine lv_aload_n hx hb dL_law_480 rfl (lv_at hl 2 rfl) ?_
  refine lv_aload_n hx hb dL_law_481 rfl (lv_at hl 0 rfl) ?_
  refine lv_iload_n hx hb dL_law_482 rfl (lv_at hl 3 rfl) ?_
  refine lv_iconst (v := nI 1) hx hb dL_law_483 (by decide) ?_
  refine n_iadd hx hb dL_law_484 ?_
  refine l_sld hx hb hX hbl hL w.2.2.1 (i := i + 1) (by omega) dL_law_485 ?_
  refine l_callM (n := 1) (As := [.int (xs (i + 1))]) (rest := [.int r1]) C w (lm_letter l τ a hMR (xs (i + 1))) q321 q322 q323 q324 rfl (by decide +kernel) rfl ⟨rfl, rfl⟩ ⟨Nat.le_of_ble_eq_true rfl, Nat.le_of_ble_eq_true rfl⟩ ⟨Nat.le_of_ble_eq_true rfl, Nat.le_of_ble_eq_true rfl⟩ rfl hl.1 (Nat.le_of_ble_eq_true rfl) dL_law_486 (fun r2 τ1 H locs hp2 w => ?_)
  exact lv_icmp_eq (tgt := 671) hx hb dL_law_489 (by decide) (fun _ => back σ1 τ1 _ hp1.2 hp2.2 H locs w) (fun c9 => absurd (hp1.1.trans hp2.1.symm) c9)
set_option maxHeartbeats 4000000 in
theorem lc_styleAt (hL : L ≤ 320) (C0 : lw_At p s m meth c b L xs) {i : Nat} (hi : i + 5 ≤ L) (σ : XS) (τ : MS) (a : AS) (hXR : st_XR σ a) (hMR : st_MR τ a) (H : Heap) (locs : List Loc) (ls : Array Slot) (w : wd D (fun q : Nat => s.heap.size ≤ q) s (xw ad ca σ ++ mw ad2 ca2 τ) (xt ca ++ mt ca2) H locs) (hl : lv_has ls 4 [(0, .ref b), (1, .ref (ad 0)), (2, .ref (ad2 0)), (3, .int (nI i))]) (back : ∀ (σ : XS) (τ : MS) (a : AS), st_XR σ a → st_MR τ a → ∀ (H : Heap) (locs : List Loc), wd D (fun q : Nat => s.heap.size ≤ q) s (xw ad ca σ ++ mw ad2 ca2 τ) (xt ca ++ mt ca2) H locs → W p l e room_1 s m #[Value.ref b] below meth c H locs 11 601 (lw_Z below #[Value.ref b] s) (F0 m 671 ls [])) : W p l e room_1 s m #[Value.ref b] below meth c H locs 11 601 (lw_Z below #[Value.ref b] s) (F0 m 494 ls []) := by
  obtain ⟨hx, hb, hr, hml, hown, hts0, hX, hbl, hlocks, hgv⟩ := C0
  have hts : ∀ w ∈ lw_all, w.before #[Value.ref b] s = true := fun w h => hts0 w (lw_all_tbl h)
  have C : CallFix p m c cL_law 4 s #[Value.ref b] lw_all R_law := ⟨hx, hb, hml, hown, hts⟩
  refine lv_aload_n hx hb dL_law_494 rfl (lv_at hl 1 rfl) ?_
  refine lv_aload_n hx hb dL_law_495 rfl (lv_at hl 0 rfl) ?_
  refine lv_iload_n hx hb dL_law_496 rfl (lv_at hl 3 rfl) ?_
  refine lv_iconst (v := nI 1) hx hb dL_law_497 (by decide) ?_
  refine n_iadd hx hb dL_law_498 ?_
  refine l_sld hx hb hX hbl hL w.2.2.1 (i := i + 1) (by omega) dL_law_499 ?_
  refine l_callX (n := 1) (As := [.int (xs (i + 1))]) (rest := []) C w (lx_styleAt l σ a hXR (xs (i + 1))) q199 q200 q201 q202 rfl (by decide +kernel) rfl ⟨rfl, rfl⟩ ⟨Nat.le_of_ble_eq_true rfl, Nat.le_of_ble_eq_true rfl⟩ ⟨Nat.le_of_ble_eq_true rfl, Nat.le_of_ble_eq_true rfl⟩ rfl hl.1 (Nat.le_of_ble_eq_true rfl) dL_law_500 (fun r1 σ1 H locs hp1 w => ?_)
  refine lv_aload_n hx hb dL_law_503 rfl (lv_at hl 2 rfl) ?_
  refine lv_aload_n hx hb dL_law_504 rfl (lv_at hl 0 rfl) ?_
  refine lv_iload_n hx hb dL_law_505 rfl (lv_at hl 3 rfl) ?_
  refine lv_iconst (v := nI 1) hx hb dL_law_506 (by decide) ?_
  refine n_iadd hx hb dL_law_507 ?_
  refine l_sld hx hb hX hbl hL w.2.2.1 (i := i + 1) (by omega) dL_law_508 ?_
  refine l_callM (n := 1) (As := [.int (xs (i + 1))]) (rest := [.int r1]) C w (lm_styleAt l τ a hMR (xs (i + 1))) q325 q326 q327 q328 rfl (by decide +kernel) rfl ⟨rfl, rfl⟩ ⟨Nat.le_of_ble_eq_true rfl, Nat.le_of_ble_eq_true rfl⟩ ⟨Nat.le_of_ble_eq_true rfl, Nat.le_of_ble_eq_true rfl⟩ rfl hl.1 (Nat.le_of_ble_eq_true rfl) dL_law_509 (fun r2 τ1 H locs hp2 w => ?_)
  exact lv_icmp_eq (tgt := 671) hx hb dL_law_512 (by decide) (fun _ => back σ1 τ1 _ hp1.2 hp2.2 H locs w) (fun c9 => absurd (hp1.1.trans hp2.1.symm) c9)
set_option maxHeartbeats 4000000 in
theorem lc_runs (hL : L ≤ 320) (C0 : lw_At p s m meth c b L xs) {i : Nat} (hi : i + 5 ≤ L) (σ : XS) (τ : MS) (a : AS) (hXR : st_XR σ a) (hMR : st_MR τ a) (H : Heap) (locs : List Loc) (ls : Array Slot) (w : wd D (fun q : Nat => s.heap.size ≤ q) s (xw ad ca σ ++ mw ad2 ca2 τ) (xt ca ++ mt ca2) H locs) (hl : lv_has ls 4 [(0, .ref b), (1, .ref (ad 0)), (2, .ref (ad2 0)), (3, .int (nI i))]) (back : ∀ (σ : XS) (τ : MS) (a : AS), st_XR σ a → st_MR τ a → ∀ (H : Heap) (locs : List Loc), wd D (fun q : Nat => s.heap.size ≤ q) s (xw ad ca σ ++ mw ad2 ca2 τ) (xt ca ++ mt ca2) H locs → W p l e room_1 s m #[Value.ref b] below meth c H locs 11 601 (lw_Z below #[Value.ref b] s) (F0 m 671 ls [])) : W p l e room_1 s m #[Value.ref b] below meth c H locs 11 601 (lw_Z below #[Value.ref b] s) (F0 m 517 ls []) := by
  obtain ⟨hx, hb, hr, hml, hown, hts0, hX, hbl, hlocks, hgv⟩ := C0
  have hts : ∀ w ∈ lw_all, w.before #[Value.ref b] s = true := fun w h => hts0 w (lw_all_tbl h)
  have C : CallFix p m c cL_law 4 s #[Value.ref b] lw_all R_law := ⟨hx, hb, hml, hown, hts⟩
  refine lv_aload_n hx hb dL_law_517 rfl (lv_at hl 1 rfl) ?_
  refine l_callX (n := 0) (As := []) (rest := []) C w (lx_runs l σ a hXR ) q203 q204 q205 q206 rfl (by decide +kernel) rfl ⟨rfl, rfl⟩ ⟨Nat.le_of_ble_eq_true rfl, Nat.le_of_ble_eq_true rfl⟩ ⟨Nat.le_of_ble_eq_true rfl, Nat.le_of_ble_eq_true rfl⟩ rfl hl.1 (Nat.le_of_ble_eq_true rfl) dL_law_518 (fun r1 σ1 H locs hp1 w => ?_)
  refine lv_aload_n hx hb dL_law_521 rfl (lv_at hl 2 rfl) ?_
  refine l_callM (n := 0) (As := []) (rest := [.int r1]) C w (lm_runs l τ a hMR ) q329 q330 q331 q332 rfl (by decide +kernel) rfl ⟨rfl, rfl⟩ ⟨Nat.le_of_ble_eq_true rfl, Nat.le_of_ble_eq_true rfl⟩ ⟨Nat.le_of_ble_eq_true rfl, Nat.le_of_ble_eq_true rfl⟩ rfl hl.1 (Nat.le_of_ble_eq_true rfl) dL_law_522 (fun r2 τ1 H locs hp2 w => ?_)
  exact lv_icmp_eq (tgt := 671) hx hb dL_law_525 (by decide) (fun _ => back σ1 τ1 _ hp1.2 hp2.2 H locs w) (fun c9 => absurd (hp1.1.trans hp2.1.symm) c9)
set_option maxHeartbeats 4000000 in
theorem lc_runBegin (hL : L ≤ 320) (C0 : lw_At p s m meth c b L xs) {i : Nat} (hi : i + 5 ≤ L) (σ : XS) (τ : MS) (a : AS) (hXR : st_XR σ a) (hMR : st_MR τ a) (H : Heap) (locs : List Loc) (ls : Array Slot) (w : wd D (fun q : Nat => s.heap.size ≤ q) s (xw ad ca σ ++ mw ad2 ca2 τ) (xt ca ++ mt ca2) H locs) (hl : lv_has ls 4 [(0, .ref b), (1, .ref (ad 0)), (2, .ref (ad2 0)), (3, .int (nI i))]) (back : ∀ (σ : XS) (τ : MS) (a : AS), st_XR σ a → st_MR τ a → ∀ (H : Heap) (locs : List Loc), wd D (fun q : Nat => s.heap.size ≤ q) s (xw ad ca σ ++ mw ad2 ca2 τ) (xt ca ++ mt ca2) H locs → W p l e room_1 s m #[Value.ref b] below meth c H locs 11 601 (lw_Z below #[Value.ref b] s) (F0 m 671 ls [])) : W p l e room_1 s m #[Value.ref b] below meth c H locs 11 601 (lw_Z below #[Value.ref b] s) (F0 m 530 ls []) := by
  obtain ⟨hx, hb, hr, hml, hown, hts0, hX, hbl, hlocks, hgv⟩ := C0
  have hts : ∀ w ∈ lw_all, w.before #[Value.ref b] s = true := fun w h => hts0 w (lw_all_tbl h)
  have C : CallFix p m c cL_law 4 s #[Value.ref b] lw_all R_law := ⟨hx, hb, hml, hown, hts⟩
  refine lv_aload_n hx hb dL_law_530 rfl (lv_at hl 1 rfl) ?_
  refine lv_aload_n hx hb dL_law_531 rfl (lv_at hl 0 rfl) ?_
  refine lv_iload_n hx hb dL_law_532 rfl (lv_at hl 3 rfl) ?_
  refine lv_iconst (v := nI 1) hx hb dL_law_533 (by decide) ?_
  refine n_iadd hx hb dL_law_534 ?_
  refine l_sld hx hb hX hbl hL w.2.2.1 (i := i + 1) (by omega) dL_law_535 ?_
  refine l_callX (n := 1) (As := [.int (xs (i + 1))]) (rest := []) C w (lx_runBegin l σ a hXR (xs (i + 1))) q207 q208 q209 q210 rfl (by decide +kernel) rfl ⟨rfl, rfl⟩ ⟨Nat.le_of_ble_eq_true rfl, Nat.le_of_ble_eq_true rfl⟩ ⟨Nat.le_of_ble_eq_true rfl, Nat.le_of_ble_eq_true rfl⟩ rfl hl.1 (Nat.le_of_ble_eq_true rfl) dL_law_536 (fun r1 σ1 H locs hp1 w => ?_)
  refine lv_aload_n hx hb dL_law_539 rfl (lv_at hl 2 rfl) ?_
  refine lv_aload_n hx hb dL_law_540 rfl (lv_at hl 0 rfl) ?_
  refine lv_iload_n hx hb dL_law_541 rfl (lv_at hl 3 rfl) ?_
  refine lv_iconst (v := nI 1) hx hb dL_law_542 (by decide) ?_
  refine n_iadd hx hb dL_law_543 ?_
  refine l_sld hx hb hX hbl hL w.2.2.1 (i := i + 1) (by omega) dL_law_544 ?_
  refine l_callM (n := 1) (As := [.int (xs (i + 1))]) (rest := [.int r1]) C w (lm_runBegin l τ a hMR (xs (i + 1))) q337 q338 q339 q340 rfl (by decide +kernel) rfl ⟨rfl, rfl⟩ ⟨Nat.le_of_ble_eq_true rfl, Nat.le_of_ble_eq_true rfl⟩ ⟨Nat.le_of_ble_eq_true rfl, Nat.le_of_ble_eq_true rfl⟩ rfl hl.1 (Nat.le_of_ble_eq_true rfl) dL_law_545 (fun r2 τ1 H locs hp2 w => ?_)
  exact lv_icmp_eq (tgt := 671) hx hb dL_law_548 (by decide) (fun _ => back σ1 τ1 _ hp1.2 hp2.2.1 H locs w) (fun c9 => absurd (hp1.1.trans hp2.1.symm) c9)
set_option maxHeartbeats 4000000 in
theorem lc_runStyle (hL : L ≤ 320) (C0 : lw_At p s m meth c b L xs) {i : Nat} (hi : i + 5 ≤ L) (σ : XS) (τ : MS) (a : AS) (hXR : st_XR σ a) (hMR : st_MR τ a) (H : Heap) (locs : List Loc) (ls : Array Slot) (w : wd D (fun q : Nat => s.heap.size ≤ q) s (xw ad ca σ ++ mw ad2 ca2 τ) (xt ca ++ mt ca2) H locs) (hl : lv_has ls 4 [(0, .ref b), (1, .ref (ad 0)), (2, .ref (ad2 0)), (3, .int (nI i))]) (back : ∀ (σ : XS) (τ : MS) (a : AS), st_XR σ a → st_MR τ a → ∀ (H : Heap) (locs : List Loc), wd D (fun q : Nat => s.heap.size ≤ q) s (xw ad ca σ ++ mw ad2 ca2 τ) (xt ca ++ mt ca2) H locs → W p l e room_1 s m #[Value.ref b] below meth c H locs 11 601 (lw_Z below #[Value.ref b] s) (F0 m 671 ls [])) : W p l e room_1 s m #[Value.ref b] below meth c H locs 11 601 (lw_Z below #[Value.ref b] s) (F0 m 553 ls []) := by
  obtain ⟨hx, hb, hr, hml, hown, hts0, hX, hbl, hlocks, hgv⟩ := C0
  have hts : ∀ w ∈ lw_all, w.before #[Value.ref b] s = true := fun w h => hts0 w (lw_all_tbl h)
  have C : CallFix p m c cL_law 4 s #[Value.ref b] lw_all R_law := ⟨hx, hb, hml, hown, hts⟩
  refine lv_aload_n hx hb dL_law_553 rfl (lv_at hl 1 rfl) ?_
  refine lv_aload_n hx hb dL_law_554 rfl (lv_at hl 0 rfl) ?_
  refine lv_iload_n hx hb dL_law_555 rfl (lv_at hl 3 rfl) ?_
  refine lv_iconst (v := nI 1) hx hb dL_law_556 (by decide) ?_
  refine n_iadd hx hb dL_law_557 ?_
  refine l_sld hx hb hX hbl hL w.2.2.1 (i := i + 1) (by omega) dL_law_558 ?_
  refine l_callX (n := 1) (As := [.int (xs (i + 1))]) (rest := []) C w (lx_runStyle l σ a hXR (xs (i + 1))) q211 q212 q213 q214 rfl (by decide +kernel) rfl ⟨rfl, rfl⟩ ⟨Nat.le_of_ble_eq_true rfl, Nat.le_of_ble_eq_true rfl⟩ ⟨Nat.le_of_ble_eq_true rfl, Nat.le_of_ble_eq_true rfl⟩ rfl hl.1 (Nat.le_of_ble_eq_true rfl) dL_law_559 (fun r1 σ1 H locs hp1 w => ?_)
  refine lv_aload_n hx hb dL_law_562 rfl (lv_at hl 2 rfl) ?_
  refine lv_aload_n hx hb dL_law_563 rfl (lv_at hl 0 rfl) ?_
  refine lv_iload_n hx hb dL_law_564 rfl (lv_at hl 3 rfl) ?_
  refine lv_iconst (v := nI 1) hx hb dL_law_565 (by decide) ?_
  refine n_iadd hx hb dL_law_566 ?_
  refine l_sld hx hb hX hbl hL w.2.2.1 (i := i + 1) (by omega) dL_law_567 ?_
  refine l_callM (n := 1) (As := [.int (xs (i + 1))]) (rest := [.int r1]) C w (lm_runStyle l τ a hMR (xs (i + 1))) q341 q342 q343 q344 rfl (by decide +kernel) rfl ⟨rfl, rfl⟩ ⟨Nat.le_of_ble_eq_true rfl, Nat.le_of_ble_eq_true rfl⟩ ⟨Nat.le_of_ble_eq_true rfl, Nat.le_of_ble_eq_true rfl⟩ rfl hl.1 (Nat.le_of_ble_eq_true rfl) dL_law_568 (fun r2 τ1 H locs hp2 w => ?_)
  exact lv_icmp_eq (tgt := 671) hx hb dL_law_571 (by decide) (fun _ => back σ1 τ1 _ hp1.2 hp2.2 H locs w) (fun c9 => absurd (hp1.1.trans hp2.1.symm) c9)
set_option maxHeartbeats 4000000 in
theorem lc_runOf (hL : L ≤ 320) (C0 : lw_At p s m meth c b L xs) {i : Nat} (hi : i + 5 ≤ L) (σ : XS) (τ : MS) (a : AS) (hXR : st_XR σ a) (hMR : st_MR τ a) (H : Heap) (locs : List Loc) (ls : Array Slot) (w : wd D (fun q : Nat => s.heap.size ≤ q) s (xw ad ca σ ++ mw ad2 ca2 τ) (xt ca ++ mt ca2) H locs) (hl : lv_has ls 4 [(0, .ref b), (1, .ref (ad 0)), (2, .ref (ad2 0)), (3, .int (nI i))]) (back : ∀ (σ : XS) (τ : MS) (a : AS), st_XR σ a → st_MR τ a → ∀ (H : Heap) (locs : List Loc), wd D (fun q : Nat => s.heap.size ≤ q) s (xw ad ca σ ++ mw ad2 ca2 τ) (xt ca ++ mt ca2) H locs → W p l e room_1 s m #[Value.ref b] below meth c H locs 11 601 (lw_Z below #[Value.ref b] s) (F0 m 671 ls [])) : W p l e room_1 s m #[Value.ref b] below meth c H locs 11 601 (lw_Z below #[Value.ref b] s) (F0 m 576 ls []) := by
  obtain ⟨hx, hb, hr, hml, hown, hts0, hX, hbl, hlocks, hgv⟩ := C0
  have hts : ∀ w ∈ lw_all, w.before #[Value.ref b] s = true := fun w h => hts0 w (lw_all_tbl h)
  have C : CallFix p m c cL_law 4 s #[Value.ref b] lw_all R_law := ⟨hx, hb, hml, hown, hts⟩
  refine lv_aload_n hx hb dL_law_576 rfl (lv_at hl 1 rfl) ?_
  refine lv_aload_n hx hb dL_law_577 rfl (lv_at hl 0 rfl) ?_
  refine lv_iload_n hx hb dL_law_578 rfl (lv_at hl 3 rfl) ?_
  refine lv_iconst (v := nI 1) hx hb dL_law_579 (by decide) ?_
  refine n_iadd hx hb dL_law_580 ?_
  refine l_sld hx hb hX hbl hL w.2.2.1 (i := i + 1) (by omega) dL_law_581 ?_
  refine l_callX (n := 1) (As := [.int (xs (i + 1))]) (rest := []) C w (lx_runOf l σ a hXR (xs (i + 1))) q215 q216 q217 q218 rfl (by decide +kernel) rfl ⟨rfl, rfl⟩ ⟨Nat.le_of_ble_eq_true rfl, Nat.le_of_ble_eq_true rfl⟩ ⟨Nat.le_of_ble_eq_true rfl, Nat.le_of_ble_eq_true rfl⟩ rfl hl.1 (Nat.le_of_ble_eq_true rfl) dL_law_582 (fun r1 σ1 H locs hp1 w => ?_)
  refine lv_aload_n hx hb dL_law_585 rfl (lv_at hl 2 rfl) ?_
  refine lv_aload_n hx hb dL_law_586 rfl (lv_at hl 0 rfl) ?_
  refine lv_iload_n hx hb dL_law_587 rfl (lv_at hl 3 rfl) ?_
  refine lv_iconst (v := nI 1) hx hb dL_law_588 (by decide) ?_
  refine n_iadd hx hb dL_law_589 ?_
  refine l_sld hx hb hX hbl hL w.2.2.1 (i := i + 1) (by omega) dL_law_590 ?_
  refine l_callM (n := 1) (As := [.int (xs (i + 1))]) (rest := [.int r1]) C w (lm_runOf l τ a hMR (xs (i + 1))) q346 q347 q348 q349 rfl (by decide +kernel) rfl ⟨rfl, rfl⟩ ⟨Nat.le_of_ble_eq_true rfl, Nat.le_of_ble_eq_true rfl⟩ ⟨Nat.le_of_ble_eq_true rfl, Nat.le_of_ble_eq_true rfl⟩ rfl hl.1 (Nat.le_of_ble_eq_true rfl) dL_law_591 (fun r2 τ1 H locs hp2 w => ?_)
  exact lv_icmp_eq (tgt := 671) hx hb dL_law_594 (by decide) (fun _ => back σ1 τ1 _ hp1.2 hp2.2 H locs w) (fun c9 => absurd (hp1.1.trans hp2.1.symm) c9)
set_option maxHeartbeats 4000000 in
theorem lc_having (hL : L ≤ 320) (C0 : lw_At p s m meth c b L xs) {i : Nat} (hi : i + 5 ≤ L) (σ : XS) (τ : MS) (a : AS) (hXR : st_XR σ a) (hMR : st_MR τ a) (H : Heap) (locs : List Loc) (ls : Array Slot) (w : wd D (fun q : Nat => s.heap.size ≤ q) s (xw ad ca σ ++ mw ad2 ca2 τ) (xt ca ++ mt ca2) H locs) (hl : lv_has ls 4 [(0, .ref b), (1, .ref (ad 0)), (2, .ref (ad2 0)), (3, .int (nI i))]) (back : ∀ (σ : XS) (τ : MS) (a : AS), st_XR σ a → st_MR τ a → ∀ (H : Heap) (locs : List Loc), wd D (fun q : Nat => s.heap.size ≤ q) s (xw ad ca σ ++ mw ad2 ca2 τ) (xt ca ++ mt ca2) H locs → W p l e room_1 s m #[Value.ref b] below meth c H locs 11 601 (lw_Z below #[Value.ref b] s) (F0 m 671 ls [])) : W p l e room_1 s m #[Value.ref b] below meth c H locs 11 601 (lw_Z below #[Value.ref b] s) (F0 m 599 ls []) := by
  obtain ⟨hx, hb, hr, hml, hown, hts0, hX, hbl, hlocks, hgv⟩ := C0
  have hts : ∀ w ∈ lw_all, w.before #[Value.ref b] s = true := fun w h => hts0 w (lw_all_tbl h)
  have C : CallFix p m c cL_law 4 s #[Value.ref b] lw_all R_law := ⟨hx, hb, hml, hown, hts⟩
  refine lv_aload_n hx hb dL_law_599 rfl (lv_at hl 1 rfl) ?_
  refine lv_aload_n hx hb dL_law_600 rfl (lv_at hl 0 rfl) ?_
  refine lv_iload_n hx hb dL_law_601 rfl (lv_at hl 3 rfl) ?_
  refine lv_iconst (v := nI 1) hx hb dL_law_602 (by decide) ?_
  refine n_iadd hx hb dL_law_603 ?_
  refine l_sld hx hb hX hbl hL w.2.2.1 (i := i + 1) (by omega) dL_law_604 ?_
  refine l_callX (n := 1) (As := [.int (xs (i + 1))]) (rest := []) C w (lx_having l σ a hXR (xs (i + 1))) q219 q220 q221 q222 rfl (by decide +kernel) rfl ⟨rfl, rfl⟩ ⟨Nat.le_of_ble_eq_true rfl, Nat.le_of_ble_eq_true rfl⟩ ⟨Nat.le_of_ble_eq_true rfl, Nat.le_of_ble_eq_true rfl⟩ rfl hl.1 (Nat.le_of_ble_eq_true rfl) dL_law_605 (fun r1 σ1 H locs hp1 w => ?_)
  refine lv_aload_n hx hb dL_law_608 rfl (lv_at hl 2 rfl) ?_
  refine lv_aload_n hx hb dL_law_609 rfl (lv_at hl 0 rfl) ?_
  refine lv_iload_n hx hb dL_law_610 rfl (lv_at hl 3 rfl) ?_
  refine lv_iconst (v := nI 1) hx hb dL_law_611 (by decide) ?_
  refine n_iadd hx hb dL_law_612 ?_
  refine l_sld hx hb hX hbl hL w.2.2.1 (i := i + 1) (by omega) dL_law_613 ?_
  refine l_callM (n := 1) (As := [.int (xs (i + 1))]) (rest := [.int r1]) C w (lm_having l τ a hMR (xs (i + 1))) q350 q351 q352 q353 rfl (by decide +kernel) rfl ⟨rfl, rfl⟩ ⟨Nat.le_of_ble_eq_true rfl, Nat.le_of_ble_eq_true rfl⟩ ⟨Nat.le_of_ble_eq_true rfl, Nat.le_of_ble_eq_true rfl⟩ rfl hl.1 (Nat.le_of_ble_eq_true rfl) dL_law_614 (fun r2 τ1 H locs hp2 w => ?_)
  exact lv_icmp_eq (tgt := 671) hx hb dL_law_617 (by decide) (fun _ => back σ1 τ1 _ hp1.2 hp2.2 H locs w) (fun c9 => absurd (hp1.1.trans hp2.1.symm) c9)
set_option maxHeartbeats 4000000 in
theorem lc_setFlag (hL : L ≤ 320) (C0 : lw_At p s m meth c b L xs) {i : Nat} (hi : i + 5 ≤ L) (σ : XS) (τ : MS) (a : AS) (hXR : st_XR σ a) (hMR : st_MR τ a) (H : Heap) (locs : List Loc) (ls : Array Slot) (w : wd D (fun q : Nat => s.heap.size ≤ q) s (xw ad ca σ ++ mw ad2 ca2 τ) (xt ca ++ mt ca2) H locs) (hl : lv_has ls 4 [(0, .ref b), (1, .ref (ad 0)), (2, .ref (ad2 0)), (3, .int (nI i))]) (back : ∀ (σ : XS) (τ : MS) (a : AS), st_XR σ a → st_MR τ a → ∀ (H : Heap) (locs : List Loc), wd D (fun q : Nat => s.heap.size ≤ q) s (xw ad ca σ ++ mw ad2 ca2 τ) (xt ca ++ mt ca2) H locs → W p l e room_1 s m #[Value.ref b] below meth c H locs 11 601 (lw_Z below #[Value.ref b] s) (F0 m 671 ls [])) : W p l e room_1 s m #[Value.ref b] below meth c H locs 11 601 (lw_Z below #[Value.ref b] s) (F0 m 622 ls []) := by
  obtain ⟨hx, hb, hr, hml, hown, hts0, hX, hbl, hlocks, hgv⟩ := C0
  have hts : ∀ w ∈ lw_all, w.before #[Value.ref b] s = true := fun w h => hts0 w (lw_all_tbl h)
  have C : CallFix p m c cL_law 4 s #[Value.ref b] lw_all R_law := ⟨hx, hb, hml, hown, hts⟩
  refine lv_aload_n hx hb dL_law_622 rfl (lv_at hl 1 rfl) ?_
  refine lv_aload_n hx hb dL_law_623 rfl (lv_at hl 0 rfl) ?_
  refine lv_iload_n hx hb dL_law_624 rfl (lv_at hl 3 rfl) ?_
  refine lv_iconst (v := nI 1) hx hb dL_law_625 (by decide) ?_
  refine n_iadd hx hb dL_law_626 ?_
  refine l_sld hx hb hX hbl hL w.2.2.1 (i := i + 1) (by omega) dL_law_627 ?_
  refine l_callX (n := 1) (As := [.int (xs (i + 1))]) (rest := []) C w (lx_setFlag l σ a hXR (xs (i + 1))) q223 q224 q225 q226 rfl (by decide +kernel) rfl ⟨rfl, rfl⟩ ⟨Nat.le_of_ble_eq_true rfl, Nat.le_of_ble_eq_true rfl⟩ ⟨Nat.le_of_ble_eq_true rfl, Nat.le_of_ble_eq_true rfl⟩ rfl hl.1 (Nat.le_of_ble_eq_true rfl) dL_law_628 (fun r1 σ1 H locs hp1 w => ?_)
  refine lv_aload_n hx hb dL_law_631 rfl (lv_at hl 2 rfl) ?_
  refine lv_aload_n hx hb dL_law_632 rfl (lv_at hl 0 rfl) ?_
  refine lv_iload_n hx hb dL_law_633 rfl (lv_at hl 3 rfl) ?_
  refine lv_iconst (v := nI 1) hx hb dL_law_634 (by decide) ?_
  refine n_iadd hx hb dL_law_635 ?_
  refine l_sld hx hb hX hbl hL w.2.2.1 (i := i + 1) (by omega) dL_law_636 ?_
  refine l_callM (n := 1) (As := [.int (xs (i + 1))]) (rest := [.int r1]) C w (lm_setFlag l τ a hMR (xs (i + 1))) q354 q355 q356 q357 rfl (by decide +kernel) rfl ⟨rfl, rfl⟩ ⟨Nat.le_of_ble_eq_true rfl, Nat.le_of_ble_eq_true rfl⟩ ⟨Nat.le_of_ble_eq_true rfl, Nat.le_of_ble_eq_true rfl⟩ rfl hl.1 (Nat.le_of_ble_eq_true rfl) dL_law_637 (fun r2 τ1 H locs hp2 w => ?_)
  exact lv_icmp_eq (tgt := 671) hx hb dL_law_640 (by decide) (fun _ => back σ1 τ1 _ hp1.2 hp2.2 H locs w) (fun c9 => absurd (hp1.1.trans hp2.1.symm) c9)
set_option maxHeartbeats 4000000 in
theorem lc_flag (hL : L ≤ 320) (C0 : lw_At p s m meth c b L xs) {i : Nat} (hi : i + 5 ≤ L) (σ : XS) (τ : MS) (a : AS) (hXR : st_XR σ a) (hMR : st_MR τ a) (H : Heap) (locs : List Loc) (ls : Array Slot) (w : wd D (fun q : Nat => s.heap.size ≤ q) s (xw ad ca σ ++ mw ad2 ca2 τ) (xt ca ++ mt ca2) H locs) (hl : lv_has ls 4 [(0, .ref b), (1, .ref (ad 0)), (2, .ref (ad2 0)), (3, .int (nI i))]) (back : ∀ (σ : XS) (τ : MS) (a : AS), st_XR σ a → st_MR τ a → ∀ (H : Heap) (locs : List Loc), wd D (fun q : Nat => s.heap.size ≤ q) s (xw ad ca σ ++ mw ad2 ca2 τ) (xt ca ++ mt ca2) H locs → W p l e room_1 s m #[Value.ref b] below meth c H locs 11 601 (lw_Z below #[Value.ref b] s) (F0 m 671 ls [])) : W p l e room_1 s m #[Value.ref b] below meth c H locs 11 601 (lw_Z below #[Value.ref b] s) (F0 m 645 ls []) := by
  obtain ⟨hx, hb, hr, hml, hown, hts0, hX, hbl, hlocks, hgv⟩ := C0
  have hts : ∀ w ∈ lw_all, w.before #[Value.ref b] s = true := fun w h => hts0 w (lw_all_tbl h)
  have C : CallFix p m c cL_law 4 s #[Value.ref b] lw_all R_law := ⟨hx, hb, hml, hown, hts⟩
  refine lv_aload_n hx hb dL_law_645 rfl (lv_at hl 1 rfl) ?_
  refine l_callX (n := 0) (As := []) (rest := []) C w (lx_flag l σ a hXR ) q227 q228 q229 q230 rfl (by decide +kernel) rfl ⟨rfl, rfl⟩ ⟨Nat.le_of_ble_eq_true rfl, Nat.le_of_ble_eq_true rfl⟩ ⟨Nat.le_of_ble_eq_true rfl, Nat.le_of_ble_eq_true rfl⟩ rfl hl.1 (Nat.le_of_ble_eq_true rfl) dL_law_646 (fun r1 σ1 H locs hp1 w => ?_)
  refine lv_aload_n hx hb dL_law_649 rfl (lv_at hl 2 rfl) ?_
  refine l_callM (n := 0) (As := []) (rest := [.int r1]) C w (lm_flag l τ a hMR ) q358 q359 q360 q361 rfl (by decide +kernel) rfl ⟨rfl, rfl⟩ ⟨Nat.le_of_ble_eq_true rfl, Nat.le_of_ble_eq_true rfl⟩ ⟨Nat.le_of_ble_eq_true rfl, Nat.le_of_ble_eq_true rfl⟩ rfl hl.1 (Nat.le_of_ble_eq_true rfl) dL_law_650 (fun r2 τ1 H locs hp2 w => ?_)
  exact lv_icmp_eq (tgt := 671) hx hb dL_law_653 (by decide) (fun _ => back σ1 τ1 _ hp1.2 hp2.2 H locs w) (fun c9 => absurd (hp1.1.trans hp2.1.symm) c9)
set_option maxHeartbeats 4000000 in
theorem lc_digest (hL : L ≤ 320) (C0 : lw_At p s m meth c b L xs) {i : Nat} (hi : i + 5 ≤ L) (σ : XS) (τ : MS) (a : AS) (hXR : st_XR σ a) (hMR : st_MR τ a) (H : Heap) (locs : List Loc) (ls : Array Slot) (w : wd D (fun q : Nat => s.heap.size ≤ q) s (xw ad ca σ ++ mw ad2 ca2 τ) (xt ca ++ mt ca2) H locs) (hl : lv_has ls 4 [(0, .ref b), (1, .ref (ad 0)), (2, .ref (ad2 0)), (3, .int (nI i))]) (back : ∀ (σ : XS) (τ : MS) (a : AS), st_XR σ a → st_MR τ a → ∀ (H : Heap) (locs : List Loc), wd D (fun q : Nat => s.heap.size ≤ q) s (xw ad ca σ ++ mw ad2 ca2 τ) (xt ca ++ mt ca2) H locs → W p l e room_1 s m #[Value.ref b] below meth c H locs 11 601 (lw_Z below #[Value.ref b] s) (F0 m 671 ls [])) : W p l e room_1 s m #[Value.ref b] below meth c H locs 11 601 (lw_Z below #[Value.ref b] s) (F0 m 658 ls []) := by
  obtain ⟨hx, hb, hr, hml, hown, hts0, hX, hbl, hlocks, hgv⟩ := C0
  have hts : ∀ w ∈ lw_all, w.before #[Value.ref b] s = true := fun w h => hts0 w (lw_all_tbl h)
  have C : CallFix p m c cL_law 4 s #[Value.ref b] lw_all R_law := ⟨hx, hb, hml, hown, hts⟩
  refine lv_aload_n hx hb dL_law_658 rfl (lv_at hl 1 rfl) ?_
  refine l_callX (n := 0) (As := []) (rest := []) C w (lx_digest l σ a hXR ) q231 q232 q233 q234 rfl (by decide +kernel) rfl ⟨rfl, rfl⟩ ⟨Nat.le_of_ble_eq_true rfl, Nat.le_of_ble_eq_true rfl⟩ ⟨Nat.le_of_ble_eq_true rfl, Nat.le_of_ble_eq_true rfl⟩ rfl hl.1 (Nat.le_of_ble_eq_true rfl) dL_law_659 (fun r1 σ1 H locs hp1 w => ?_)
  refine lv_aload_n hx hb dL_law_662 rfl (lv_at hl 2 rfl) ?_
  refine l_callM (n := 0) (As := []) (rest := [.int r1]) C w (lm_digest l τ a hMR ) q362 q363 q364 q365 rfl (by decide +kernel) rfl ⟨rfl, rfl⟩ ⟨Nat.le_of_ble_eq_true rfl, Nat.le_of_ble_eq_true rfl⟩ ⟨Nat.le_of_ble_eq_true rfl, Nat.le_of_ble_eq_true rfl⟩ rfl hl.1 (Nat.le_of_ble_eq_true rfl) dL_law_663 (fun r2 τ1 H locs hp2 w => ?_)
  exact lv_icmp_eq (tgt := 671) hx hb dL_law_666 (by decide) (fun _ => back σ1 τ1 _ hp1.2 hp2.2 H locs w) (fun c9 => absurd (hp1.1.trans hp2.1.symm) c9)
end LC
end
section
set_option maxRecDepth 100000
set_option maxHeartbeats 4000000 in
/-- the law at its loop's head: both objects hold the same picture a -/
theorem law_loop {p : Program} {l : Launch} {e : Env} {s : State} {m : MethodId} {below : List Frame} {meth : Method} {c : Code} {b L : Nat} {xs : Nat → Int32} {D : va_G} {ad ad2 : Nat → Nat} {ca ca2 : Nat → ClassId} (hL : L ≤ 320) (C0 : lw_At p s m meth c b L xs) :
    ∀ (N i : Nat), L + 1 - i < N → i ≤ L → ∀ (σ : XS) (τ : MS) (a : AS), st_XR σ a → st_MR τ a → ∀ (H : Heap) (locs : List Loc) (ls : Array Slot), wd D (fun q : Nat => s.heap.size ≤ q) s (xw ad ca σ ++ mw ad2 ca2 τ) (xt ca ++ mt ca2) H locs → lv_has ls 4 [(0, .ref b), (1, .ref (ad 0)), (2, .ref (ad2 0)), (3, .int (nI i))] → W p l e room_1 s m #[Value.ref b] below meth c H locs 11 601 (lw_Z below #[Value.ref b] s) (F0 m 18 ls []) := by
  obtain ⟨hx, hb, hr, hml, hown, hts0, hX, hbl, hlocks, hgv⟩ := id C0
  intro N
  induction N with
  | zero => intro i hN; exact absurd hN (Nat.not_lt_zero _)
  | succ N ih =>
    intro i hN hiL σ τ a hXR hMR H locs ls w hl
    refine lv_iload_n hx hb dL_law_18 rfl (lv_at hl 3 rfl) ?_
    refine lv_aload_n hx hb dL_law_19 rfl (lv_at hl 0 rfl) ?_
    refine va_slen hx hb hX hbl (Nat.not_le.mpr hbl) w.2.2.1 dL_law_20 ?_
    refine lv_iconst (v := nI 5) hx hb dL_law_21 (by decide) ?_
    refine lv_isub hx hb dL_law_22 ?_
    refine n_top (y := nI L - nI 5) rfl ?_
    refine lv_icmp_gt (tgt := 677) hx hb dL_law_23 (by decide) (fun c23 => ?_) (fun c23 => ?_)
    · refine lv_iconst (v := 1) hx hb dL_law_677 (by decide) ?_
      refine va_forget (fun q hq => w.2.2.1.2.2 q hq) ?_
      refine W.widen (k := 600000) (n := 7290000) (by decide) (by decide) ?_
      exact lw_ret hx hb hr hlocks dL_law_678
    · have hi : i + 5 ≤ L := st_len5 hL (by omega) c23
      have back : ∀ (σ : XS) (τ : MS) (a : AS), st_XR σ a → st_MR τ a → ∀ (H : Heap) (locs : List Loc), wd D (fun q : Nat => s.heap.size ≤ q) s (xw ad ca σ ++ mw ad2 ca2 τ) (xt ca ++ mt ca2) H locs → W p l e room_1 s m #[Value.ref b] below meth c H locs 11 601 (lw_Z below #[Value.ref b] s) (F0 m 671 ls []) := by
        intro σ τ a h1 h2 H locs w
        refine lv_iinc (v := nI (i + 5)) (lv' := [(3, .int (nI (i + 5))), (0, .ref b), (1, .ref (ad 0)), (2, .ref (ad2 0))]) hx hb dL_law_671 hl (k := 3) rfl (by rw [show Int32.ofInt 5 = nI 5 by decide]; exact nI_add i 5) (by decide) rfl (fun ls hl => ?_)
        refine lv_goto (tgt := 18) hx hb dL_law_674 (by decide) ?_
        exact ih (i + 5) (by omega) hi σ τ a h1 h2 H locs ls w (lv_sub hl [1, 2, 3, 0] rfl)
      refine lv_aload_n hx hb dL_law_26 rfl (lv_at hl 0 rfl) ?_
      refine lv_iload_n hx hb dL_law_27 rfl (lv_at hl 3 rfl) ?_
      refine l_sld hx hb hX hbl hL w.2.2.1 (i := i) (by omega) dL_law_28 ?_
      refine lv_bipush (v := 31) hx hb dL_law_29 (by decide) ?_
      refine lv_iand hx hb dL_law_31 ?_
      obtain ⟨k, hk, hke⟩ := st_and31 (xs i)
      refine n_top hke ?_
      rcases st_n18 hk with rfl | rfl | rfl | rfl | rfl | rfl | rfl | rfl | rfl | rfl | rfl | rfl | rfl | rfl | rfl | rfl | rfl | rfl | rfl | hgt
      · exact lv_tableIn (off := 92) (tgt := 124) hx hb dL_law_32 (by decide) (by decide) (by decide) (by decide) (lc_type hL C0 hi σ τ a hXR hMR H locs ls w hl back)
      · exact lv_tableIn (off := 125) (tgt := 157) hx hb dL_law_32 (by decide) (by decide) (by decide) (by decide) (lc_put hL C0 hi σ τ a hXR hMR H locs ls w hl back)
      · exact lv_tableIn (off := 178) (tgt := 210) hx hb dL_law_32 (by decide) (by decide) (by decide) (by decide) (lc_remove hL C0 hi σ τ a hXR hMR H locs ls w hl back)
      · exact lv_tableIn (off := 211) (tgt := 243) hx hb dL_law_32 (by decide) (by decide) (by decide) (by decide) (lc_move hL C0 hi σ τ a hXR hMR H locs ls w hl back)
      · exact lv_tableIn (off := 254) (tgt := 286) hx hb dL_law_32 (by decide) (by decide) (by decide) (by decide) (lc_copy hL C0 hi σ τ a hXR hMR H locs ls w hl back)
      · exact lv_tableIn (off := 297) (tgt := 329) hx hb dL_law_32 (by decide) (by decide) (by decide) (by decide) (lc_style hL C0 hi σ τ a hXR hMR H locs ls w hl back)
      · exact lv_tableIn (off := 350) (tgt := 382) hx hb dL_law_32 (by decide) (by decide) (by decide) (by decide) (lc_toggle hL C0 hi σ τ a hXR hMR H locs ls w hl back)
      · exact lv_tableIn (off := 393) (tgt := 425) hx hb dL_law_32 (by decide) (by decide) (by decide) (by decide) (lc_replace hL C0 hi σ τ a hXR hMR H locs ls w hl back)
      · exact lv_tableIn (off := 426) (tgt := 458) hx hb dL_law_32 (by decide) (by decide) (by decide) (by decide) (lc_length hL C0 hi σ τ a hXR hMR H locs ls w hl back)
      · exact lv_tableIn (off := 439) (tgt := 471) hx hb dL_law_32 (by decide) (by decide) (by decide) (by decide) (lc_letter hL C0 hi σ τ a hXR hMR H locs ls w hl back)
      · exact lv_tableIn (off := 462) (tgt := 494) hx hb dL_law_32 (by decide) (by decide) (by decide) (by decide) (lc_styleAt hL C0 hi σ τ a hXR hMR H locs ls w hl back)
      · exact lv_tableIn (off := 485) (tgt := 517) hx hb dL_law_32 (by decide) (by decide) (by decide) (by decide) (lc_runs hL C0 hi σ τ a hXR hMR H locs ls w hl back)
      · exact lv_tableIn (off := 498) (tgt := 530) hx hb dL_law_32 (by decide) (by decide) (by decide) (by decide) (lc_runBegin hL C0 hi σ τ a hXR hMR H locs ls w hl back)
      · exact lv_tableIn (off := 521) (tgt := 553) hx hb dL_law_32 (by decide) (by decide) (by decide) (by decide) (lc_runStyle hL C0 hi σ τ a hXR hMR H locs ls w hl back)
      · exact lv_tableIn (off := 544) (tgt := 576) hx hb dL_law_32 (by decide) (by decide) (by decide) (by decide) (lc_runOf hL C0 hi σ τ a hXR hMR H locs ls w hl back)
      · exact lv_tableIn (off := 567) (tgt := 599) hx hb dL_law_32 (by decide) (by decide) (by decide) (by decide) (lc_having hL C0 hi σ τ a hXR hMR H locs ls w hl back)
      · exact lv_tableIn (off := 590) (tgt := 622) hx hb dL_law_32 (by decide) (by decide) (by decide) (by decide) (lc_setFlag hL C0 hi σ τ a hXR hMR H locs ls w hl back)
      · exact lv_tableIn (off := 613) (tgt := 645) hx hb dL_law_32 (by decide) (by decide) (by decide) (by decide) (lc_flag hL C0 hi σ τ a hXR hMR H locs ls w hl back)
      · exact lv_tableIn (off := 626) (tgt := 658) hx hb dL_law_32 (by decide) (by decide) (by decide) (by decide) (lc_digest hL C0 hi σ τ a hXR hMR H locs ls w hl back)
      · exact lv_tableOut (tgt := 671) hx hb dL_law_32 (Or.inr (by rw [nI_toInt (show k < 2 ^ 31 by omega)]; omega)) (by decide) (back σ τ a hXR hMR H locs w)
theorem st_XR0 : st_XR st_xz ([], [], 0) := ⟨⟨rfl, by decide, by decide, fun q h => absurd h (Nat.not_lt_zero _)⟩, ⟨trivial, rfl⟩, rfl, rfl, by decide⟩
theorem st_MR0 : st_MR st_mz ([], [], 0) := ⟨⟨rfl, fun q h => absurd h (Nat.not_lt_zero _)⟩, ⟨rfl, fun q h => absurd h (Nat.not_lt_zero _)⟩, by decide, rfl, by decide⟩
set_option maxHeartbeats 4000000 in
/-- the law, from its entry -/
theorem whole_start {p : Program} {e : Env} {s : State} {m : MethodId} {below : List Frame} {meth : Method} {c : Code} (l : Launch) {b L : Nat} {xs : Nat → Int32} (hL : L ≤ 320) (C0 : lw_At p s m meth c b L xs) : W p l e room_1 s m #[Value.ref b] below meth c s.heap [] 0 0 (lw_Z below #[Value.ref b] s) (entryFrame m ([Value.ref b] : List Value).toArray 4) := by
  obtain ⟨hx, hb, hr, hml, hown, hts0, hX, hbl, hlocks, hgv⟩ := id C0
  have hts : ∀ w ∈ lw_all, w.before #[Value.ref b] s = true := fun w h => hts0 w (lw_all_tbl h)
  have hA : ∀ q : Nat, s.heap.size ≤ q → (fun q : Nat => s.heap.size ≤ q) q := fun _ h => h
  obtain ⟨c0, iS0, hKn0⟩ := u_known (C := RX0) (T := TX0) (N := 11) (n := 11) hts in_X0 (hts _ q32)
  obtain ⟨c1, iS1, hKn1⟩ := u_known (C := RX1) (T := TX1) (N := 6) (n := 6) hts in_X1 (hts _ q236)
  obtain ⟨D, hKc⟩ : ∃ D : va_G, ∀ (k : Nat) (q : vw_C), vwCl[k]? = some q → u_Kn s q.1 q.2.1 q.2.2 (D.1 k) (D.2 k) := by
    refine ⟨(fun k => if k = 0 then c0 else c1, fun k => if k = 0 then iS0 else iS1), ?_⟩
    intro k q hq
    match k, hq with
    | 0, hq => cases hq; exact hKn0
    | 1, hq => cases hq; exact hKn1
    | k + 2, hq => simp [vwCl] at hq
  have hS : va_S (fun q : Nat => s.heap.size ≤ q) s.heap s.heap [] := va_S.rf
  have hK : va_K D vwCl [] s := ⟨hKc, fun k q h => by simp at h⟩
  have hP : va_P D vwCl [] s.heap := fun k q h => by simp at h
  have hD : va_D (fun q : Nat => s.heap.size ≤ q) [] := ⟨fun i j p q h => by simp at h, fun k q h => by simp at h⟩
  have hl := lv_entry ([.ref b]) (n := 4) (Nat.le_of_ble_eq_true rfl)
  rw [lg_entry_eq]
  generalize (lg_sl ([.ref b]) ++ List.replicate (4 - (lg_sl ([.ref b])).length) Slot.unset).toArray = ls at hl ⊢
  have hl : lv_has ls 4 [(0, .ref b)] := hl
  refine va_new (D := D) (ci := 0) (fs := st_x0) (C := RX0) (T := TX0) (N := 11) hx hb hts in_X0 tyX0 tyX0_ok hown (hts _ q31) (hts _ q32) (hts _ q29) hK hP hD hS hA rfl (fun j hj => by rcases (show j = 0 ∨ j = 1 ∨ j = 2 ∨ j = 3 ∨ j = 4 ∨ j = 5 ∨ j = 6 ∨ j = 7 ∨ j = 8 ∨ j = 9 ∨ j = 10 by omega) with rfl | rfl | rfl | rfl | rfl | rfl | rfl | rfl | rfl | rfl | rfl <;> rfl) (Nat.le_of_ble_eq_true rfl) (Nat.le_of_ble_eq_true rfl) dL_law_0 (fun xa H hP hD hS => ?_)
  have hP : va_P D vwCl ([] ++ [(xa, .inr (0, st_x0))]) H := hP
  have hD : va_D (fun q : Nat => s.heap.size ≤ q) ([] ++ [(xa, .inr (0, st_x0))]) := hD
  refine W.widen (k := 1) (n := 11) (Nat.le_of_ble_eq_true rfl) (Nat.le_of_ble_eq_true rfl) ?_
  refine lv_dup hx hb dL_law_3 rfl ?_
  have hPc := hP.sub (ws' := [(xa, .inr (0, st_x0))]) [0] rfl
  have hDc := hD.sub (ws' := [(xa, .inr (0, st_x0))]) [0] (by decide) rfl
  have hKc := hK.sub (tys' := []) [] rfl
  have hFc := va_free (wc := [(xa, .inr (0, st_x0))]) hD hS hA [0] rfl
  refine va_callv (va_runI (As := []) (rest := [.ref xa]) ⟨hx, hb, hml, hown, hts⟩ (mi_X0 l D xa H.size) (cwI 0 hts (lw_meth q35) rfl rfl rfl (hts _ q29) (hts _ q33) (hts _ q34) rfl (by decide +kernel) ⟨Nat.le_of_ble_eq_true rfl, Nat.le_of_ble_eq_true rfl⟩) ⟨gP_blind, fun U hU hW => ⟨rfl, by rw [hU], by rw [hU]; exact hPc, va_K.moved hW.alike hKc, hDc.weaken (fun _ _ _ _ => trivial)⟩⟩ rfl rfl hl.1 rfl (lv_room (Nat.le_of_ble_eq_true rfl)) dL_law_4 ⟨Nat.le_of_ble_eq_true rfl, Nat.le_of_ble_eq_true rfl⟩) hS (fun q _ h => hFc q h) hFc (fun u t H1 locs ht hvm hw1 hB hz1 hk1 hS => ?_)
  obtain ⟨ad, ca⟩ := u
  have hw1 : ad 0 = xa := hw1
  subst hw1
  obtain ⟨hP1, hK1, hD1⟩ := hB
  rw [ht] at hP1
  have hK1 := va_K.moved hvm.symm hK1
  obtain ⟨hP, hD⟩ := va_join (wr := []) (w1 := xw ad ca st_xz) hP hD [0] [] rfl rfl (by decide) (by decide) hk1 hFc hP1 hD1
  have hK := hK.app hK1
  have hK : va_K D vwCl (xt ca) s := hK
  refine W.widen (k := 6) (n := 339) (Nat.le_of_ble_eq_true rfl) (Nat.le_of_ble_eq_true rfl) ?_
  have hP : va_P D vwCl (xw ad ca st_xz) H1 := hP
  have hD : va_D (fun q : Nat => s.heap.size ≤ q) (xw ad ca st_xz) := hD
  refine lv_astore_n (lv' := [(1, .ref (ad 0)), (0, .ref b)]) hx hb dL_law_7 rfl hl (by decide) rfl (fun ls hl => ?_)
  refine va_new (D := D) (ci := 1) (fs := st_m0) (C := RX1) (T := TX1) (N := 6) hx hb hts in_X1 tyX1 tyX1_ok hown (hts _ q235) (hts _ q236) (hts _ q30) hK hP hD hS hA rfl (fun j hj => by rcases (show j = 0 ∨ j = 1 ∨ j = 2 ∨ j = 3 ∨ j = 4 ∨ j = 5 by omega) with rfl | rfl | rfl | rfl | rfl | rfl <;> rfl) (Nat.le_of_ble_eq_true rfl) (Nat.le_of_ble_eq_true rfl) dL_law_8 (fun ma H hP hD hS => ?_)
  have hP : va_P D vwCl (xw ad ca st_xz ++ [(ma, .inr (1, st_m0))]) H := hP
  have hD : va_D (fun q : Nat => s.heap.size ≤ q) (xw ad ca st_xz ++ [(ma, .inr (1, st_m0))]) := hD
  refine W.widen (k := 7) (n := 345) (Nat.le_of_ble_eq_true rfl) (Nat.le_of_ble_eq_true rfl) ?_
  refine lv_dup hx hb dL_law_11 rfl ?_
  have hPc := hP.sub (ws' := [(ma, .inr (1, st_m0))]) [6] rfl
  have hDc := hD.sub (ws' := [(ma, .inr (1, st_m0))]) [6] (by decide) rfl
  have hKc := hK.sub (tys' := []) [] rfl
  have hFc := va_free (wc := [(ma, .inr (1, st_m0))]) hD hS hA [6] rfl
  refine va_callv (va_runI (As := []) (rest := [.ref ma]) ⟨hx, hb, hml, hown, hts⟩ (mi_X1 l D ma H.size) (cwI 0 hts (lw_meth q239) rfl rfl rfl (hts _ q30) (hts _ q237) (hts _ q238) rfl (by decide +kernel) ⟨Nat.le_of_ble_eq_true rfl, Nat.le_of_ble_eq_true rfl⟩) ⟨gP_blind, fun U hU hW => ⟨rfl, by rw [hU], by rw [hU]; exact hPc, va_K.moved hW.alike hKc, hDc.weaken (fun _ _ _ _ => trivial)⟩⟩ rfl rfl hl.1 rfl (lv_room (Nat.le_of_ble_eq_true rfl)) dL_law_12 ⟨Nat.le_of_ble_eq_true rfl, Nat.le_of_ble_eq_true rfl⟩) hS (fun q _ h => hFc q h) hFc (fun u t H1 locs ht hvm hw1 hB hz1 hk1 hS => ?_)
  obtain ⟨ad2, ca2⟩ := u
  have hw1 : ad2 0 = ma := hw1
  subst hw1
  obtain ⟨hP1, hK1, hD1⟩ := hB
  rw [ht] at hP1
  have hK1 := va_K.moved hvm.symm hK1
  obtain ⟨hP, hD⟩ := va_join (wr := xw ad ca st_xz) (w1 := mw ad2 ca2 st_mz) hP hD [6] [0, 1, 2, 3, 4, 5] rfl rfl (by decide) (by decide) hk1 hFc hP1 hD1
  have hK := hK.app hK1
  have hK : va_K D vwCl (xt ca ++ mt ca2) s := hK
  refine W.widen (k := 11) (n := 601) (Nat.le_of_ble_eq_true rfl) (Nat.le_of_ble_eq_true rfl) ?_
  refine lv_astore_n (lv' := [(2, .ref (ad2 0)), (1, .ref (ad 0)), (0, .ref b)]) hx hb dL_law_15 rfl hl (by decide) rfl (fun ls hl => ?_)
  refine lv_iconst (v := nI 0) hx hb dL_law_16 (by decide) ?_
  refine lv_istore_n (lv' := [(3, .int (nI 0)), (2, .ref (ad2 0)), (1, .ref (ad 0)), (0, .ref b)]) hx hb dL_law_17 rfl hl (by decide) rfl (fun ls hl => ?_)
  exact law_loop hL C0 (L + 2) 0 (by omega) (Nat.zero_le _) st_xz st_mz ([], [], 0) st_XR0 st_MR0 _ _ ls ⟨hP, hD, hS, hK, hA⟩ (lv_sub hl [3, 2, 1, 0] rfl)
end
section
set_option maxHeartbeats 4000000 in
theorem lw_walk (l : Launch) (b : Addr) (xs : List Int32) : MetFree l x (headSpec (Jvm.Cond.code x code maxLocals ret :: tables_1) room_1) (lw_P b xs) (fun _ _ _ _ _ => True) lw_Q := by
  refine MetFree.of_bodyS (code := code) (maxLocals := maxLocals) (ret := ret) (by decide) ?_ ?_
  · intro args s m h hn
    obtain ⟨meth, c, h1, h2, h3, h4, h5, h6, -, -⟩ := Cond.code_spec hn (atoms_spec (ws := Jvm.Cond.code x code maxLocals ret :: tables_1) h _ List.mem_cons_self)
    exact ⟨meth, c, h1, h2, h3, h4, h5, h6⟩
  · intro p e s m args below meth c s₁ B hml0 hP _
    obtain ⟨rfl, hx, hbd, hgv⟩ := hP
    obtain ⟨scr, harrAt, hlist, hof, hsmall⟩ := hx
    obtain ⟨hcb, hkn, -, -⟩ := State.arrayAt?_spec harrAt
    have hown : s.vm.findClass R_law = some m.cls := findClass_of_methodNamed B.named
    have hts0 : ∀ c ∈ (Jvm.Cond.code x code maxLocals ret :: tables_1), c.before #[Value.ref b] s = true := atoms_spec (ws := Jvm.Cond.code x code maxLocals ret :: tables_1) B.pre
    have hts : ∀ w ∈ lw_tbl, w.before #[Value.ref b] s = true := k2_hts_sels lw_privs (fun w hw => hts0 w (List.mem_cons_of_mem _ hw)) lw_privs_ok
    have hml : c.maxLocals = 4 := B.maxLocals_eq (hts0 _ List.mem_cons_self)
    have X₀ : Stand p l e room_1 s m #[Value.ref b] below meth c s₁ [] 0 0 := Stand.of_body B
    have hh0 : s₁.heap = s.heap := by rw [B.state]; rfl
    have hsz : scr.slots.size = xs.length := by rw [← Array.length_toList, hlist, List.length_map]
    have hval : ∀ j : Nat, j < xs.length → scr.slots[j]? = some (.int (xs.getD j 0)) := fun j hj => by
      rw [← Array.getElem?_toList, hlist]
      simp [hj]
    have hbl : b < s.heap.size := (Array.getElem?_eq_some_iff.mp hcb).1
    have hX : va_X b xs.length (fun j => xs.getD j 0) s s.heap := ⟨scr, hcb, hof, hkn, hsz, hval⟩
    have K : W p l e room_1 s m #[Value.ref b] below meth c s₁.heap [] 0 0 (lw_Z below #[Value.ref b] s) (entryFrame m ([Value.ref b] : List Value).toArray 4) := by
      rw [hh0]
      exact whole_start l hbd ⟨B.exec, B.bytes, B.returns, hml, hown, hts, hX, hbl, B.notSynchronized, hgv⟩
    obtain ⟨t, a1, o, b1, b2, b3⟩ := K s₁ rfl X₀
    exact ⟨t, o, a1, b1, b2, b3⟩
theorem lw_pre_spec {args : Array Value} {s : State} (h : (Jvm.Cond.and given_1 narrow_1).before args s = true) (hr : rest_1_c.before args s = true) : ∃ (b : Addr) (xs : List Int32), lw_P b xs args s := by
  have hs := flat_of_before _ h
  have hq := flat_of_before _ hr
  have hc : (Cond.count 1).before args s = true := hs _ (by decide +kernel)
  have harr : (Cond.arrayOf (.arg 0) .int).before args s = true := hs _ (by decide +kernel)
  have hle : (Cond.le (.length (.arg 0)) (.int 320)).before args s = true := hs _ (by decide +kernel)
  have hlen : (Cond.isInt (.length (.arg 0))).before args s = true := hq _ (by decide +kernel)
  have hall : (Cond.all (.arg 0) (.isInt (.elem (.arg 0) (.index 0)))).before args s = true := hq _ (by decide +kernel)
  obtain ⟨b, xs, hb, hx⟩ := State.ints_of_pre rfl harr hlen hall
  have hsm : xs.length < 2 ^ 31 := hx.choose_spec.2.2.2
  have hev : (Term.length (.arg 0)).eval args s none [] s = some (.int xs.length.toInt32) := hx.length_eval hb
  have hv := Cond.le_ints hev (show (Term.int 320).eval args s none [] s = some (.int 320) from rfl)
  have hd : xs.length.toInt32 ≤ 320 := by
    simpa [Cond.before, Cond.holds, hv] using hle
  have hN : xs.length ≤ 320 := (Int32.ofNat_le_ofNat hsm (by decide)).mp (show Int32.ofNat xs.length ≤ Int32.ofNat 320 from hd)
  exact ⟨b, xs, Cond.one_arg hc (show args[0]? = some (.ref b) from hb), hx, hN, h⟩
theorem lw_comes (l : Launch) : Comes l x (Jvm.Cond.code x code maxLocals ret :: tables_1) room_1 (fun tb e args s => Calls_1 tb e args s ∧ rest_1 tb e args s ∧ Pre_1 tb e args s)
    (fun _ _ args s o t => lw_Q args s o t) := by
  intro p e ha hc hk s m args below hf hfit hheap happ hpre
  obtain ⟨b, xs, hP⟩ := lw_pre_spec hpre.2.2 hpre.2.1
  obtain ⟨k, o, h1, h2, h3, hQ⟩ := lw_walk l b xs p e ha hc hk s m args below hf ((Spec.applies_iff_loose hf).mp happ).1 hP trivial
  exact ⟨k, o, h1, h2, h3, hQ⟩
theorem lw_frame {s t : State} {o : Outcome} {args : Array Value} (h : Framed s o t [] 600000 7290000) :
    Framed s o t (fieldLocs frame_1_writes args s ++ arrayLocs frame_1_arrays args s ++ staticLocs frame_1_statics s) 600000 7290000 := h
theorem lw_limb (L : Cond) (hL : ∀ (args : Array Value) (s t : State), L.after args s (.returned (some (.int 1))) t = true) :
    ArmFor flags0 classFile x code maxLocals ret World_1 tables_1 room_1 Calls_1 rest_1 Pre_1
      (fun tb e a s o t => postC L tb e a s o t ∧ Framed s o t (fieldLocs frame_1_writes a s ++ arrayLocs frame_1_arrays a s ++ staticLocs frame_1_statics s) 600000 7290000) := by
  intro l _ _ _ p e ha hc hk s m args below hf hfit hheap happ hpre
  obtain ⟨k, o, h1, h2, h3, rfl, hF⟩ := lw_comes l p e ha hc hk s m args below hf hfit hheap happ hpre
  exact ⟨k, _, h1, h2, h3, hL args s _, lw_frame hF⟩
theorem i_vc : Claimed_1_1 ∧ Claimed_1_2 := ⟨lw_limb limb_1_1 (fun args s t => by simp [limb_1_1, Cond.after, Cond.holds, Cond.value]), lw_limb limb_1_2 (fun args s t => Cond.after_iff.mpr (by
  first | (rw [show limb_1_2 = Cond.eq .result (.int 1) from rfl, Cond.eq_ints (x := 1) (y := 1) rfl rfl]; simp; done) | (simp [limb_1_2, Cond.value, Term.eval]; done)))⟩
end
