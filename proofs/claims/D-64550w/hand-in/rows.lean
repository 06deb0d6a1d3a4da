section
-- ===== PART A: goes FIRST, ahead of the names: the tables' words, and 'selects' of the private methods out of them =====
/-- a private method of a class that the tables say can be made, by its rows of tables_1 -/
def lw_okq (q : MethodName × Nat) : Prop := (q.1.cls ≠ "java/lang/invoke/MethodHandle" ∧ q.1.cls ≠ "java/lang/invoke/VarHandle") ∧ Cond.instantiable q.1.cls q.2 ∈ tables_1 ∧ Cond.privateMethod q.1 ∈ tables_1 ∧ Cond.instanceMethod q.1 ∈ tables_1
set_option maxRecDepth 100000
theorem lw_t1 {w : Cond} (h : w ∈ tables_1_1) : w ∈ tables_1 := List.mem_append_left _ h
theorem lw_t2 {w : Cond} (h : w ∈ tables_1_2) : w ∈ tables_1 := List.mem_append_right _ h
theorem lw_p0 : lw_okq (⟨"LadderDesk", "stepOnce", "()V"⟩, 19) := ⟨⟨by decide +kernel, by decide +kernel⟩, lw_t1 (List.mem_of_getElem? (i := 7) rfl), lw_t1 (List.mem_of_getElem? (i := 136) rfl), lw_t1 (List.mem_of_getElem? (i := 137) rfl)⟩
theorem lw_p1 : lw_okq (⟨"LadderDesk", "clamped", "(I)J"⟩, 19) := ⟨⟨by decide +kernel, by decide +kernel⟩, lw_t1 (List.mem_of_getElem? (i := 7) rfl), lw_t1 (List.mem_of_getElem? (i := 140) rfl), lw_t1 (List.mem_of_getElem? (i := 141) rfl)⟩
theorem lw_p2 : lw_okq (⟨"LadderDesk$Number", "takeAway", "()V"⟩, 2) := ⟨⟨by decide +kernel, by decide +kernel⟩, lw_t1 (List.mem_of_getElem? (i := 26) rfl), lw_t1 (List.mem_of_getElem? (i := 185) rfl), lw_t1 (List.mem_of_getElem? (i := 186) rfl)⟩
theorem lw_p3 : lw_okq (⟨"LadderDesk", "which", "(I)LLadderDesk$Number;"⟩, 19) := ⟨⟨by decide +kernel, by decide +kernel⟩, lw_t1 (List.mem_of_getElem? (i := 7) rfl), lw_t1 (List.mem_of_getElem? (i := 214) rfl), lw_t1 (List.mem_of_getElem? (i := 215) rfl)⟩
theorem lw_p4 : lw_okq (⟨"LadderDeskModel", "makeU", "()V"⟩, 7) := ⟨⟨by decide +kernel, by decide +kernel⟩, lw_t1 (List.mem_of_getElem? (i := 234) rfl), lw_t2 (List.mem_of_getElem? (i := 38) rfl), lw_t2 (List.mem_of_getElem? (i := 39) rfl)⟩
theorem lw_p5 : lw_okq (⟨"LadderDeskModel", "store", "(I)V"⟩, 7) := ⟨⟨by decide +kernel, by decide +kernel⟩, lw_t1 (List.mem_of_getElem? (i := 234) rfl), lw_t2 (List.mem_of_getElem? (i := 44) rfl), lw_t2 (List.mem_of_getElem? (i := 45) rfl)⟩
theorem lw_p6 : lw_okq (⟨"LadderDeskModel", "isGreat", "()Z"⟩, 7) := ⟨⟨by decide +kernel, by decide +kernel⟩, lw_t1 (List.mem_of_getElem? (i := 234) rfl), lw_t2 (List.mem_of_getElem? (i := 50) rfl), lw_t2 (List.mem_of_getElem? (i := 51) rfl)⟩
theorem lw_p7 : lw_okq (⟨"LadderDeskModel", "setSmall", "(II)V"⟩, 7) := ⟨⟨by decide +kernel, by decide +kernel⟩, lw_t1 (List.mem_of_getElem? (i := 234) rfl), lw_t2 (List.mem_of_getElem? (i := 59) rfl), lw_t2 (List.mem_of_getElem? (i := 60) rfl)⟩
theorem lw_p8 : lw_okq (⟨"LadderDeskModel", "copy", "(II)V"⟩, 7) := ⟨⟨by decide +kernel, by decide +kernel⟩, lw_t1 (List.mem_of_getElem? (i := 234) rfl), lw_t2 (List.mem_of_getElem? (i := 63) rfl), lw_t2 (List.mem_of_getElem? (i := 64) rfl)⟩
theorem lw_p9 : lw_okq (⟨"LadderDeskModel", "stepOnce", "()V"⟩, 7) := ⟨⟨by decide +kernel, by decide +kernel⟩, lw_t1 (List.mem_of_getElem? (i := 234) rfl), lw_t2 (List.mem_of_getElem? (i := 71) rfl), lw_t2 (List.mem_of_getElem? (i := 72) rfl)⟩
theorem lw_p10 : lw_okq (⟨"LadderDeskModel", "bit", "(I)Z"⟩, 7) := ⟨⟨by decide +kernel, by decide +kernel⟩, lw_t1 (List.mem_of_getElem? (i := 234) rfl), lw_t2 (List.mem_of_getElem? (i := 75) rfl), lw_t2 (List.mem_of_getElem? (i := 76) rfl)⟩
theorem lw_p11 : lw_okq (⟨"LadderDeskModel", "change", "(Z)V"⟩, 7) := ⟨⟨by decide +kernel, by decide +kernel⟩, lw_t1 (List.mem_of_getElem? (i := 234) rfl), lw_t2 (List.mem_of_getElem? (i := 79) rfl), lw_t2 (List.mem_of_getElem? (i := 80) rfl)⟩
theorem lw_p12 : lw_okq (⟨"LadderDeskModel", "swap", "(II)V"⟩, 7) := ⟨⟨by decide +kernel, by decide +kernel⟩, lw_t1 (List.mem_of_getElem? (i := 234) rfl), lw_t2 (List.mem_of_getElem? (i := 83) rfl), lw_t2 (List.mem_of_getElem? (i := 84) rfl)⟩
theorem lw_p13 : lw_okq (⟨"LadderDeskModel", "add", "(III)V"⟩, 7) := ⟨⟨by decide +kernel, by decide +kernel⟩, lw_t1 (List.mem_of_getElem? (i := 234) rfl), lw_t2 (List.mem_of_getElem? (i := 87) rfl), lw_t2 (List.mem_of_getElem? (i := 88) rfl)⟩
theorem lw_p14 : lw_okq (⟨"LadderDeskModel", "subtract", "(III)V"⟩, 7) := ⟨⟨by decide +kernel, by decide +kernel⟩, lw_t1 (List.mem_of_getElem? (i := 234) rfl), lw_t2 (List.mem_of_getElem? (i := 91) rfl), lw_t2 (List.mem_of_getElem? (i := 92) rfl)⟩
theorem lw_p15 : lw_okq (⟨"LadderDeskModel", "multiply", "(III)V"⟩, 7) := ⟨⟨by decide +kernel, by decide +kernel⟩, lw_t1 (List.mem_of_getElem? (i := 234) rfl), lw_t2 (List.mem_of_getElem? (i := 96) rfl), lw_t2 (List.mem_of_getElem? (i := 97) rfl)⟩
def lw_privs_1 : List (MethodName × Nat) := [(⟨"LadderDesk", "stepOnce", "()V"⟩, 19), (⟨"LadderDesk", "clamped", "(I)J"⟩, 19), (⟨"LadderDesk$Number", "takeAway", "()V"⟩, 2), (⟨"LadderDesk", "which", "(I)LLadderDesk$Number;"⟩, 19), (⟨"LadderDeskModel", "makeU", "()V"⟩, 7), (⟨"LadderDeskModel", "store", "(I)V"⟩, 7), (⟨"LadderDeskModel", "isGreat", "()Z"⟩, 7), (⟨"LadderDeskModel", "setSmall", "(II)V"⟩, 7), (⟨"LadderDeskModel", "copy", "(II)V"⟩, 7), (⟨"LadderDeskModel", "stepOnce", "()V"⟩, 7), (⟨"LadderDeskModel", "bit", "(I)Z"⟩, 7), (⟨"LadderDeskModel", "change", "(Z)V"⟩, 7), (⟨"LadderDeskModel", "swap", "(II)V"⟩, 7), (⟨"LadderDeskModel", "add", "(III)V"⟩, 7), (⟨"LadderDeskModel", "subtract", "(III)V"⟩, 7), (⟨"LadderDeskModel", "multiply", "(III)V"⟩, 7)]
theorem lw_r1 : ∀ q ∈ lw_privs_1, lw_okq q := List.forall_mem_cons.mpr ⟨lw_p0, List.forall_mem_cons.mpr ⟨lw_p1, List.forall_mem_cons.mpr ⟨lw_p2, List.forall_mem_cons.mpr ⟨lw_p3, List.forall_mem_cons.mpr ⟨lw_p4, List.forall_mem_cons.mpr ⟨lw_p5, List.forall_mem_cons.mpr ⟨lw_p6, List.forall_mem_cons.mpr ⟨lw_p7, List.forall_mem_cons.mpr ⟨lw_p8, List.forall_mem_cons.mpr ⟨lw_p9, List.forall_mem_cons.mpr ⟨lw_p10, List.forall_mem_cons.mpr ⟨lw_p11, List.forall_mem_cons.mpr ⟨lw_p12, List.forall_mem_cons.mpr ⟨lw_p13, List.forall_mem_cons.mpr ⟨lw_p14, List.forall_mem_cons.mpr ⟨lw_p15, fun _ h => absurd h List.not_mem_nil⟩⟩⟩⟩⟩⟩⟩⟩⟩⟩⟩⟩⟩⟩⟩⟩
theorem lw_p16 : lw_okq (⟨"LadderDeskModel", "multiplySmall", "(III)V"⟩, 7) := ⟨⟨by decide +kernel, by decide +kernel⟩, lw_t1 (List.mem_of_getElem? (i := 234) rfl), lw_t2 (List.mem_of_getElem? (i := 102) rfl), lw_t2 (List.mem_of_getElem? (i := 103) rfl)⟩
theorem lw_p17 : lw_okq (⟨"LadderDeskModel", "longOf", "(II)J"⟩, 7) := ⟨⟨by decide +kernel, by decide +kernel⟩, lw_t1 (List.mem_of_getElem? (i := 234) rfl), lw_t2 (List.mem_of_getElem? (i := 114) rfl), lw_t2 (List.mem_of_getElem? (i := 115) rfl)⟩
theorem lw_p18 : lw_okq (⟨"LadderDeskModel", "isZero", "(I)Z"⟩, 7) := ⟨⟨by decide +kernel, by decide +kernel⟩, lw_t1 (List.mem_of_getElem? (i := 234) rfl), lw_t2 (List.mem_of_getElem? (i := 149) rfl), lw_t2 (List.mem_of_getElem? (i := 150) rfl)⟩
theorem lw_p19 : lw_okq (⟨"LadderDeskModel", "isSame", "(II)Z"⟩, 7) := ⟨⟨by decide +kernel, by decide +kernel⟩, lw_t1 (List.mem_of_getElem? (i := 234) rfl), lw_t2 (List.mem_of_getElem? (i := 153) rfl), lw_t2 (List.mem_of_getElem? (i := 154) rfl)⟩
def lw_privs_2 : List (MethodName × Nat) := [(⟨"LadderDeskModel", "multiplySmall", "(III)V"⟩, 7), (⟨"LadderDeskModel", "longOf", "(II)J"⟩, 7), (⟨"LadderDeskModel", "isZero", "(I)Z"⟩, 7), (⟨"LadderDeskModel", "isSame", "(II)Z"⟩, 7)]
theorem lw_r2 : ∀ q ∈ lw_privs_2, lw_okq q := List.forall_mem_cons.mpr ⟨lw_p16, List.forall_mem_cons.mpr ⟨lw_p17, List.forall_mem_cons.mpr ⟨lw_p18, List.forall_mem_cons.mpr ⟨lw_p19, fun _ h => absurd h List.not_mem_nil⟩⟩⟩⟩
def lw_privs : List (MethodName × Nat) := lw_privs_1 ++ (lw_privs_2)
def lw_tbl : List Cond := k2_sels lw_privs ++ tables_1
theorem lw_privs_ok : ∀ q ∈ lw_privs, lw_okq q := by
  show ∀ q ∈ lw_privs_1 ++ (lw_privs_2), lw_okq q
  exact List.forall_mem_append.mpr ⟨lw_r1, lw_r2⟩
-- ===== ONE list of words for every method: the tables' words that hold all through a run =====
def lw_all : List Cond := lw_tbl.filter goodWord
/-- a word of the tables by its place: claim/WORDS.tsv -/
theorem lw_w {w : Cond} (i : Nat) (h : lw_tbl[i]? = some w) (g : goodWord w = true) : w ∈ lw_all := List.mem_filter.mpr ⟨List.mem_of_getElem? h, g⟩
theorem lw_all_tbl {w : Cond} (h : w ∈ lw_all) : w ∈ lw_tbl := (List.mem_filter.mp h).1
theorem lw_self : GoodIn lw_all lw_all := fun w h => ⟨h, good_of_word (List.mem_filter.mp h).2⟩
/-- a class's field words, by their places -/
theorem lw_in (ws : List Cond) (ps : List Nat) (hp : ws = ps.filterMap (fun i => lw_tbl[i]?)) (hg : ws.all goodWord = true) : ∀ w ∈ ws, w ∈ lw_all := by
  intro w h
  have h1 := List.all_eq_true.mp hg w h
  rw [hp] at h
  obtain ⟨i, -, hi⟩ := List.mem_filterMap.mp h
  exact lw_w i hi h1
/-- the words of a contract for the method y with code b, L locals, answer r -/
abbrev ws_ (y : MethodName) (b : ByteArray) (L : Nat) (r : Option FieldType) : List Cond := Cond.code y b L r :: lw_all
theorem lw_meth {y : MethodName} {b : ByteArray} {L : Nat} {r : Option FieldType} (h : Cond.code y b L r ∈ lw_all) : GoodIn lw_all (ws_ y b L r) := by
  intro w hw
  rcases List.mem_cons.mp hw with e | e
  · rw [e]
    exact lw_self _ h
  · exact lw_self _ e
theorem lw_app {a c : List Cond} (ha : ∀ w ∈ a, w ∈ lw_all) (hc : GoodIn lw_all c) : GoodIn lw_all (a ++ c) := by
  intro w hw
  rcases List.mem_append.mp hw with e | e
  · exact lw_self w (ha w e)
  · exact hc w e
/-- what a call through an object asks: cwV n hts (lw_V ..) -/
theorem lw_V {own : String} {idx : Nat} {C : String} {y : MethodName} {b : ByteArray} {L : Nat} {r : Option FieldType} (h1 : Cond.methodLink own idx y ∈ lw_all) (h2 : Cond.instanceMethod y ∈ lw_all) (h3 : Cond.selects C y y ∈ lw_all) (h4 : Cond.initialized C ∈ lw_all) (h5 : Cond.code y b L r ∈ lw_all) : GoodIn lw_all (wsV own idx C y (ws_ y b L r)) := by
  refine lw_app ?_ (lw_meth h5)
  intro w hw
  simp only [List.mem_cons, List.not_mem_nil, or_false] at hw
  rcases hw with e | e | e | e
  · rw [e]; exact h1
  · rw [e]; exact h2
  · rw [e]; exact h3
  · rw [e]; exact h4
/-- what a static call asks: va_cwS n hts (lw_S ..) -/
theorem lw_S {own : String} {idx : Nat} {y : MethodName} {b : ByteArray} {L : Nat} {r : Option FieldType} (h1 : Cond.methodLink own idx y ∈ lw_all) (h2 : Cond.static y ∈ lw_all) (h3 : Cond.initialized y.cls ∈ lw_all) (h4 : Cond.code y b L r ∈ lw_all) : GoodIn lw_all (va_wsS own idx y (ws_ y b L r)) := by
  refine lw_app ?_ (lw_meth h4)
  intro w hw
  simp only [List.mem_cons, List.not_mem_nil, or_false] at hw
  rcases hw with e | e | e
  · rw [e]; exact h1
  · rw [e]; exact h2
  · rw [e]; exact h3
/-- the words of a contract for a method WITH HANDLERS (hh: its table) -/
abbrev wsW_ (y : MethodName) (b : ByteArray) (L : Nat) (r : Option FieldType) (hh : List (Nat × Nat × Nat × Nat)) : List Cond := Cond.codeWith y b L r hh :: lw_all
theorem lw_methW {y : MethodName} {b : ByteArray} {L : Nat} {r : Option FieldType} {hh : List (Nat × Nat × Nat × Nat)} (h : Cond.codeWith y b L r hh ∈ lw_all) : GoodIn lw_all (wsW_ y b L r hh) := by
  intro w hw
  rcases List.mem_cons.mp hw with e | e
  · rw [e]
    exact lw_self _ h
  · exact lw_self _ e
/-- any list of words by their places (lw_in), good -/
theorem lw_good {ws : List Cond} (h : ∀ w ∈ ws, w ∈ lw_all) : GoodIn lw_all ws := fun w hw => lw_self w (h w hw)
/-- what a call of a method with handlers asks: vx_cwVW n hts (lw_VW ..), vx_cwSW n hts (lw_SW ..) -/
theorem lw_VW {own : String} {idx : Nat} {C : String} {y : MethodName} {b : ByteArray} {L : Nat} {r : Option FieldType} {hh : List (Nat × Nat × Nat × Nat)} (h1 : Cond.methodLink own idx y ∈ lw_all) (h2 : Cond.instanceMethod y ∈ lw_all) (h3 : Cond.selects C y y ∈ lw_all) (h4 : Cond.initialized C ∈ lw_all) (h5 : Cond.codeWith y b L r hh ∈ lw_all) : GoodIn lw_all (wsV own idx C y (wsW_ y b L r hh)) := by
  refine lw_app ?_ (lw_methW h5)
  intro w hw
  simp only [List.mem_cons, List.not_mem_nil, or_false] at hw
  rcases hw with e | e | e | e
  · rw [e]; exact h1
  · rw [e]; exact h2
  · rw [e]; exact h3
  · rw [e]; exact h4
theorem lw_SW {own : String} {idx : Nat} {y : MethodName} {b : ByteArray} {L : Nat} {r : Option FieldType} {hh : List (Nat × Nat × Nat × Nat)} (h1 : Cond.methodLink own idx y ∈ lw_all) (h2 : Cond.static y ∈ lw_all) (h3 : Cond.initialized y.cls ∈ lw_all) (h4 : Cond.codeWith y b L r hh ∈ lw_all) : GoodIn lw_all (va_wsS own idx y (wsW_ y b L r hh)) := by
  refine lw_app ?_ (lw_methW h4)
  intro w hw
  simp only [List.mem_cons, List.not_mem_nil, or_false] at hw
  rcases hw with e | e | e
  · rw [e]; exact h1
  · rw [e]; exact h2
  · rw [e]; exact h3
/-- a word by its place in its run of the tables -/
theorem lw_at {r : List Cond} (hr : ∀ w ∈ r, w ∈ lw_tbl) {w : Cond} (i : Nat) (h : r[i]? = some w) : w ∈ lw_tbl := hr w (List.mem_of_getElem? h)
theorem lw_g {w : Cond} (h : w ∈ lw_tbl) (g : goodWord w = true) : w ∈ lw_all := List.mem_filter.mpr ⟨h, g⟩
theorem lw_ms : ∀ w ∈ k2_sels lw_privs, w ∈ lw_tbl := fun w h => show w ∈ k2_sels lw_privs ++ tables_1 from List.mem_append_left _ h
theorem lw_m1 : ∀ w ∈ tables_1_1, w ∈ lw_tbl := fun w h => show w ∈ k2_sels lw_privs ++ tables_1 from List.mem_append_right (k2_sels lw_privs) (show w ∈ tables_1 from List.mem_append_left _ h)
theorem lw_m2 : ∀ w ∈ tables_1_2, w ∈ lw_tbl := fun w h => show w ∈ k2_sels lw_privs ++ tables_1 from List.mem_append_right (k2_sels lw_privs) (show w ∈ tables_1 from List.mem_append_right _ h)
theorem qs0 : (Cond.selects "LadderDesk" ⟨"LadderDesk", "stepOnce", "()V"⟩ ⟨"LadderDesk", "stepOnce", "()V"⟩) ∈ lw_all := lw_g (lw_at lw_ms 0 rfl) rfl
theorem qs1 : (Cond.selects "LadderDesk" ⟨"LadderDesk", "clamped", "(I)J"⟩ ⟨"LadderDesk", "clamped", "(I)J"⟩) ∈ lw_all := lw_g (lw_at lw_ms 1 rfl) rfl
theorem qs2 : (Cond.selects "LadderDesk$Number" ⟨"LadderDesk$Number", "takeAway", "()V"⟩ ⟨"LadderDesk$Number", "takeAway", "()V"⟩) ∈ lw_all := lw_g (lw_at lw_ms 2 rfl) rfl
theorem qs3 : (Cond.selects "LadderDesk" ⟨"LadderDesk", "which", "(I)LLadderDesk$Number;"⟩ ⟨"LadderDesk", "which", "(I)LLadderDesk$Number;"⟩) ∈ lw_all := lw_g (lw_at lw_ms 3 rfl) rfl
theorem qs4 : (Cond.selects "LadderDeskModel" ⟨"LadderDeskModel", "makeU", "()V"⟩ ⟨"LadderDeskModel", "makeU", "()V"⟩) ∈ lw_all := lw_g (lw_at lw_ms 4 rfl) rfl
theorem qs5 : (Cond.selects "LadderDeskModel" ⟨"LadderDeskModel", "store", "(I)V"⟩ ⟨"LadderDeskModel", "store", "(I)V"⟩) ∈ lw_all := lw_g (lw_at lw_ms 5 rfl) rfl
theorem qs6 : (Cond.selects "LadderDeskModel" ⟨"LadderDeskModel", "isGreat", "()Z"⟩ ⟨"LadderDeskModel", "isGreat", "()Z"⟩) ∈ lw_all := lw_g (lw_at lw_ms 6 rfl) rfl
theorem qs7 : (Cond.selects "LadderDeskModel" ⟨"LadderDeskModel", "setSmall", "(II)V"⟩ ⟨"LadderDeskModel", "setSmall", "(II)V"⟩) ∈ lw_all := lw_g (lw_at lw_ms 7 rfl) rfl
theorem qs8 : (Cond.selects "LadderDeskModel" ⟨"LadderDeskModel", "copy", "(II)V"⟩ ⟨"LadderDeskModel", "copy", "(II)V"⟩) ∈ lw_all := lw_g (lw_at lw_ms 8 rfl) rfl
theorem qs9 : (Cond.selects "LadderDeskModel" ⟨"LadderDeskModel", "stepOnce", "()V"⟩ ⟨"LadderDeskModel", "stepOnce", "()V"⟩) ∈ lw_all := lw_g (lw_at lw_ms 9 rfl) rfl
theorem qs10 : (Cond.selects "LadderDeskModel" ⟨"LadderDeskModel", "bit", "(I)Z"⟩ ⟨"LadderDeskModel", "bit", "(I)Z"⟩) ∈ lw_all := lw_g (lw_at lw_ms 10 rfl) rfl
theorem qs11 : (Cond.selects "LadderDeskModel" ⟨"LadderDeskModel", "change", "(Z)V"⟩ ⟨"LadderDeskModel", "change", "(Z)V"⟩) ∈ lw_all := lw_g (lw_at lw_ms 11 rfl) rfl
theorem qs12 : (Cond.selects "LadderDeskModel" ⟨"LadderDeskModel", "swap", "(II)V"⟩ ⟨"LadderDeskModel", "swap", "(II)V"⟩) ∈ lw_all := lw_g (lw_at lw_ms 12 rfl) rfl
theorem qs13 : (Cond.selects "LadderDeskModel" ⟨"LadderDeskModel", "add", "(III)V"⟩ ⟨"LadderDeskModel", "add", "(III)V"⟩) ∈ lw_all := lw_g (lw_at lw_ms 13 rfl) rfl
theorem qs14 : (Cond.selects "LadderDeskModel" ⟨"LadderDeskModel", "subtract", "(III)V"⟩ ⟨"LadderDeskModel", "subtract", "(III)V"⟩) ∈ lw_all := lw_g (lw_at lw_ms 14 rfl) rfl
theorem qs15 : (Cond.selects "LadderDeskModel" ⟨"LadderDeskModel", "multiply", "(III)V"⟩ ⟨"LadderDeskModel", "multiply", "(III)V"⟩) ∈ lw_all := lw_g (lw_at lw_ms 15 rfl) rfl
theorem qs16 : (Cond.selects "LadderDeskModel" ⟨"LadderDeskModel", "multiplySmall", "(III)V"⟩ ⟨"LadderDeskModel", "multiplySmall", "(III)V"⟩) ∈ lw_all := lw_g (lw_at lw_ms 16 rfl) rfl
theorem qs17 : (Cond.selects "LadderDeskModel" ⟨"LadderDeskModel", "longOf", "(II)J"⟩ ⟨"LadderDeskModel", "longOf", "(II)J"⟩) ∈ lw_all := lw_g (lw_at lw_ms 17 rfl) rfl
theorem qs18 : (Cond.selects "LadderDeskModel" ⟨"LadderDeskModel", "isZero", "(I)Z"⟩ ⟨"LadderDeskModel", "isZero", "(I)Z"⟩) ∈ lw_all := lw_g (lw_at lw_ms 18 rfl) rfl
theorem qs19 : (Cond.selects "LadderDeskModel" ⟨"LadderDeskModel", "isSame", "(II)Z"⟩ ⟨"LadderDeskModel", "isSame", "(II)Z"⟩) ∈ lw_all := lw_g (lw_at lw_ms 19 rfl) rfl
end
section
theorem q44 : (Jvm.Cond.arrayClass Jvm.ClassFile.FieldType.long) ∈ lw_all := lw_g (lw_at lw_m1 24 rfl) rfl
set_option maxRecDepth 100000
theorem q281 : (Jvm.Cond.arrayClass Jvm.ClassFile.FieldType.int) ∈ lw_all := lw_g (lw_at lw_m2 21 rfl) rfl
theorem q25 : (Jvm.Cond.initialized "java/lang/System") ∈ lw_all := lw_g (lw_at lw_m1 5 rfl) rfl
set_option maxRecDepth 100000
theorem q149 : (Jvm.Cond.static ({ cls := "java/lang/System", name := "arraycopy", desc := "(Ljava/lang/Object;ILjava/lang/Object;II)V" } : Jvm.MethodName)) ∈ lw_all := lw_g (lw_at lw_m1 129 rfl) rfl
theorem q150 : (Jvm.Cond.native ({ cls := "java/lang/System", name := "arraycopy", desc := "(Ljava/lang/Object;ILjava/lang/Object;II)V" } : Jvm.MethodName)) ∈ lw_all := lw_g (lw_at lw_m1 130 rfl) rfl
/-! java/lang/Object -/
set_option maxRecDepth 100000
def RJ0 : String := "java/lang/Object"
abbrev cJ0_init : ByteArray := object_method_1_code
def yJ0_init : MethodName := ⟨RJ0, "<init>", "()V"⟩
theorem dJ0_init_0 : decode cJ0_init 0 = .ok (.return_, 1) := by decide +kernel
theorem q32 : (Jvm.Cond.instanceMethod ({ cls := "java/lang/Object", name := "<init>", desc := "()V" } : Jvm.MethodName)) ∈ lw_all := lw_g (lw_at lw_m1 12 rfl) rfl
theorem q33 : (Jvm.Cond.code ({ cls := "java/lang/Object", name := "<init>", desc := "()V" } : Jvm.MethodName) object_method_1_code (1 : Nat) (Option.none : Option Jvm.ClassFile.FieldType)) ∈ lw_all := lw_g (lw_at lw_m1 13 rfl) rfl
/-! LadderDesk$Number -/
set_option maxRecDepth 100000
def RX2 : String := "LadderDesk$Number"
def TX2 : u_T := fun k => match k with
  | 0 => ("LadderDesk$Number", "parts", "[J", true)
  | _ => ("LadderDesk$Number", "spare", "[J", true)
def tyX2 : Nat → FieldType := fun k => match k with
  | 0 => .array .long
  | _ => .array .long
abbrev wsX20 : List Cond := u_ws RX2 TX2 2
theorem nmX2 : ∀ a, a < 2 → ∀ b, b < 2 → a ≠ b → (TX2 a).2.1 ≠ (TX2 b).2.1 := by decide +kernel
theorem tyX2_ok : ∀ k, k < 2 → parseFieldDescriptor (TX2 k).2.2.1 = some (tyX2 k) := by decide +kernel
abbrev cX2_init : ByteArray := prog_2_method_1_code
def yX2_init : MethodName := ⟨RX2, "<init>", "()V"⟩
theorem dX2_init_0 : decode cX2_init 0 = .ok (.aload_n 0, 1) := by decide +kernel
theorem dX2_init_1 : decode cX2_init 1 = .ok (.invokespecial 3, 3) := by decide +kernel
theorem dX2_init_4 : decode cX2_init 4 = .ok (.aload_n 0, 1) := by decide +kernel
theorem dX2_init_5 : decode cX2_init 5 = .ok (.bipush 16, 2) := by decide +kernel
theorem dX2_init_7 : decode cX2_init 7 = .ok (.newarray .long, 2) := by decide +kernel
theorem dX2_init_9 : decode cX2_init 9 = .ok (.putfield 9, 3) := by decide +kernel
theorem dX2_init_12 : decode cX2_init 12 = .ok (.aload_n 0, 1) := by decide +kernel
theorem dX2_init_13 : decode cX2_init 13 = .ok (.bipush 16, 2) := by decide +kernel
theorem dX2_init_15 : decode cX2_init 15 = .ok (.newarray .long, 2) := by decide +kernel
theorem dX2_init_17 : decode cX2_init 17 = .ok (.putfield 15, 3) := by decide +kernel
theorem dX2_init_20 : decode cX2_init 20 = .ok (.return_, 1) := by decide +kernel
abbrev cX2_set : ByteArray := prog_2_method_2_code
def yX2_set : MethodName := ⟨RX2, "set", "(I)V"⟩
theorem dX2_set_0 : decode cX2_set 0 = .ok (.iconst 0, 1) := by decide +kernel
theorem dX2_set_1 : decode cX2_set 1 = .ok (.istore_n 2, 1) := by decide +kernel
theorem dX2_set_2 : decode cX2_set 2 = .ok (.iload_n 2, 1) := by decide +kernel
theorem dX2_set_3 : decode cX2_set 3 = .ok (.bipush 16, 2) := by decide +kernel
theorem dX2_set_5 : decode cX2_set 5 = .ok (.if_icmp .ge 16, 3) := by decide +kernel
theorem dX2_set_8 : decode cX2_set 8 = .ok (.aload_n 0, 1) := by decide +kernel
theorem dX2_set_9 : decode cX2_set 9 = .ok (.getfield 9, 3) := by decide +kernel
theorem dX2_set_12 : decode cX2_set 12 = .ok (.iload_n 2, 1) := by decide +kernel
theorem dX2_set_13 : decode cX2_set 13 = .ok (.lconst 0, 1) := by decide +kernel
theorem dX2_set_14 : decode cX2_set 14 = .ok (.lastore, 1) := by decide +kernel
theorem dX2_set_15 : decode cX2_set 15 = .ok (.iinc 2 1, 3) := by decide +kernel
theorem dX2_set_18 : decode cX2_set 18 = .ok (.goto (-16), 3) := by decide +kernel
theorem dX2_set_21 : decode cX2_set 21 = .ok (.aload_n 0, 1) := by decide +kernel
theorem dX2_set_22 : decode cX2_set 22 = .ok (.getfield 9, 3) := by decide +kernel
theorem dX2_set_25 : decode cX2_set 25 = .ok (.iconst 0, 1) := by decide +kernel
theorem dX2_set_26 : decode cX2_set 26 = .ok (.iload_n 1, 1) := by decide +kernel
theorem dX2_set_27 : decode cX2_set 27 = .ok (.i2l, 1) := by decide +kernel
theorem dX2_set_28 : decode cX2_set 28 = .ok (.lastore, 1) := by decide +kernel
theorem dX2_set_29 : decode cX2_set 29 = .ok (.return_, 1) := by decide +kernel
abbrev cX2_take : ByteArray := prog_2_method_4_code
def yX2_take : MethodName := ⟨RX2, "take", "([J)V"⟩
theorem dX2_take_0 : decode cX2_take 0 = .ok (.iconst 0, 1) := by decide +kernel
theorem dX2_take_1 : decode cX2_take 1 = .ok (.istore_n 2, 1) := by decide +kernel
theorem dX2_take_2 : decode cX2_take 2 = .ok (.iload_n 2, 1) := by decide +kernel
theorem dX2_take_3 : decode cX2_take 3 = .ok (.bipush 16, 2) := by decide +kernel
theorem dX2_take_5 : decode cX2_take 5 = .ok (.if_icmp .ge 31, 3) := by decide +kernel
theorem dX2_take_8 : decode cX2_take 8 = .ok (.aload_n 0, 1) := by decide +kernel
theorem dX2_take_9 : decode cX2_take 9 = .ok (.getfield 9, 3) := by decide +kernel
theorem dX2_take_12 : decode cX2_take 12 = .ok (.iload_n 2, 1) := by decide +kernel
theorem dX2_take_13 : decode cX2_take 13 = .ok (.aload_n 1, 1) := by decide +kernel
theorem dX2_take_14 : decode cX2_take 14 = .ok (.iload_n 2, 1) := by decide +kernel
theorem dX2_take_15 : decode cX2_take 15 = .ok (.iconst 2, 1) := by decide +kernel
theorem dX2_take_16 : decode cX2_take 16 = .ok (.ishr, 1) := by decide +kernel
theorem dX2_take_17 : decode cX2_take 17 = .ok (.laload, 1) := by decide +kernel
theorem dX2_take_18 : decode cX2_take 18 = .ok (.bipush 16, 2) := by decide +kernel
theorem dX2_take_20 : decode cX2_take 20 = .ok (.iload_n 2, 1) := by decide +kernel
theorem dX2_take_21 : decode cX2_take 21 = .ok (.iconst 3, 1) := by decide +kernel
theorem dX2_take_22 : decode cX2_take 22 = .ok (.iand, 1) := by decide +kernel
theorem dX2_take_23 : decode cX2_take 23 = .ok (.imul, 1) := by decide +kernel
theorem dX2_take_24 : decode cX2_take 24 = .ok (.lushr, 1) := by decide +kernel
theorem dX2_take_25 : decode cX2_take 25 = .ok (.ldc2_w 24, 3) := by decide +kernel
theorem dX2_take_28 : decode cX2_take 28 = .ok (.land, 1) := by decide +kernel
theorem dX2_take_29 : decode cX2_take 29 = .ok (.lastore, 1) := by decide +kernel
theorem dX2_take_30 : decode cX2_take 30 = .ok (.iinc 2 1, 3) := by decide +kernel
theorem dX2_take_33 : decode cX2_take 33 = .ok (.goto (-31), 3) := by decide +kernel
theorem dX2_take_36 : decode cX2_take 36 = .ok (.aload_n 0, 1) := by decide +kernel
theorem dX2_take_37 : decode cX2_take 37 = .ok (.getfield 9, 3) := by decide +kernel
theorem dX2_take_40 : decode cX2_take 40 = .ok (.bipush 15, 2) := by decide +kernel
theorem dX2_take_42 : decode cX2_take 42 = .ok (.dup2, 1) := by decide +kernel
theorem dX2_take_43 : decode cX2_take 43 = .ok (.laload, 1) := by decide +kernel
theorem dX2_take_44 : decode cX2_take 44 = .ok (.ldc2_w 26, 3) := by decide +kernel
theorem dX2_take_47 : decode cX2_take 47 = .ok (.land, 1) := by decide +kernel
theorem dX2_take_48 : decode cX2_take 48 = .ok (.lastore, 1) := by decide +kernel
theorem dX2_take_49 : decode cX2_take 49 = .ok (.return_, 1) := by decide +kernel
abbrev cX2_take_2 : ByteArray := prog_2_method_3_code
def yX2_take_2 : MethodName := ⟨RX2, "take", "(LLadderDesk$Number;)V"⟩
theorem dX2_take_2_0 : decode cX2_take_2 0 = .ok (.aload_n 1, 1) := by decide +kernel
theorem dX2_take_2_1 : decode cX2_take_2 1 = .ok (.getfield 9, 3) := by decide +kernel
theorem dX2_take_2_4 : decode cX2_take_2 4 = .ok (.iconst 0, 1) := by decide +kernel
theorem dX2_take_2_5 : decode cX2_take_2 5 = .ok (.aload_n 0, 1) := by decide +kernel
theorem dX2_take_2_6 : decode cX2_take_2 6 = .ok (.getfield 9, 3) := by decide +kernel
theorem dX2_take_2_9 : decode cX2_take_2 9 = .ok (.iconst 0, 1) := by decide +kernel
theorem dX2_take_2_10 : decode cX2_take_2 10 = .ok (.bipush 16, 2) := by decide +kernel
theorem dX2_take_2_12 : decode cX2_take_2 12 = .ok (.invokestatic 18, 3) := by decide +kernel
theorem dX2_take_2_15 : decode cX2_take_2 15 = .ok (.return_, 1) := by decide +kernel
abbrev cX2_change : ByteArray := prog_2_method_8_code
def yX2_change : MethodName := ⟨RX2, "change", "(LLadderDesk$Number;J)V"⟩
theorem dX2_change_0 : decode cX2_change 0 = .ok (.iconst 0, 1) := by decide +kernel
theorem dX2_change_1 : decode cX2_change 1 = .ok (.istore 4, 2) := by decide +kernel
theorem dX2_change_3 : decode cX2_change 3 = .ok (.iload 4, 2) := by decide +kernel
theorem dX2_change_5 : decode cX2_change 5 = .ok (.bipush 16, 2) := by decide +kernel
theorem dX2_change_7 : decode cX2_change 7 = .ok (.if_icmp .ge 52, 3) := by decide +kernel
theorem dX2_change_10 : decode cX2_change 10 = .ok (.lload_n 2, 1) := by decide +kernel
theorem dX2_change_11 : decode cX2_change 11 = .ok (.aload_n 0, 1) := by decide +kernel
theorem dX2_change_12 : decode cX2_change 12 = .ok (.getfield 9, 3) := by decide +kernel
theorem dX2_change_15 : decode cX2_change 15 = .ok (.iload 4, 2) := by decide +kernel
theorem dX2_change_17 : decode cX2_change 17 = .ok (.laload, 1) := by decide +kernel
theorem dX2_change_18 : decode cX2_change 18 = .ok (.aload_n 1, 1) := by decide +kernel
theorem dX2_change_19 : decode cX2_change 19 = .ok (.getfield 9, 3) := by decide +kernel
theorem dX2_change_22 : decode cX2_change 22 = .ok (.iload 4, 2) := by decide +kernel
theorem dX2_change_24 : decode cX2_change 24 = .ok (.laload, 1) := by decide +kernel
theorem dX2_change_25 : decode cX2_change 25 = .ok (.lxor, 1) := by decide +kernel
theorem dX2_change_26 : decode cX2_change 26 = .ok (.land, 1) := by decide +kernel
theorem dX2_change_27 : decode cX2_change 27 = .ok (.lstore 5, 2) := by decide +kernel
theorem dX2_change_29 : decode cX2_change 29 = .ok (.aload_n 0, 1) := by decide +kernel
theorem dX2_change_30 : decode cX2_change 30 = .ok (.getfield 9, 3) := by decide +kernel
theorem dX2_change_33 : decode cX2_change 33 = .ok (.iload 4, 2) := by decide +kernel
theorem dX2_change_35 : decode cX2_change 35 = .ok (.dup2, 1) := by decide +kernel
theorem dX2_change_36 : decode cX2_change 36 = .ok (.laload, 1) := by decide +kernel
theorem dX2_change_37 : decode cX2_change 37 = .ok (.lload 5, 2) := by decide +kernel
theorem dX2_change_39 : decode cX2_change 39 = .ok (.lxor, 1) := by decide +kernel
theorem dX2_change_40 : decode cX2_change 40 = .ok (.lastore, 1) := by decide +kernel
theorem dX2_change_41 : decode cX2_change 41 = .ok (.aload_n 1, 1) := by decide +kernel
theorem dX2_change_42 : decode cX2_change 42 = .ok (.getfield 9, 3) := by decide +kernel
theorem dX2_change_45 : decode cX2_change 45 = .ok (.iload 4, 2) := by decide +kernel
theorem dX2_change_47 : decode cX2_change 47 = .ok (.dup2, 1) := by decide +kernel
theorem dX2_change_48 : decode cX2_change 48 = .ok (.laload, 1) := by decide +kernel
theorem dX2_change_49 : decode cX2_change 49 = .ok (.lload 5, 2) := by decide +kernel
theorem dX2_change_51 : decode cX2_change 51 = .ok (.lxor, 1) := by decide +kernel
theorem dX2_change_52 : decode cX2_change 52 = .ok (.lastore, 1) := by decide +kernel
theorem dX2_change_53 : decode cX2_change 53 = .ok (.iinc 4 1, 3) := by decide +kernel
theorem dX2_change_56 : decode cX2_change 56 = .ok (.goto (-53), 3) := by decide +kernel
theorem dX2_change_59 : decode cX2_change 59 = .ok (.return_, 1) := by decide +kernel
abbrev cX2_add : ByteArray := prog_2_method_6_code
def yX2_add : MethodName := ⟨RX2, "add", "(LLadderDesk$Number;LLadderDesk$Number;)V"⟩
theorem dX2_add_0 : decode cX2_add 0 = .ok (.iconst 0, 1) := by decide +kernel
theorem dX2_add_1 : decode cX2_add 1 = .ok (.istore_n 3, 1) := by decide +kernel
theorem dX2_add_2 : decode cX2_add 2 = .ok (.iload_n 3, 1) := by decide +kernel
theorem dX2_add_3 : decode cX2_add 3 = .ok (.bipush 16, 2) := by decide +kernel
theorem dX2_add_5 : decode cX2_add 5 = .ok (.if_icmp .ge 28, 3) := by decide +kernel
theorem dX2_add_8 : decode cX2_add 8 = .ok (.aload_n 0, 1) := by decide +kernel
theorem dX2_add_9 : decode cX2_add 9 = .ok (.getfield 9, 3) := by decide +kernel
theorem dX2_add_12 : decode cX2_add 12 = .ok (.iload_n 3, 1) := by decide +kernel
theorem dX2_add_13 : decode cX2_add 13 = .ok (.aload_n 1, 1) := by decide +kernel
theorem dX2_add_14 : decode cX2_add 14 = .ok (.getfield 9, 3) := by decide +kernel
theorem dX2_add_17 : decode cX2_add 17 = .ok (.iload_n 3, 1) := by decide +kernel
theorem dX2_add_18 : decode cX2_add 18 = .ok (.laload, 1) := by decide +kernel
theorem dX2_add_19 : decode cX2_add 19 = .ok (.aload_n 2, 1) := by decide +kernel
theorem dX2_add_20 : decode cX2_add 20 = .ok (.getfield 9, 3) := by decide +kernel
theorem dX2_add_23 : decode cX2_add 23 = .ok (.iload_n 3, 1) := by decide +kernel
theorem dX2_add_24 : decode cX2_add 24 = .ok (.laload, 1) := by decide +kernel
theorem dX2_add_25 : decode cX2_add 25 = .ok (.ladd, 1) := by decide +kernel
theorem dX2_add_26 : decode cX2_add 26 = .ok (.lastore, 1) := by decide +kernel
theorem dX2_add_27 : decode cX2_add 27 = .ok (.iinc 3 1, 3) := by decide +kernel
theorem dX2_add_30 : decode cX2_add 30 = .ok (.goto (-28), 3) := by decide +kernel
theorem dX2_add_33 : decode cX2_add 33 = .ok (.return_, 1) := by decide +kernel
abbrev cX2_subtract : ByteArray := prog_2_method_7_code
def yX2_subtract : MethodName := ⟨RX2, "subtract", "(LLadderDesk$Number;LLadderDesk$Number;)V"⟩
theorem dX2_subtract_0 : decode cX2_subtract 0 = .ok (.iconst 0, 1) := by decide +kernel
theorem dX2_subtract_1 : decode cX2_subtract 1 = .ok (.istore_n 3, 1) := by decide +kernel
theorem dX2_subtract_2 : decode cX2_subtract 2 = .ok (.iload_n 3, 1) := by decide +kernel
theorem dX2_subtract_3 : decode cX2_subtract 3 = .ok (.bipush 16, 2) := by decide +kernel
theorem dX2_subtract_5 : decode cX2_subtract 5 = .ok (.if_icmp .ge 28, 3) := by decide +kernel
theorem dX2_subtract_8 : decode cX2_subtract 8 = .ok (.aload_n 0, 1) := by decide +kernel
theorem dX2_subtract_9 : decode cX2_subtract 9 = .ok (.getfield 9, 3) := by decide +kernel
theorem dX2_subtract_12 : decode cX2_subtract 12 = .ok (.iload_n 3, 1) := by decide +kernel
theorem dX2_subtract_13 : decode cX2_subtract 13 = .ok (.aload_n 1, 1) := by decide +kernel
theorem dX2_subtract_14 : decode cX2_subtract 14 = .ok (.getfield 9, 3) := by decide +kernel
theorem dX2_subtract_17 : decode cX2_subtract 17 = .ok (.iload_n 3, 1) := by decide +kernel
theorem dX2_subtract_18 : decode cX2_subtract 18 = .ok (.laload, 1) := by decide +kernel
theorem dX2_subtract_19 : decode cX2_subtract 19 = .ok (.aload_n 2, 1) := by decide +kernel
theorem dX2_subtract_20 : decode cX2_subtract 20 = .ok (.getfield 9, 3) := by decide +kernel
theorem dX2_subtract_23 : decode cX2_subtract 23 = .ok (.iload_n 3, 1) := by decide +kernel
theorem dX2_subtract_24 : decode cX2_subtract 24 = .ok (.laload, 1) := by decide +kernel
theorem dX2_subtract_25 : decode cX2_subtract 25 = .ok (.lsub, 1) := by decide +kernel
theorem dX2_subtract_26 : decode cX2_subtract 26 = .ok (.lastore, 1) := by decide +kernel
theorem dX2_subtract_27 : decode cX2_subtract 27 = .ok (.iinc 3 1, 3) := by decide +kernel
theorem dX2_subtract_30 : decode cX2_subtract 30 = .ok (.goto (-28), 3) := by decide +kernel
theorem dX2_subtract_33 : decode cX2_subtract 33 = .ok (.return_, 1) := by decide +kernel
abbrev cX2_carry : ByteArray := prog_2_method_5_code
def yX2_carry : MethodName := ⟨RX2, "carry", "()V"⟩
theorem dX2_carry_0 : decode cX2_carry 0 = .ok (.iconst 0, 1) := by decide +kernel
theorem dX2_carry_1 : decode cX2_carry 1 = .ok (.istore_n 1, 1) := by decide +kernel
theorem dX2_carry_2 : decode cX2_carry 2 = .ok (.iload_n 1, 1) := by decide +kernel
theorem dX2_carry_3 : decode cX2_carry 3 = .ok (.bipush 16, 2) := by decide +kernel
theorem dX2_carry_5 : decode cX2_carry 5 = .ok (.if_icmp .ge 67, 3) := by decide +kernel
theorem dX2_carry_8 : decode cX2_carry 8 = .ok (.aload_n 0, 1) := by decide +kernel
theorem dX2_carry_9 : decode cX2_carry 9 = .ok (.getfield 9, 3) := by decide +kernel
theorem dX2_carry_12 : decode cX2_carry 12 = .ok (.iload_n 1, 1) := by decide +kernel
theorem dX2_carry_13 : decode cX2_carry 13 = .ok (.laload, 1) := by decide +kernel
theorem dX2_carry_14 : decode cX2_carry 14 = .ok (.bipush 16, 2) := by decide +kernel
theorem dX2_carry_16 : decode cX2_carry 16 = .ok (.lshr, 1) := by decide +kernel
theorem dX2_carry_17 : decode cX2_carry 17 = .ok (.lstore_n 2, 1) := by decide +kernel
theorem dX2_carry_18 : decode cX2_carry 18 = .ok (.aload_n 0, 1) := by decide +kernel
theorem dX2_carry_19 : decode cX2_carry 19 = .ok (.getfield 9, 3) := by decide +kernel
theorem dX2_carry_22 : decode cX2_carry 22 = .ok (.iload_n 1, 1) := by decide +kernel
theorem dX2_carry_23 : decode cX2_carry 23 = .ok (.dup2, 1) := by decide +kernel
theorem dX2_carry_24 : decode cX2_carry 24 = .ok (.laload, 1) := by decide +kernel
theorem dX2_carry_25 : decode cX2_carry 25 = .ok (.lload_n 2, 1) := by decide +kernel
theorem dX2_carry_26 : decode cX2_carry 26 = .ok (.bipush 16, 2) := by decide +kernel
theorem dX2_carry_28 : decode cX2_carry 28 = .ok (.lshl, 1) := by decide +kernel
theorem dX2_carry_29 : decode cX2_carry 29 = .ok (.lsub, 1) := by decide +kernel
theorem dX2_carry_30 : decode cX2_carry 30 = .ok (.lastore, 1) := by decide +kernel
theorem dX2_carry_31 : decode cX2_carry 31 = .ok (.iload_n 1, 1) := by decide +kernel
theorem dX2_carry_32 : decode cX2_carry 32 = .ok (.bipush 15, 2) := by decide +kernel
theorem dX2_carry_34 : decode cX2_carry 34 = .ok (.if_icmp .ge 18, 3) := by decide +kernel
theorem dX2_carry_37 : decode cX2_carry 37 = .ok (.aload_n 0, 1) := by decide +kernel
theorem dX2_carry_38 : decode cX2_carry 38 = .ok (.getfield 9, 3) := by decide +kernel
theorem dX2_carry_41 : decode cX2_carry 41 = .ok (.iload_n 1, 1) := by decide +kernel
theorem dX2_carry_42 : decode cX2_carry 42 = .ok (.iconst 1, 1) := by decide +kernel
theorem dX2_carry_43 : decode cX2_carry 43 = .ok (.iadd, 1) := by decide +kernel
theorem dX2_carry_44 : decode cX2_carry 44 = .ok (.dup2, 1) := by decide +kernel
theorem dX2_carry_45 : decode cX2_carry 45 = .ok (.laload, 1) := by decide +kernel
theorem dX2_carry_46 : decode cX2_carry 46 = .ok (.lload_n 2, 1) := by decide +kernel
theorem dX2_carry_47 : decode cX2_carry 47 = .ok (.ladd, 1) := by decide +kernel
theorem dX2_carry_48 : decode cX2_carry 48 = .ok (.lastore, 1) := by decide +kernel
theorem dX2_carry_49 : decode cX2_carry 49 = .ok (.goto 17, 3) := by decide +kernel
theorem dX2_carry_52 : decode cX2_carry 52 = .ok (.aload_n 0, 1) := by decide +kernel
theorem dX2_carry_53 : decode cX2_carry 53 = .ok (.getfield 9, 3) := by decide +kernel
theorem dX2_carry_56 : decode cX2_carry 56 = .ok (.iconst 0, 1) := by decide +kernel
theorem dX2_carry_57 : decode cX2_carry 57 = .ok (.dup2, 1) := by decide +kernel
theorem dX2_carry_58 : decode cX2_carry 58 = .ok (.laload, 1) := by decide +kernel
theorem dX2_carry_59 : decode cX2_carry 59 = .ok (.ldc2_w 28, 3) := by decide +kernel
theorem dX2_carry_62 : decode cX2_carry 62 = .ok (.lload_n 2, 1) := by decide +kernel
theorem dX2_carry_63 : decode cX2_carry 63 = .ok (.lmul, 1) := by decide +kernel
theorem dX2_carry_64 : decode cX2_carry 64 = .ok (.ladd, 1) := by decide +kernel
theorem dX2_carry_65 : decode cX2_carry 65 = .ok (.lastore, 1) := by decide +kernel
theorem dX2_carry_66 : decode cX2_carry 66 = .ok (.iinc 1 1, 3) := by decide +kernel
theorem dX2_carry_69 : decode cX2_carry 69 = .ok (.goto (-67), 3) := by decide +kernel
theorem dX2_carry_72 : decode cX2_carry 72 = .ok (.return_, 1) := by decide +kernel
abbrev cX2_close : ByteArray := prog_2_method_9_code
def yX2_close : MethodName := ⟨RX2, "close", "()V"⟩
theorem dX2_close_0 : decode cX2_close 0 = .ok (.aload_n 0, 1) := by decide +kernel
theorem dX2_close_1 : decode cX2_close 1 = .ok (.invokevirtual 30, 3) := by decide +kernel
theorem dX2_close_4 : decode cX2_close 4 = .ok (.aload_n 0, 1) := by decide +kernel
theorem dX2_close_5 : decode cX2_close 5 = .ok (.invokevirtual 30, 3) := by decide +kernel
theorem dX2_close_8 : decode cX2_close 8 = .ok (.aload_n 0, 1) := by decide +kernel
theorem dX2_close_9 : decode cX2_close 9 = .ok (.invokevirtual 30, 3) := by decide +kernel
theorem dX2_close_12 : decode cX2_close 12 = .ok (.iconst 0, 1) := by decide +kernel
theorem dX2_close_13 : decode cX2_close 13 = .ok (.istore_n 1, 1) := by decide +kernel
theorem dX2_close_14 : decode cX2_close 14 = .ok (.iload_n 1, 1) := by decide +kernel
theorem dX2_close_15 : decode cX2_close 15 = .ok (.iconst 2, 1) := by decide +kernel
theorem dX2_close_16 : decode cX2_close 16 = .ok (.if_icmp .ge 13, 3) := by decide +kernel
theorem dX2_close_19 : decode cX2_close 19 = .ok (.aload_n 0, 1) := by decide +kernel
theorem dX2_close_20 : decode cX2_close 20 = .ok (.invokevirtual 33, 3) := by decide +kernel
theorem dX2_close_23 : decode cX2_close 23 = .ok (.iinc 1 1, 3) := by decide +kernel
theorem dX2_close_26 : decode cX2_close 26 = .ok (.goto (-12), 3) := by decide +kernel
theorem dX2_close_29 : decode cX2_close 29 = .ok (.return_, 1) := by decide +kernel
abbrev cX2_takeAway : ByteArray := prog_2_method_10_code
def yX2_takeAway : MethodName := ⟨RX2, "takeAway", "()V"⟩
theorem dX2_takeAway_0 : decode cX2_takeAway 0 = .ok (.lconst 0, 1) := by decide +kernel
theorem dX2_takeAway_1 : decode cX2_takeAway 1 = .ok (.lstore_n 1, 1) := by decide +kernel
theorem dX2_takeAway_2 : decode cX2_takeAway 2 = .ok (.iconst 0, 1) := by decide +kernel
theorem dX2_takeAway_3 : decode cX2_takeAway 3 = .ok (.istore_n 3, 1) := by decide +kernel
theorem dX2_takeAway_4 : decode cX2_takeAway 4 = .ok (.iconst 0, 1) := by decide +kernel
theorem dX2_takeAway_5 : decode cX2_takeAway 5 = .ok (.istore 4, 2) := by decide +kernel
theorem dX2_takeAway_7 : decode cX2_takeAway 7 = .ok (.iload 4, 2) := by decide +kernel
theorem dX2_takeAway_9 : decode cX2_takeAway 9 = .ok (.bipush 16, 2) := by decide +kernel
theorem dX2_takeAway_11 : decode cX2_takeAway 11 = .ok (.if_icmp .ge 90, 3) := by decide +kernel
theorem dX2_takeAway_14 : decode cX2_takeAway 14 = .ok (.iload 4, 2) := by decide +kernel
theorem dX2_takeAway_16 : decode cX2_takeAway 16 = .ok (.ifCond .ne 9, 3) := by decide +kernel
theorem dX2_takeAway_19 : decode cX2_takeAway 19 = .ok (.ldc2_w 36, 3) := by decide +kernel
theorem dX2_takeAway_22 : decode cX2_takeAway 22 = .ok (.goto 19, 3) := by decide +kernel
theorem dX2_takeAway_25 : decode cX2_takeAway 25 = .ok (.iload 4, 2) := by decide +kernel
theorem dX2_takeAway_27 : decode cX2_takeAway 27 = .ok (.bipush 15, 2) := by decide +kernel
theorem dX2_takeAway_29 : decode cX2_takeAway 29 = .ok (.if_icmp .ne 9, 3) := by decide +kernel
theorem dX2_takeAway_32 : decode cX2_takeAway 32 = .ok (.ldc2_w 26, 3) := by decide +kernel
theorem dX2_takeAway_35 : decode cX2_takeAway 35 = .ok (.goto 6, 3) := by decide +kernel
theorem dX2_takeAway_38 : decode cX2_takeAway 38 = .ok (.ldc2_w 24, 3) := by decide +kernel
theorem dX2_takeAway_41 : decode cX2_takeAway 41 = .ok (.lstore 5, 2) := by decide +kernel
theorem dX2_takeAway_43 : decode cX2_takeAway 43 = .ok (.aload_n 0, 1) := by decide +kernel
theorem dX2_takeAway_44 : decode cX2_takeAway 44 = .ok (.getfield 9, 3) := by decide +kernel
theorem dX2_takeAway_47 : decode cX2_takeAway 47 = .ok (.iload 4, 2) := by decide +kernel
theorem dX2_takeAway_49 : decode cX2_takeAway 49 = .ok (.laload, 1) := by decide +kernel
theorem dX2_takeAway_50 : decode cX2_takeAway 50 = .ok (.lload 5, 2) := by decide +kernel
theorem dX2_takeAway_52 : decode cX2_takeAway 52 = .ok (.lsub, 1) := by decide +kernel
theorem dX2_takeAway_53 : decode cX2_takeAway 53 = .ok (.lload_n 1, 1) := by decide +kernel
theorem dX2_takeAway_54 : decode cX2_takeAway 54 = .ok (.lsub, 1) := by decide +kernel
theorem dX2_takeAway_55 : decode cX2_takeAway 55 = .ok (.lstore 7, 2) := by decide +kernel
theorem dX2_takeAway_57 : decode cX2_takeAway 57 = .ok (.lload 7, 2) := by decide +kernel
theorem dX2_takeAway_59 : decode cX2_takeAway 59 = .ok (.lconst 0, 1) := by decide +kernel
theorem dX2_takeAway_60 : decode cX2_takeAway 60 = .ok (.lcmp, 1) := by decide +kernel
theorem dX2_takeAway_61 : decode cX2_takeAway 61 = .ok (.ifCond .ge 7, 3) := by decide +kernel
theorem dX2_takeAway_64 : decode cX2_takeAway 64 = .ok (.lconst 1, 1) := by decide +kernel
theorem dX2_takeAway_65 : decode cX2_takeAway 65 = .ok (.goto 4, 3) := by decide +kernel
theorem dX2_takeAway_68 : decode cX2_takeAway 68 = .ok (.lconst 0, 1) := by decide +kernel
theorem dX2_takeAway_69 : decode cX2_takeAway 69 = .ok (.lstore_n 1, 1) := by decide +kernel
theorem dX2_takeAway_70 : decode cX2_takeAway 70 = .ok (.aload_n 0, 1) := by decide +kernel
theorem dX2_takeAway_71 : decode cX2_takeAway 71 = .ok (.getfield 15, 3) := by decide +kernel
theorem dX2_takeAway_74 : decode cX2_takeAway 74 = .ok (.iload 4, 2) := by decide +kernel
theorem dX2_takeAway_76 : decode cX2_takeAway 76 = .ok (.lload 7, 2) := by decide +kernel
theorem dX2_takeAway_78 : decode cX2_takeAway 78 = .ok (.ldc2_w 24, 3) := by decide +kernel
theorem dX2_takeAway_81 : decode cX2_takeAway 81 = .ok (.land, 1) := by decide +kernel
theorem dX2_takeAway_82 : decode cX2_takeAway 82 = .ok (.lastore, 1) := by decide +kernel
theorem dX2_takeAway_83 : decode cX2_takeAway 83 = .ok (.lload_n 1, 1) := by decide +kernel
theorem dX2_takeAway_84 : decode cX2_takeAway 84 = .ok (.lconst 1, 1) := by decide +kernel
theorem dX2_takeAway_85 : decode cX2_takeAway 85 = .ok (.lcmp, 1) := by decide +kernel
theorem dX2_takeAway_86 : decode cX2_takeAway 86 = .ok (.ifCond .ne 7, 3) := by decide +kernel
theorem dX2_takeAway_89 : decode cX2_takeAway 89 = .ok (.iconst 1, 1) := by decide +kernel
theorem dX2_takeAway_90 : decode cX2_takeAway 90 = .ok (.goto 4, 3) := by decide +kernel
theorem dX2_takeAway_93 : decode cX2_takeAway 93 = .ok (.iconst 0, 1) := by decide +kernel
theorem dX2_takeAway_94 : decode cX2_takeAway 94 = .ok (.istore_n 3, 1) := by decide +kernel
theorem dX2_takeAway_95 : decode cX2_takeAway 95 = .ok (.iinc 4 1, 3) := by decide +kernel
theorem dX2_takeAway_98 : decode cX2_takeAway 98 = .ok (.goto (-91), 3) := by decide +kernel
theorem dX2_takeAway_101 : decode cX2_takeAway 101 = .ok (.iload_n 3, 1) := by decide +kernel
theorem dX2_takeAway_102 : decode cX2_takeAway 102 = .ok (.ifCond .ne 18, 3) := by decide +kernel
theorem dX2_takeAway_105 : decode cX2_takeAway 105 = .ok (.aload_n 0, 1) := by decide +kernel
theorem dX2_takeAway_106 : decode cX2_takeAway 106 = .ok (.getfield 15, 3) := by decide +kernel
theorem dX2_takeAway_109 : decode cX2_takeAway 109 = .ok (.iconst 0, 1) := by decide +kernel
theorem dX2_takeAway_110 : decode cX2_takeAway 110 = .ok (.aload_n 0, 1) := by decide +kernel
theorem dX2_takeAway_111 : decode cX2_takeAway 111 = .ok (.getfield 9, 3) := by decide +kernel
theorem dX2_takeAway_114 : decode cX2_takeAway 114 = .ok (.iconst 0, 1) := by decide +kernel
theorem dX2_takeAway_115 : decode cX2_takeAway 115 = .ok (.bipush 16, 2) := by decide +kernel
theorem dX2_takeAway_117 : decode cX2_takeAway 117 = .ok (.invokestatic 18, 3) := by decide +kernel
theorem dX2_takeAway_120 : decode cX2_takeAway 120 = .ok (.return_, 1) := by decide +kernel
abbrev cX2_at : ByteArray := prog_2_method_11_code
def yX2_at : MethodName := ⟨RX2, "at", "(I)J"⟩
theorem dX2_at_0 : decode cX2_at 0 = .ok (.lconst 0, 1) := by decide +kernel
theorem dX2_at_1 : decode cX2_at 1 = .ok (.lstore_n 2, 1) := by decide +kernel
theorem dX2_at_2 : decode cX2_at 2 = .ok (.iconst 3, 1) := by decide +kernel
theorem dX2_at_3 : decode cX2_at 3 = .ok (.istore 4, 2) := by decide +kernel
theorem dX2_at_5 : decode cX2_at 5 = .ok (.iload 4, 2) := by decide +kernel
theorem dX2_at_7 : decode cX2_at 7 = .ok (.ifCond .lt 26, 3) := by decide +kernel
theorem dX2_at_10 : decode cX2_at 10 = .ok (.lload_n 2, 1) := by decide +kernel
theorem dX2_at_11 : decode cX2_at 11 = .ok (.bipush 16, 2) := by decide +kernel
theorem dX2_at_13 : decode cX2_at 13 = .ok (.lshl, 1) := by decide +kernel
theorem dX2_at_14 : decode cX2_at 14 = .ok (.aload_n 0, 1) := by decide +kernel
theorem dX2_at_15 : decode cX2_at 15 = .ok (.getfield 9, 3) := by decide +kernel
theorem dX2_at_18 : decode cX2_at 18 = .ok (.iconst 4, 1) := by decide +kernel
theorem dX2_at_19 : decode cX2_at 19 = .ok (.iload_n 1, 1) := by decide +kernel
theorem dX2_at_20 : decode cX2_at 20 = .ok (.imul, 1) := by decide +kernel
theorem dX2_at_21 : decode cX2_at 21 = .ok (.iload 4, 2) := by decide +kernel
theorem dX2_at_23 : decode cX2_at 23 = .ok (.iadd, 1) := by decide +kernel
theorem dX2_at_24 : decode cX2_at 24 = .ok (.laload, 1) := by decide +kernel
theorem dX2_at_25 : decode cX2_at 25 = .ok (.lor, 1) := by decide +kernel
theorem dX2_at_26 : decode cX2_at 26 = .ok (.lstore_n 2, 1) := by decide +kernel
theorem dX2_at_27 : decode cX2_at 27 = .ok (.iinc 4 (-1), 3) := by decide +kernel
theorem dX2_at_30 : decode cX2_at 30 = .ok (.goto (-25), 3) := by decide +kernel
theorem dX2_at_33 : decode cX2_at 33 = .ok (.lload_n 2, 1) := by decide +kernel
theorem dX2_at_34 : decode cX2_at 34 = .ok (.lreturn, 1) := by decide +kernel
abbrev cX2_isZero : ByteArray := prog_2_method_12_code
def yX2_isZero : MethodName := ⟨RX2, "isZero", "()Z"⟩
theorem dX2_isZero_0 : decode cX2_isZero 0 = .ok (.lconst 0, 1) := by decide +kernel
theorem dX2_isZero_1 : decode cX2_isZero 1 = .ok (.lstore_n 1, 1) := by decide +kernel
theorem dX2_isZero_2 : decode cX2_isZero 2 = .ok (.iconst 0, 1) := by decide +kernel
theorem dX2_isZero_3 : decode cX2_isZero 3 = .ok (.istore_n 3, 1) := by decide +kernel
theorem dX2_isZero_4 : decode cX2_isZero 4 = .ok (.iload_n 3, 1) := by decide +kernel
theorem dX2_isZero_5 : decode cX2_isZero 5 = .ok (.bipush 16, 2) := by decide +kernel
theorem dX2_isZero_7 : decode cX2_isZero 7 = .ok (.if_icmp .ge 18, 3) := by decide +kernel
theorem dX2_isZero_10 : decode cX2_isZero 10 = .ok (.lload_n 1, 1) := by decide +kernel
theorem dX2_isZero_11 : decode cX2_isZero 11 = .ok (.aload_n 0, 1) := by decide +kernel
theorem dX2_isZero_12 : decode cX2_isZero 12 = .ok (.getfield 9, 3) := by decide +kernel
theorem dX2_isZero_15 : decode cX2_isZero 15 = .ok (.iload_n 3, 1) := by decide +kernel
theorem dX2_isZero_16 : decode cX2_isZero 16 = .ok (.laload, 1) := by decide +kernel
theorem dX2_isZero_17 : decode cX2_isZero 17 = .ok (.lor, 1) := by decide +kernel
theorem dX2_isZero_18 : decode cX2_isZero 18 = .ok (.lstore_n 1, 1) := by decide +kernel
theorem dX2_isZero_19 : decode cX2_isZero 19 = .ok (.iinc 3 1, 3) := by decide +kernel
theorem dX2_isZero_22 : decode cX2_isZero 22 = .ok (.goto (-18), 3) := by decide +kernel
theorem dX2_isZero_25 : decode cX2_isZero 25 = .ok (.lload_n 1, 1) := by decide +kernel
theorem dX2_isZero_26 : decode cX2_isZero 26 = .ok (.lconst 0, 1) := by decide +kernel
theorem dX2_isZero_27 : decode cX2_isZero 27 = .ok (.lcmp, 1) := by decide +kernel
theorem dX2_isZero_28 : decode cX2_isZero 28 = .ok (.ifCond .ne 7, 3) := by decide +kernel
theorem dX2_isZero_31 : decode cX2_isZero 31 = .ok (.iconst 1, 1) := by decide +kernel
theorem dX2_isZero_32 : decode cX2_isZero 32 = .ok (.goto 4, 3) := by decide +kernel
theorem dX2_isZero_35 : decode cX2_isZero 35 = .ok (.iconst 0, 1) := by decide +kernel
theorem dX2_isZero_36 : decode cX2_isZero 36 = .ok (.ireturn, 1) := by decide +kernel
theorem q23 : (Jvm.Cond.initialized "LadderDesk$Number") ∈ lw_all := lw_g (lw_at lw_m1 3 rfl) rfl
theorem q46 : (Jvm.Cond.instantiable "LadderDesk$Number" (2 : Nat)) ∈ lw_all := lw_g (lw_at lw_m1 26 rfl) rfl
theorem q48 : (Jvm.Cond.instanceMethod ({ cls := "LadderDesk$Number", name := "<init>", desc := "()V" } : Jvm.MethodName)) ∈ lw_all := lw_g (lw_at lw_m1 28 rfl) rfl
theorem q49 : (Jvm.Cond.code ({ cls := "LadderDesk$Number", name := "<init>", desc := "()V" } : Jvm.MethodName) prog_2_method_1_code (1 : Nat) (Option.none : Option Jvm.ClassFile.FieldType)) ∈ lw_all := lw_g (lw_at lw_m1 29 rfl) rfl
theorem q50 : (Jvm.Cond.methodLink "LadderDesk$Number" (3 : Nat) ({ cls := "java/lang/Object", name := "<init>", desc := "()V" } : Jvm.MethodName)) ∈ lw_all := lw_g (lw_at lw_m1 30 rfl) rfl
theorem q51 : (Jvm.Cond.fieldLink "LadderDesk$Number" (9 : Nat) "LadderDesk$Number" "parts" "[J") ∈ lw_all := lw_g (lw_at lw_m1 31 rfl) rfl
theorem q54 : (Jvm.Cond.fieldLink "LadderDesk$Number" (15 : Nat) "LadderDesk$Number" "spare" "[J") ∈ lw_all := lw_g (lw_at lw_m1 34 rfl) rfl
theorem q55 : (Jvm.Cond.laysFinal "LadderDesk$Number" "LadderDesk$Number" "parts" "[J") ∈ lw_all := lw_g (lw_at lw_m1 35 rfl) rfl
theorem q56 : (Jvm.Cond.soleField "LadderDesk$Number" "parts") ∈ lw_all := lw_g (lw_at lw_m1 36 rfl) rfl
theorem q57 : (Jvm.Cond.laysFinal "LadderDesk$Number" "LadderDesk$Number" "spare" "[J") ∈ lw_all := lw_g (lw_at lw_m1 37 rfl) rfl
theorem q58 : (Jvm.Cond.soleField "LadderDesk$Number" "spare") ∈ lw_all := lw_g (lw_at lw_m1 38 rfl) rfl
theorem q59 : (Jvm.Cond.superclass "LadderDesk$Number" "java/lang/Object") ∈ lw_all := lw_g (lw_at lw_m1 39 rfl) rfl
theorem q62 : (Jvm.Cond.instanceMethod ({ cls := "LadderDesk$Number", name := "set", desc := "(I)V" } : Jvm.MethodName)) ∈ lw_all := lw_g (lw_at lw_m1 42 rfl) rfl
theorem q63 : (Jvm.Cond.selects "LadderDesk$Number" ({ cls := "LadderDesk$Number", name := "set", desc := "(I)V" } : Jvm.MethodName) ({ cls := "LadderDesk$Number", name := "set", desc := "(I)V" } : Jvm.MethodName)) ∈ lw_all := lw_g (lw_at lw_m1 43 rfl) rfl
theorem q64 : (Jvm.Cond.code ({ cls := "LadderDesk$Number", name := "set", desc := "(I)V" } : Jvm.MethodName) prog_2_method_2_code (3 : Nat) (Option.none : Option Jvm.ClassFile.FieldType)) ∈ lw_all := lw_g (lw_at lw_m1 44 rfl) rfl
theorem q139 : (Jvm.Cond.instanceMethod ({ cls := "LadderDesk$Number", name := "take", desc := "([J)V" } : Jvm.MethodName)) ∈ lw_all := lw_g (lw_at lw_m1 119 rfl) rfl
theorem q140 : (Jvm.Cond.selects "LadderDesk$Number" ({ cls := "LadderDesk$Number", name := "take", desc := "([J)V" } : Jvm.MethodName) ({ cls := "LadderDesk$Number", name := "take", desc := "([J)V" } : Jvm.MethodName)) ∈ lw_all := lw_g (lw_at lw_m1 120 rfl) rfl
theorem q141 : (Jvm.Cond.code ({ cls := "LadderDesk$Number", name := "take", desc := "([J)V" } : Jvm.MethodName) prog_2_method_4_code (3 : Nat) (Option.none : Option Jvm.ClassFile.FieldType)) ∈ lw_all := lw_g (lw_at lw_m1 121 rfl) rfl
theorem q142 : (Jvm.Cond.constantLong "LadderDesk$Number" (24 : Nat) (65535 : Int64)) ∈ lw_all := lw_g (lw_at lw_m1 122 rfl) rfl
theorem q143 : (Jvm.Cond.constantLong "LadderDesk$Number" (26 : Nat) (32767 : Int64)) ∈ lw_all := lw_g (lw_at lw_m1 123 rfl) rfl
theorem q145 : (Jvm.Cond.instanceMethod ({ cls := "LadderDesk$Number", name := "take", desc := "(LLadderDesk$Number;)V" } : Jvm.MethodName)) ∈ lw_all := lw_g (lw_at lw_m1 125 rfl) rfl
theorem q146 : (Jvm.Cond.selects "LadderDesk$Number" ({ cls := "LadderDesk$Number", name := "take", desc := "(LLadderDesk$Number;)V" } : Jvm.MethodName) ({ cls := "LadderDesk$Number", name := "take", desc := "(LLadderDesk$Number;)V" } : Jvm.MethodName)) ∈ lw_all := lw_g (lw_at lw_m1 126 rfl) rfl
theorem q147 : (Jvm.Cond.code ({ cls := "LadderDesk$Number", name := "take", desc := "(LLadderDesk$Number;)V" } : Jvm.MethodName) prog_2_method_3_code (2 : Nat) (Option.none : Option Jvm.ClassFile.FieldType)) ∈ lw_all := lw_g (lw_at lw_m1 127 rfl) rfl
theorem q148 : (Jvm.Cond.methodLink "LadderDesk$Number" (18 : Nat) ({ cls := "java/lang/System", name := "arraycopy", desc := "(Ljava/lang/Object;ILjava/lang/Object;II)V" } : Jvm.MethodName)) ∈ lw_all := lw_g (lw_at lw_m1 128 rfl) rfl
theorem q167 : (Jvm.Cond.instanceMethod ({ cls := "LadderDesk$Number", name := "change", desc := "(LLadderDesk$Number;J)V" } : Jvm.MethodName)) ∈ lw_all := lw_g (lw_at lw_m1 147 rfl) rfl
theorem q168 : (Jvm.Cond.selects "LadderDesk$Number" ({ cls := "LadderDesk$Number", name := "change", desc := "(LLadderDesk$Number;J)V" } : Jvm.MethodName) ({ cls := "LadderDesk$Number", name := "change", desc := "(LLadderDesk$Number;J)V" } : Jvm.MethodName)) ∈ lw_all := lw_g (lw_at lw_m1 148 rfl) rfl
theorem q169 : (Jvm.Cond.code ({ cls := "LadderDesk$Number", name := "change", desc := "(LLadderDesk$Number;J)V" } : Jvm.MethodName) prog_2_method_8_code (7 : Nat) (Option.none : Option Jvm.ClassFile.FieldType)) ∈ lw_all := lw_g (lw_at lw_m1 149 rfl) rfl
theorem q171 : (Jvm.Cond.instanceMethod ({ cls := "LadderDesk$Number", name := "add", desc := "(LLadderDesk$Number;LLadderDesk$Number;)V" } : Jvm.MethodName)) ∈ lw_all := lw_g (lw_at lw_m1 151 rfl) rfl
theorem q172 : (Jvm.Cond.selects "LadderDesk$Number" ({ cls := "LadderDesk$Number", name := "add", desc := "(LLadderDesk$Number;LLadderDesk$Number;)V" } : Jvm.MethodName) ({ cls := "LadderDesk$Number", name := "add", desc := "(LLadderDesk$Number;LLadderDesk$Number;)V" } : Jvm.MethodName)) ∈ lw_all := lw_g (lw_at lw_m1 152 rfl) rfl
theorem q173 : (Jvm.Cond.code ({ cls := "LadderDesk$Number", name := "add", desc := "(LLadderDesk$Number;LLadderDesk$Number;)V" } : Jvm.MethodName) prog_2_method_6_code (4 : Nat) (Option.none : Option Jvm.ClassFile.FieldType)) ∈ lw_all := lw_g (lw_at lw_m1 153 rfl) rfl
theorem q175 : (Jvm.Cond.instanceMethod ({ cls := "LadderDesk$Number", name := "subtract", desc := "(LLadderDesk$Number;LLadderDesk$Number;)V" } : Jvm.MethodName)) ∈ lw_all := lw_g (lw_at lw_m1 155 rfl) rfl
theorem q176 : (Jvm.Cond.selects "LadderDesk$Number" ({ cls := "LadderDesk$Number", name := "subtract", desc := "(LLadderDesk$Number;LLadderDesk$Number;)V" } : Jvm.MethodName) ({ cls := "LadderDesk$Number", name := "subtract", desc := "(LLadderDesk$Number;LLadderDesk$Number;)V" } : Jvm.MethodName)) ∈ lw_all := lw_g (lw_at lw_m1 156 rfl) rfl
theorem q177 : (Jvm.Cond.code ({ cls := "LadderDesk$Number", name := "subtract", desc := "(LLadderDesk$Number;LLadderDesk$Number;)V" } : Jvm.MethodName) prog_2_method_7_code (4 : Nat) (Option.none : Option Jvm.ClassFile.FieldType)) ∈ lw_all := lw_g (lw_at lw_m1 157 rfl) rfl
theorem q185 : (Jvm.Cond.instanceMethod ({ cls := "LadderDesk$Number", name := "carry", desc := "()V" } : Jvm.MethodName)) ∈ lw_all := lw_g (lw_at lw_m1 165 rfl) rfl
theorem q186 : (Jvm.Cond.selects "LadderDesk$Number" ({ cls := "LadderDesk$Number", name := "carry", desc := "()V" } : Jvm.MethodName) ({ cls := "LadderDesk$Number", name := "carry", desc := "()V" } : Jvm.MethodName)) ∈ lw_all := lw_g (lw_at lw_m1 166 rfl) rfl
theorem q187 : (Jvm.Cond.code ({ cls := "LadderDesk$Number", name := "carry", desc := "()V" } : Jvm.MethodName) prog_2_method_5_code (4 : Nat) (Option.none : Option Jvm.ClassFile.FieldType)) ∈ lw_all := lw_g (lw_at lw_m1 167 rfl) rfl
theorem q188 : (Jvm.Cond.constantLong "LadderDesk$Number" (28 : Nat) (38 : Int64)) ∈ lw_all := lw_g (lw_at lw_m1 168 rfl) rfl
theorem q200 : (Jvm.Cond.instanceMethod ({ cls := "LadderDesk$Number", name := "close", desc := "()V" } : Jvm.MethodName)) ∈ lw_all := lw_g (lw_at lw_m1 180 rfl) rfl
theorem q201 : (Jvm.Cond.selects "LadderDesk$Number" ({ cls := "LadderDesk$Number", name := "close", desc := "()V" } : Jvm.MethodName) ({ cls := "LadderDesk$Number", name := "close", desc := "()V" } : Jvm.MethodName)) ∈ lw_all := lw_g (lw_at lw_m1 181 rfl) rfl
theorem q202 : (Jvm.Cond.code ({ cls := "LadderDesk$Number", name := "close", desc := "()V" } : Jvm.MethodName) prog_2_method_9_code (2 : Nat) (Option.none : Option Jvm.ClassFile.FieldType)) ∈ lw_all := lw_g (lw_at lw_m1 182 rfl) rfl
theorem q203 : (Jvm.Cond.methodLink "LadderDesk$Number" (30 : Nat) ({ cls := "LadderDesk$Number", name := "carry", desc := "()V" } : Jvm.MethodName)) ∈ lw_all := lw_g (lw_at lw_m1 183 rfl) rfl
theorem q204 : (Jvm.Cond.methodLink "LadderDesk$Number" (33 : Nat) ({ cls := "LadderDesk$Number", name := "takeAway", desc := "()V" } : Jvm.MethodName)) ∈ lw_all := lw_g (lw_at lw_m1 184 rfl) rfl
theorem q205 : (Jvm.Cond.privateMethod ({ cls := "LadderDesk$Number", name := "takeAway", desc := "()V" } : Jvm.MethodName)) ∈ lw_tbl := lw_at lw_m1 185 rfl
theorem q206 : (Jvm.Cond.instanceMethod ({ cls := "LadderDesk$Number", name := "takeAway", desc := "()V" } : Jvm.MethodName)) ∈ lw_all := lw_g (lw_at lw_m1 186 rfl) rfl
theorem q207 : (Jvm.Cond.code ({ cls := "LadderDesk$Number", name := "takeAway", desc := "()V" } : Jvm.MethodName) prog_2_method_10_code (9 : Nat) (Option.none : Option Jvm.ClassFile.FieldType)) ∈ lw_all := lw_g (lw_at lw_m1 187 rfl) rfl
theorem q208 : (Jvm.Cond.constantLong "LadderDesk$Number" (36 : Nat) (65517 : Int64)) ∈ lw_all := lw_g (lw_at lw_m1 188 rfl) rfl
theorem q214 : (Jvm.Cond.instanceMethod ({ cls := "LadderDesk$Number", name := "at", desc := "(I)J" } : Jvm.MethodName)) ∈ lw_all := lw_g (lw_at lw_m1 194 rfl) rfl
theorem q215 : (Jvm.Cond.selects "LadderDesk$Number" ({ cls := "LadderDesk$Number", name := "at", desc := "(I)J" } : Jvm.MethodName) ({ cls := "LadderDesk$Number", name := "at", desc := "(I)J" } : Jvm.MethodName)) ∈ lw_all := lw_g (lw_at lw_m1 195 rfl) rfl
theorem q216 : (Jvm.Cond.code ({ cls := "LadderDesk$Number", name := "at", desc := "(I)J" } : Jvm.MethodName) prog_2_method_11_code (5 : Nat) (Option.some Jvm.ClassFile.FieldType.long)) ∈ lw_all := lw_g (lw_at lw_m1 196 rfl) rfl
theorem q250 : (Jvm.Cond.instanceMethod ({ cls := "LadderDesk$Number", name := "isZero", desc := "()Z" } : Jvm.MethodName)) ∈ lw_all := lw_g (lw_at lw_m1 230 rfl) rfl
theorem q251 : (Jvm.Cond.selects "LadderDesk$Number" ({ cls := "LadderDesk$Number", name := "isZero", desc := "()Z" } : Jvm.MethodName) ({ cls := "LadderDesk$Number", name := "isZero", desc := "()Z" } : Jvm.MethodName)) ∈ lw_all := lw_g (lw_at lw_m1 231 rfl) rfl
theorem q252 : (Jvm.Cond.code ({ cls := "LadderDesk$Number", name := "isZero", desc := "()Z" } : Jvm.MethodName) prog_2_method_12_code (4 : Nat) (Option.some Jvm.ClassFile.FieldType.boolean)) ∈ lw_all := lw_g (lw_at lw_m1 232 rfl) rfl
theorem in_X2 : ∀ w ∈ wsX20, w ∈ lw_all := lw_in wsX20 [55, 57] (by decide +kernel) (by decide +kernel)
/-! LadderDesk$Products -/
set_option maxRecDepth 100000
def RX1 : String := "LadderDesk$Products"
def TX1 : u_T := fun k => match k with
  | _ => ("LadderDesk$Products", "rows", "[J", true)
def tyX1 : Nat → FieldType := fun k => match k with
  | _ => .array .long
abbrev wsX10 : List Cond := u_ws RX1 TX1 1
theorem nmX1 : ∀ a, a < 1 → ∀ b, b < 1 → a ≠ b → (TX1 a).2.1 ≠ (TX1 b).2.1 := by decide +kernel
theorem tyX1_ok : ∀ k, k < 1 → parseFieldDescriptor (TX1 k).2.2.1 = some (tyX1 k) := by decide +kernel
abbrev cX1_init : ByteArray := prog_3_method_1_code
def yX1_init : MethodName := ⟨RX1, "<init>", "()V"⟩
theorem dX1_init_0 : decode cX1_init 0 = .ok (.aload_n 0, 1) := by decide +kernel
theorem dX1_init_1 : decode cX1_init 1 = .ok (.invokespecial 3, 3) := by decide +kernel
theorem dX1_init_4 : decode cX1_init 4 = .ok (.aload_n 0, 1) := by decide +kernel
theorem dX1_init_5 : decode cX1_init 5 = .ok (.bipush 31, 2) := by decide +kernel
theorem dX1_init_7 : decode cX1_init 7 = .ok (.newarray .long, 2) := by decide +kernel
theorem dX1_init_9 : decode cX1_init 9 = .ok (.putfield 9, 3) := by decide +kernel
theorem dX1_init_12 : decode cX1_init 12 = .ok (.return_, 1) := by decide +kernel
abbrev cX1_multiply : ByteArray := prog_3_method_2_code
def yX1_multiply : MethodName := ⟨RX1, "multiply", "(LLadderDesk$Number;LLadderDesk$Number;LLadderDesk$Number;)V"⟩
theorem dX1_multiply_0 : decode cX1_multiply 0 = .ok (.iconst 0, 1) := by decide +kernel
theorem dX1_multiply_1 : decode cX1_multiply 1 = .ok (.istore 4, 2) := by decide +kernel
theorem dX1_multiply_3 : decode cX1_multiply 3 = .ok (.iload 4, 2) := by decide +kernel
theorem dX1_multiply_5 : decode cX1_multiply 5 = .ok (.bipush 31, 2) := by decide +kernel
theorem dX1_multiply_7 : decode cX1_multiply 7 = .ok (.if_icmp .ge 17, 3) := by decide +kernel
theorem dX1_multiply_10 : decode cX1_multiply 10 = .ok (.aload_n 0, 1) := by decide +kernel
theorem dX1_multiply_11 : decode cX1_multiply 11 = .ok (.getfield 9, 3) := by decide +kernel
theorem dX1_multiply_14 : decode cX1_multiply 14 = .ok (.iload 4, 2) := by decide +kernel
theorem dX1_multiply_16 : decode cX1_multiply 16 = .ok (.lconst 0, 1) := by decide +kernel
theorem dX1_multiply_17 : decode cX1_multiply 17 = .ok (.lastore, 1) := by decide +kernel
theorem dX1_multiply_18 : decode cX1_multiply 18 = .ok (.iinc 4 1, 3) := by decide +kernel
theorem dX1_multiply_21 : decode cX1_multiply 21 = .ok (.goto (-18), 3) := by decide +kernel
theorem dX1_multiply_24 : decode cX1_multiply 24 = .ok (.iconst 0, 1) := by decide +kernel
theorem dX1_multiply_25 : decode cX1_multiply 25 = .ok (.istore 4, 2) := by decide +kernel
theorem dX1_multiply_27 : decode cX1_multiply 27 = .ok (.iload 4, 2) := by decide +kernel
theorem dX1_multiply_29 : decode cX1_multiply 29 = .ok (.bipush 16, 2) := by decide +kernel
theorem dX1_multiply_31 : decode cX1_multiply 31 = .ok (.if_icmp .ge 53, 3) := by decide +kernel
theorem dX1_multiply_34 : decode cX1_multiply 34 = .ok (.iconst 0, 1) := by decide +kernel
theorem dX1_multiply_35 : decode cX1_multiply 35 = .ok (.istore 5, 2) := by decide +kernel
theorem dX1_multiply_37 : decode cX1_multiply 37 = .ok (.iload 5, 2) := by decide +kernel
theorem dX1_multiply_39 : decode cX1_multiply 39 = .ok (.bipush 16, 2) := by decide +kernel
theorem dX1_multiply_41 : decode cX1_multiply 41 = .ok (.if_icmp .ge 37, 3) := by decide +kernel
theorem dX1_multiply_44 : decode cX1_multiply 44 = .ok (.aload_n 0, 1) := by decide +kernel
theorem dX1_multiply_45 : decode cX1_multiply 45 = .ok (.getfield 9, 3) := by decide +kernel
theorem dX1_multiply_48 : decode cX1_multiply 48 = .ok (.iload 4, 2) := by decide +kernel
theorem dX1_multiply_50 : decode cX1_multiply 50 = .ok (.iload 5, 2) := by decide +kernel
theorem dX1_multiply_52 : decode cX1_multiply 52 = .ok (.iadd, 1) := by decide +kernel
theorem dX1_multiply_53 : decode cX1_multiply 53 = .ok (.dup2, 1) := by decide +kernel
theorem dX1_multiply_54 : decode cX1_multiply 54 = .ok (.laload, 1) := by decide +kernel
theorem dX1_multiply_55 : decode cX1_multiply 55 = .ok (.aload_n 1, 1) := by decide +kernel
theorem dX1_multiply_56 : decode cX1_multiply 56 = .ok (.getfield 15, 3) := by decide +kernel
theorem dX1_multiply_59 : decode cX1_multiply 59 = .ok (.iload 4, 2) := by decide +kernel
theorem dX1_multiply_61 : decode cX1_multiply 61 = .ok (.laload, 1) := by decide +kernel
theorem dX1_multiply_62 : decode cX1_multiply 62 = .ok (.aload_n 2, 1) := by decide +kernel
theorem dX1_multiply_63 : decode cX1_multiply 63 = .ok (.getfield 15, 3) := by decide +kernel
theorem dX1_multiply_66 : decode cX1_multiply 66 = .ok (.iload 5, 2) := by decide +kernel
theorem dX1_multiply_68 : decode cX1_multiply 68 = .ok (.laload, 1) := by decide +kernel
theorem dX1_multiply_69 : decode cX1_multiply 69 = .ok (.lmul, 1) := by decide +kernel
theorem dX1_multiply_70 : decode cX1_multiply 70 = .ok (.ladd, 1) := by decide +kernel
theorem dX1_multiply_71 : decode cX1_multiply 71 = .ok (.lastore, 1) := by decide +kernel
theorem dX1_multiply_72 : decode cX1_multiply 72 = .ok (.iinc 5 1, 3) := by decide +kernel
theorem dX1_multiply_75 : decode cX1_multiply 75 = .ok (.goto (-38), 3) := by decide +kernel
theorem dX1_multiply_78 : decode cX1_multiply 78 = .ok (.iinc 4 1, 3) := by decide +kernel
theorem dX1_multiply_81 : decode cX1_multiply 81 = .ok (.goto (-54), 3) := by decide +kernel
theorem dX1_multiply_84 : decode cX1_multiply 84 = .ok (.iconst 0, 1) := by decide +kernel
theorem dX1_multiply_85 : decode cX1_multiply 85 = .ok (.istore 4, 2) := by decide +kernel
theorem dX1_multiply_87 : decode cX1_multiply 87 = .ok (.iload 4, 2) := by decide +kernel
theorem dX1_multiply_89 : decode cX1_multiply 89 = .ok (.bipush 15, 2) := by decide +kernel
theorem dX1_multiply_91 : decode cX1_multiply 91 = .ok (.if_icmp .ge 33, 3) := by decide +kernel
theorem dX1_multiply_94 : decode cX1_multiply 94 = .ok (.aload_n 0, 1) := by decide +kernel
theorem dX1_multiply_95 : decode cX1_multiply 95 = .ok (.getfield 9, 3) := by decide +kernel
theorem dX1_multiply_98 : decode cX1_multiply 98 = .ok (.iload 4, 2) := by decide +kernel
theorem dX1_multiply_100 : decode cX1_multiply 100 = .ok (.dup2, 1) := by decide +kernel
theorem dX1_multiply_101 : decode cX1_multiply 101 = .ok (.laload, 1) := by decide +kernel
theorem dX1_multiply_102 : decode cX1_multiply 102 = .ok (.ldc2_w 20, 3) := by decide +kernel
theorem dX1_multiply_105 : decode cX1_multiply 105 = .ok (.aload_n 0, 1) := by decide +kernel
theorem dX1_multiply_106 : decode cX1_multiply 106 = .ok (.getfield 9, 3) := by decide +kernel
theorem dX1_multiply_109 : decode cX1_multiply 109 = .ok (.iload 4, 2) := by decide +kernel
theorem dX1_multiply_111 : decode cX1_multiply 111 = .ok (.bipush 16, 2) := by decide +kernel
theorem dX1_multiply_113 : decode cX1_multiply 113 = .ok (.iadd, 1) := by decide +kernel
theorem dX1_multiply_114 : decode cX1_multiply 114 = .ok (.laload, 1) := by decide +kernel
theorem dX1_multiply_115 : decode cX1_multiply 115 = .ok (.lmul, 1) := by decide +kernel
theorem dX1_multiply_116 : decode cX1_multiply 116 = .ok (.ladd, 1) := by decide +kernel
theorem dX1_multiply_117 : decode cX1_multiply 117 = .ok (.lastore, 1) := by decide +kernel
theorem dX1_multiply_118 : decode cX1_multiply 118 = .ok (.iinc 4 1, 3) := by decide +kernel
theorem dX1_multiply_121 : decode cX1_multiply 121 = .ok (.goto (-34), 3) := by decide +kernel
theorem dX1_multiply_124 : decode cX1_multiply 124 = .ok (.aload_n 0, 1) := by decide +kernel
theorem dX1_multiply_125 : decode cX1_multiply 125 = .ok (.getfield 9, 3) := by decide +kernel
theorem dX1_multiply_128 : decode cX1_multiply 128 = .ok (.iconst 0, 1) := by decide +kernel
theorem dX1_multiply_129 : decode cX1_multiply 129 = .ok (.aload_n 3, 1) := by decide +kernel
theorem dX1_multiply_130 : decode cX1_multiply 130 = .ok (.getfield 15, 3) := by decide +kernel
theorem dX1_multiply_133 : decode cX1_multiply 133 = .ok (.iconst 0, 1) := by decide +kernel
theorem dX1_multiply_134 : decode cX1_multiply 134 = .ok (.bipush 16, 2) := by decide +kernel
theorem dX1_multiply_136 : decode cX1_multiply 136 = .ok (.invokestatic 22, 3) := by decide +kernel
theorem dX1_multiply_139 : decode cX1_multiply 139 = .ok (.aload_n 3, 1) := by decide +kernel
theorem dX1_multiply_140 : decode cX1_multiply 140 = .ok (.invokevirtual 28, 3) := by decide +kernel
theorem dX1_multiply_143 : decode cX1_multiply 143 = .ok (.aload_n 3, 1) := by decide +kernel
theorem dX1_multiply_144 : decode cX1_multiply 144 = .ok (.invokevirtual 28, 3) := by decide +kernel
theorem dX1_multiply_147 : decode cX1_multiply 147 = .ok (.return_, 1) := by decide +kernel
abbrev cX1_invert : ByteArray := prog_3_method_3_code
def yX1_invert : MethodName := ⟨RX1, "invert", "(LLadderDesk$Number;LLadderDesk$Number;LLadderDesk$Number;)V"⟩
theorem dX1_invert_0 : decode cX1_invert 0 = .ok (.aload_n 3, 1) := by decide +kernel
theorem dX1_invert_1 : decode cX1_invert 1 = .ok (.aload_n 1, 1) := by decide +kernel
theorem dX1_invert_2 : decode cX1_invert 2 = .ok (.invokevirtual 31, 3) := by decide +kernel
theorem dX1_invert_5 : decode cX1_invert 5 = .ok (.sipush 253, 3) := by decide +kernel
theorem dX1_invert_8 : decode cX1_invert 8 = .ok (.istore 4, 2) := by decide +kernel
theorem dX1_invert_10 : decode cX1_invert 10 = .ok (.iload 4, 2) := by decide +kernel
theorem dX1_invert_12 : decode cX1_invert 12 = .ok (.ifCond .lt 35, 3) := by decide +kernel
theorem dX1_invert_15 : decode cX1_invert 15 = .ok (.aload_n 0, 1) := by decide +kernel
theorem dX1_invert_16 : decode cX1_invert 16 = .ok (.aload_n 3, 1) := by decide +kernel
theorem dX1_invert_17 : decode cX1_invert 17 = .ok (.aload_n 3, 1) := by decide +kernel
theorem dX1_invert_18 : decode cX1_invert 18 = .ok (.aload_n 3, 1) := by decide +kernel
theorem dX1_invert_19 : decode cX1_invert 19 = .ok (.invokevirtual 35, 3) := by decide +kernel
theorem dX1_invert_22 : decode cX1_invert 22 = .ok (.iload 4, 2) := by decide +kernel
theorem dX1_invert_24 : decode cX1_invert 24 = .ok (.iconst 2, 1) := by decide +kernel
theorem dX1_invert_25 : decode cX1_invert 25 = .ok (.if_icmp .eq 16, 3) := by decide +kernel
theorem dX1_invert_28 : decode cX1_invert 28 = .ok (.iload 4, 2) := by decide +kernel
theorem dX1_invert_30 : decode cX1_invert 30 = .ok (.iconst 4, 1) := by decide +kernel
theorem dX1_invert_31 : decode cX1_invert 31 = .ok (.if_icmp .eq 10, 3) := by decide +kernel
theorem dX1_invert_34 : decode cX1_invert 34 = .ok (.aload_n 0, 1) := by decide +kernel
theorem dX1_invert_35 : decode cX1_invert 35 = .ok (.aload_n 3, 1) := by decide +kernel
theorem dX1_invert_36 : decode cX1_invert 36 = .ok (.aload_n 1, 1) := by decide +kernel
theorem dX1_invert_37 : decode cX1_invert 37 = .ok (.aload_n 3, 1) := by decide +kernel
theorem dX1_invert_38 : decode cX1_invert 38 = .ok (.invokevirtual 35, 3) := by decide +kernel
theorem dX1_invert_41 : decode cX1_invert 41 = .ok (.iinc 4 (-1), 3) := by decide +kernel
theorem dX1_invert_44 : decode cX1_invert 44 = .ok (.goto (-34), 3) := by decide +kernel
theorem dX1_invert_47 : decode cX1_invert 47 = .ok (.aload_n 2, 1) := by decide +kernel
theorem dX1_invert_48 : decode cX1_invert 48 = .ok (.aload_n 3, 1) := by decide +kernel
theorem dX1_invert_49 : decode cX1_invert 49 = .ok (.invokevirtual 31, 3) := by decide +kernel
theorem dX1_invert_52 : decode cX1_invert 52 = .ok (.return_, 1) := by decide +kernel
theorem q22 : (Jvm.Cond.initialized "LadderDesk$Products") ∈ lw_all := lw_g (lw_at lw_m1 2 rfl) rfl
theorem q35 : (Jvm.Cond.instantiable "LadderDesk$Products" (1 : Nat)) ∈ lw_all := lw_g (lw_at lw_m1 15 rfl) rfl
theorem q37 : (Jvm.Cond.instanceMethod ({ cls := "LadderDesk$Products", name := "<init>", desc := "()V" } : Jvm.MethodName)) ∈ lw_all := lw_g (lw_at lw_m1 17 rfl) rfl
theorem q38 : (Jvm.Cond.code ({ cls := "LadderDesk$Products", name := "<init>", desc := "()V" } : Jvm.MethodName) prog_3_method_1_code (1 : Nat) (Option.none : Option Jvm.ClassFile.FieldType)) ∈ lw_all := lw_g (lw_at lw_m1 18 rfl) rfl
theorem q39 : (Jvm.Cond.methodLink "LadderDesk$Products" (3 : Nat) ({ cls := "java/lang/Object", name := "<init>", desc := "()V" } : Jvm.MethodName)) ∈ lw_all := lw_g (lw_at lw_m1 19 rfl) rfl
theorem q40 : (Jvm.Cond.fieldLink "LadderDesk$Products" (9 : Nat) "LadderDesk$Products" "rows" "[J") ∈ lw_all := lw_g (lw_at lw_m1 20 rfl) rfl
theorem q41 : (Jvm.Cond.laysFinal "LadderDesk$Products" "LadderDesk$Products" "rows" "[J") ∈ lw_all := lw_g (lw_at lw_m1 21 rfl) rfl
theorem q42 : (Jvm.Cond.soleField "LadderDesk$Products" "rows") ∈ lw_all := lw_g (lw_at lw_m1 22 rfl) rfl
theorem q43 : (Jvm.Cond.superclass "LadderDesk$Products" "java/lang/Object") ∈ lw_all := lw_g (lw_at lw_m1 23 rfl) rfl
theorem q53 : (Jvm.Cond.fieldLinkNest "LadderDesk$Products" (15 : Nat) "LadderDesk$Number" "parts" "[J" "LadderDesk") ∈ lw_tbl := lw_at lw_m1 33 rfl
theorem q179 : (Jvm.Cond.instanceMethod ({ cls := "LadderDesk$Products", name := "multiply", desc := "(LLadderDesk$Number;LLadderDesk$Number;LLadderDesk$Number;)V" } : Jvm.MethodName)) ∈ lw_all := lw_g (lw_at lw_m1 159 rfl) rfl
theorem q180 : (Jvm.Cond.selects "LadderDesk$Products" ({ cls := "LadderDesk$Products", name := "multiply", desc := "(LLadderDesk$Number;LLadderDesk$Number;LLadderDesk$Number;)V" } : Jvm.MethodName) ({ cls := "LadderDesk$Products", name := "multiply", desc := "(LLadderDesk$Number;LLadderDesk$Number;LLadderDesk$Number;)V" } : Jvm.MethodName)) ∈ lw_all := lw_g (lw_at lw_m1 160 rfl) rfl
theorem q181 : (Jvm.Cond.code ({ cls := "LadderDesk$Products", name := "multiply", desc := "(LLadderDesk$Number;LLadderDesk$Number;LLadderDesk$Number;)V" } : Jvm.MethodName) prog_3_method_2_code (6 : Nat) (Option.none : Option Jvm.ClassFile.FieldType)) ∈ lw_all := lw_g (lw_at lw_m1 161 rfl) rfl
theorem q182 : (Jvm.Cond.constantLong "LadderDesk$Products" (20 : Nat) (38 : Int64)) ∈ lw_all := lw_g (lw_at lw_m1 162 rfl) rfl
theorem q183 : (Jvm.Cond.methodLink "LadderDesk$Products" (22 : Nat) ({ cls := "java/lang/System", name := "arraycopy", desc := "(Ljava/lang/Object;ILjava/lang/Object;II)V" } : Jvm.MethodName)) ∈ lw_all := lw_g (lw_at lw_m1 163 rfl) rfl
theorem q184 : (Jvm.Cond.methodLink "LadderDesk$Products" (28 : Nat) ({ cls := "LadderDesk$Number", name := "carry", desc := "()V" } : Jvm.MethodName)) ∈ lw_all := lw_g (lw_at lw_m1 164 rfl) rfl
theorem q194 : (Jvm.Cond.instanceMethod ({ cls := "LadderDesk$Products", name := "invert", desc := "(LLadderDesk$Number;LLadderDesk$Number;LLadderDesk$Number;)V" } : Jvm.MethodName)) ∈ lw_all := lw_g (lw_at lw_m1 174 rfl) rfl
theorem q195 : (Jvm.Cond.selects "LadderDesk$Products" ({ cls := "LadderDesk$Products", name := "invert", desc := "(LLadderDesk$Number;LLadderDesk$Number;LLadderDesk$Number;)V" } : Jvm.MethodName) ({ cls := "LadderDesk$Products", name := "invert", desc := "(LLadderDesk$Number;LLadderDesk$Number;LLadderDesk$Number;)V" } : Jvm.MethodName)) ∈ lw_all := lw_g (lw_at lw_m1 175 rfl) rfl
theorem q196 : (Jvm.Cond.code ({ cls := "LadderDesk$Products", name := "invert", desc := "(LLadderDesk$Number;LLadderDesk$Number;LLadderDesk$Number;)V" } : Jvm.MethodName) prog_3_method_3_code (5 : Nat) (Option.none : Option Jvm.ClassFile.FieldType)) ∈ lw_all := lw_g (lw_at lw_m1 176 rfl) rfl
theorem q197 : (Jvm.Cond.methodLink "LadderDesk$Products" (31 : Nat) ({ cls := "LadderDesk$Number", name := "take", desc := "(LLadderDesk$Number;)V" } : Jvm.MethodName)) ∈ lw_all := lw_g (lw_at lw_m1 177 rfl) rfl
theorem q198 : (Jvm.Cond.methodLink "LadderDesk$Products" (35 : Nat) ({ cls := "LadderDesk$Products", name := "multiply", desc := "(LLadderDesk$Number;LLadderDesk$Number;LLadderDesk$Number;)V" } : Jvm.MethodName)) ∈ lw_all := lw_g (lw_at lw_m1 178 rfl) rfl
theorem in_X1 : ∀ w ∈ wsX10, w ∈ lw_all := lw_in wsX10 [41] (by decide +kernel) (by decide +kernel)
end
section
/-! LadderDesk -/
set_option maxRecDepth 100000
def RX0 : String := "LadderDesk"
def TX0 : u_T := fun k => match k with
  | 0 => ("LadderDesk", "scalar", "[J", true)
  | 1 => ("LadderDesk", "point", "[J", true)
  | 2 => ("LadderDesk", "phase", "I", false)
  | 3 => ("LadderDesk", "made", "I", false)
  | 4 => ("LadderDesk", "results", "I", false)
  | 5 => ("LadderDesk", "products", "LLadderDesk$Products;", true)
  | 6 => ("LadderDesk", "u", "LLadderDesk$Number;", true)
  | 7 => ("LadderDesk", "x2", "LLadderDesk$Number;", true)
  | 8 => ("LadderDesk", "z2", "LLadderDesk$Number;", true)
  | 9 => ("LadderDesk", "x3", "LLadderDesk$Number;", true)
  | 10 => ("LadderDesk", "z3", "LLadderDesk$Number;", true)
  | 11 => ("LadderDesk", "a", "LLadderDesk$Number;", true)
  | 12 => ("LadderDesk", "b", "LLadderDesk$Number;", true)
  | 13 => ("LadderDesk", "c", "LLadderDesk$Number;", true)
  | 14 => ("LadderDesk", "d", "LLadderDesk$Number;", true)
  | 15 => ("LadderDesk", "e", "LLadderDesk$Number;", true)
  | 16 => ("LadderDesk", "small", "LLadderDesk$Number;", true)
  | 17 => ("LadderDesk", "result", "LLadderDesk$Number;", true)
  | _ => ("LadderDesk", "shown", "LLadderDesk$Number;", true)
def tyX0 : Nat → FieldType := fun k => match k with
  | 0 => .array .long
  | 1 => .array .long
  | 2 => .int
  | 3 => .int
  | 4 => .int
  | 5 => .object "LadderDesk$Products"
  | 6 => .object "LadderDesk$Number"
  | 7 => .object "LadderDesk$Number"
  | 8 => .object "LadderDesk$Number"
  | 9 => .object "LadderDesk$Number"
  | 10 => .object "LadderDesk$Number"
  | 11 => .object "LadderDesk$Number"
  | 12 => .object "LadderDesk$Number"
  | 13 => .object "LadderDesk$Number"
  | 14 => .object "LadderDesk$Number"
  | 15 => .object "LadderDesk$Number"
  | 16 => .object "LadderDesk$Number"
  | 17 => .object "LadderDesk$Number"
  | _ => .object "LadderDesk$Number"
abbrev wsX00 : List Cond := u_ws RX0 TX0 19
set_option maxRecDepth 100000 in
theorem nmX0 : ∀ a, a < 19 → ∀ b, b < 19 → a ≠ b → (TX0 a).2.1 ≠ (TX0 b).2.1 := by decide +kernel
set_option maxRecDepth 100000 in
theorem tyX0_ok : ∀ k, k < 19 → parseFieldDescriptor (TX0 k).2.2.1 = some (tyX0 k) := by decide +kernel
abbrev cX0_init : ByteArray := prog_1_method_1_code
def yX0_init : MethodName := ⟨RX0, "<init>", "()V"⟩
theorem dX0_init_0 : decode cX0_init 0 = .ok (.aload_n 0, 1) := by decide +kernel
theorem dX0_init_1 : decode cX0_init 1 = .ok (.invokespecial 1, 3) := by decide +kernel
theorem dX0_init_4 : decode cX0_init 4 = .ok (.aload_n 0, 1) := by decide +kernel
theorem dX0_init_5 : decode cX0_init 5 = .ok (.iconst 4, 1) := by decide +kernel
theorem dX0_init_6 : decode cX0_init 6 = .ok (.newarray .long, 2) := by decide +kernel
theorem dX0_init_8 : decode cX0_init 8 = .ok (.putfield 7, 3) := by decide +kernel
theorem dX0_init_11 : decode cX0_init 11 = .ok (.aload_n 0, 1) := by decide +kernel
theorem dX0_init_12 : decode cX0_init 12 = .ok (.iconst 4, 1) := by decide +kernel
theorem dX0_init_13 : decode cX0_init 13 = .ok (.newarray .long, 2) := by decide +kernel
theorem dX0_init_15 : decode cX0_init 15 = .ok (.putfield 13, 3) := by decide +kernel
theorem dX0_init_18 : decode cX0_init 18 = .ok (.aload_n 0, 1) := by decide +kernel
theorem dX0_init_19 : decode cX0_init 19 = .ok (.new 16, 3) := by decide +kernel
theorem dX0_init_22 : decode cX0_init 22 = .ok (.dup, 1) := by decide +kernel
theorem dX0_init_23 : decode cX0_init 23 = .ok (.invokespecial 18, 3) := by decide +kernel
theorem dX0_init_26 : decode cX0_init 26 = .ok (.putfield 19, 3) := by decide +kernel
theorem dX0_init_29 : decode cX0_init 29 = .ok (.aload_n 0, 1) := by decide +kernel
theorem dX0_init_30 : decode cX0_init 30 = .ok (.new 23, 3) := by decide +kernel
theorem dX0_init_33 : decode cX0_init 33 = .ok (.dup, 1) := by decide +kernel
theorem dX0_init_34 : decode cX0_init 34 = .ok (.invokespecial 25, 3) := by decide +kernel
theorem dX0_init_37 : decode cX0_init 37 = .ok (.putfield 26, 3) := by decide +kernel
theorem dX0_init_40 : decode cX0_init 40 = .ok (.aload_n 0, 1) := by decide +kernel
theorem dX0_init_41 : decode cX0_init 41 = .ok (.new 23, 3) := by decide +kernel
theorem dX0_init_44 : decode cX0_init 44 = .ok (.dup, 1) := by decide +kernel
theorem dX0_init_45 : decode cX0_init 45 = .ok (.invokespecial 25, 3) := by decide +kernel
theorem dX0_init_48 : decode cX0_init 48 = .ok (.putfield 30, 3) := by decide +kernel
theorem dX0_init_51 : decode cX0_init 51 = .ok (.aload_n 0, 1) := by decide +kernel
theorem dX0_init_52 : decode cX0_init 52 = .ok (.new 23, 3) := by decide +kernel
theorem dX0_init_55 : decode cX0_init 55 = .ok (.dup, 1) := by decide +kernel
theorem dX0_init_56 : decode cX0_init 56 = .ok (.invokespecial 25, 3) := by decide +kernel
theorem dX0_init_59 : decode cX0_init 59 = .ok (.putfield 33, 3) := by decide +kernel
theorem dX0_init_62 : decode cX0_init 62 = .ok (.aload_n 0, 1) := by decide +kernel
theorem dX0_init_63 : decode cX0_init 63 = .ok (.new 23, 3) := by decide +kernel
theorem dX0_init_66 : decode cX0_init 66 = .ok (.dup, 1) := by decide +kernel
theorem dX0_init_67 : decode cX0_init 67 = .ok (.invokespecial 25, 3) := by decide +kernel
theorem dX0_init_70 : decode cX0_init 70 = .ok (.putfield 36, 3) := by decide +kernel
theorem dX0_init_73 : decode cX0_init 73 = .ok (.aload_n 0, 1) := by decide +kernel
theorem dX0_init_74 : decode cX0_init 74 = .ok (.new 23, 3) := by decide +kernel
theorem dX0_init_77 : decode cX0_init 77 = .ok (.dup, 1) := by decide +kernel
theorem dX0_init_78 : decode cX0_init 78 = .ok (.invokespecial 25, 3) := by decide +kernel
theorem dX0_init_81 : decode cX0_init 81 = .ok (.putfield 39, 3) := by decide +kernel
theorem dX0_init_84 : decode cX0_init 84 = .ok (.aload_n 0, 1) := by decide +kernel
theorem dX0_init_85 : decode cX0_init 85 = .ok (.new 23, 3) := by decide +kernel
theorem dX0_init_88 : decode cX0_init 88 = .ok (.dup, 1) := by decide +kernel
theorem dX0_init_89 : decode cX0_init 89 = .ok (.invokespecial 25, 3) := by decide +kernel
theorem dX0_init_92 : decode cX0_init 92 = .ok (.putfield 42, 3) := by decide +kernel
theorem dX0_init_95 : decode cX0_init 95 = .ok (.aload_n 0, 1) := by decide +kernel
theorem dX0_init_96 : decode cX0_init 96 = .ok (.new 23, 3) := by decide +kernel
theorem dX0_init_99 : decode cX0_init 99 = .ok (.dup, 1) := by decide +kernel
theorem dX0_init_100 : decode cX0_init 100 = .ok (.invokespecial 25, 3) := by decide +kernel
theorem dX0_init_103 : decode cX0_init 103 = .ok (.putfield 45, 3) := by decide +kernel
theorem dX0_init_106 : decode cX0_init 106 = .ok (.aload_n 0, 1) := by decide +kernel
theorem dX0_init_107 : decode cX0_init 107 = .ok (.new 23, 3) := by decide +kernel
theorem dX0_init_110 : decode cX0_init 110 = .ok (.dup, 1) := by decide +kernel
theorem dX0_init_111 : decode cX0_init 111 = .ok (.invokespecial 25, 3) := by decide +kernel
theorem dX0_init_114 : decode cX0_init 114 = .ok (.putfield 48, 3) := by decide +kernel
theorem dX0_init_117 : decode cX0_init 117 = .ok (.aload_n 0, 1) := by decide +kernel
theorem dX0_init_118 : decode cX0_init 118 = .ok (.new 23, 3) := by decide +kernel
theorem dX0_init_121 : decode cX0_init 121 = .ok (.dup, 1) := by decide +kernel
theorem dX0_init_122 : decode cX0_init 122 = .ok (.invokespecial 25, 3) := by decide +kernel
theorem dX0_init_125 : decode cX0_init 125 = .ok (.putfield 51, 3) := by decide +kernel
theorem dX0_init_128 : decode cX0_init 128 = .ok (.aload_n 0, 1) := by decide +kernel
theorem dX0_init_129 : decode cX0_init 129 = .ok (.new 23, 3) := by decide +kernel
theorem dX0_init_132 : decode cX0_init 132 = .ok (.dup, 1) := by decide +kernel
theorem dX0_init_133 : decode cX0_init 133 = .ok (.invokespecial 25, 3) := by decide +kernel
theorem dX0_init_136 : decode cX0_init 136 = .ok (.putfield 54, 3) := by decide +kernel
theorem dX0_init_139 : decode cX0_init 139 = .ok (.aload_n 0, 1) := by decide +kernel
theorem dX0_init_140 : decode cX0_init 140 = .ok (.new 23, 3) := by decide +kernel
theorem dX0_init_143 : decode cX0_init 143 = .ok (.dup, 1) := by decide +kernel
theorem dX0_init_144 : decode cX0_init 144 = .ok (.invokespecial 25, 3) := by decide +kernel
theorem dX0_init_147 : decode cX0_init 147 = .ok (.putfield 57, 3) := by decide +kernel
theorem dX0_init_150 : decode cX0_init 150 = .ok (.aload_n 0, 1) := by decide +kernel
theorem dX0_init_151 : decode cX0_init 151 = .ok (.new 23, 3) := by decide +kernel
theorem dX0_init_154 : decode cX0_init 154 = .ok (.dup, 1) := by decide +kernel
theorem dX0_init_155 : decode cX0_init 155 = .ok (.invokespecial 25, 3) := by decide +kernel
theorem dX0_init_158 : decode cX0_init 158 = .ok (.putfield 60, 3) := by decide +kernel
theorem dX0_init_161 : decode cX0_init 161 = .ok (.aload_n 0, 1) := by decide +kernel
theorem dX0_init_162 : decode cX0_init 162 = .ok (.new 23, 3) := by decide +kernel
theorem dX0_init_165 : decode cX0_init 165 = .ok (.dup, 1) := by decide +kernel
theorem dX0_init_166 : decode cX0_init 166 = .ok (.invokespecial 25, 3) := by decide +kernel
theorem dX0_init_169 : decode cX0_init 169 = .ok (.putfield 63, 3) := by decide +kernel
theorem dX0_init_172 : decode cX0_init 172 = .ok (.aload_n 0, 1) := by decide +kernel
theorem dX0_init_173 : decode cX0_init 173 = .ok (.getfield 57, 3) := by decide +kernel
theorem dX0_init_176 : decode cX0_init 176 = .ok (.ldc 66, 2) := by decide +kernel
theorem dX0_init_178 : decode cX0_init 178 = .ok (.invokevirtual 67, 3) := by decide +kernel
theorem dX0_init_181 : decode cX0_init 181 = .ok (.aload_n 0, 1) := by decide +kernel
theorem dX0_init_182 : decode cX0_init 182 = .ok (.getfield 57, 3) := by decide +kernel
theorem dX0_init_185 : decode cX0_init 185 = .ok (.getfield 71, 3) := by decide +kernel
theorem dX0_init_188 : decode cX0_init 188 = .ok (.iconst 1, 1) := by decide +kernel
theorem dX0_init_189 : decode cX0_init 189 = .ok (.lconst 1, 1) := by decide +kernel
theorem dX0_init_190 : decode cX0_init 190 = .ok (.lastore, 1) := by decide +kernel
theorem dX0_init_191 : decode cX0_init 191 = .ok (.return_, 1) := by decide +kernel
abbrev cX0_scalar : ByteArray := prog_1_method_3_code
def yX0_scalar : MethodName := ⟨RX0, "scalar", "(IJ)I"⟩
theorem dX0_scalar_0 : decode cX0_scalar 0 = .ok (.aload_n 0, 1) := by decide +kernel
theorem dX0_scalar_1 : decode cX0_scalar 1 = .ok (.getfield 74, 3) := by decide +kernel
theorem dX0_scalar_4 : decode cX0_scalar 4 = .ok (.ifCond .ne 10, 3) := by decide +kernel
theorem dX0_scalar_7 : decode cX0_scalar 7 = .ok (.iload_n 1, 1) := by decide +kernel
theorem dX0_scalar_8 : decode cX0_scalar 8 = .ok (.invokestatic 78, 3) := by decide +kernel
theorem dX0_scalar_11 : decode cX0_scalar 11 = .ok (.ifCond .ne 5, 3) := by decide +kernel
theorem dX0_scalar_14 : decode cX0_scalar 14 = .ok (.iconst 0, 1) := by decide +kernel
theorem dX0_scalar_15 : decode cX0_scalar 15 = .ok (.ireturn, 1) := by decide +kernel
theorem dX0_scalar_16 : decode cX0_scalar 16 = .ok (.aload_n 0, 1) := by decide +kernel
theorem dX0_scalar_17 : decode cX0_scalar 17 = .ok (.getfield 7, 3) := by decide +kernel
theorem dX0_scalar_20 : decode cX0_scalar 20 = .ok (.iload_n 1, 1) := by decide +kernel
theorem dX0_scalar_21 : decode cX0_scalar 21 = .ok (.lload_n 2, 1) := by decide +kernel
theorem dX0_scalar_22 : decode cX0_scalar 22 = .ok (.lastore, 1) := by decide +kernel
theorem dX0_scalar_23 : decode cX0_scalar 23 = .ok (.iconst 1, 1) := by decide +kernel
theorem dX0_scalar_24 : decode cX0_scalar 24 = .ok (.ireturn, 1) := by decide +kernel
abbrev cX0_isLong : ByteArray := prog_1_method_2_code
def yX0_isLong : MethodName := ⟨RX0, "isLong", "(I)Z"⟩
theorem dX0_isLong_0 : decode cX0_isLong 0 = .ok (.iload_n 0, 1) := by decide +kernel
theorem dX0_isLong_1 : decode cX0_isLong 1 = .ok (.ifCond .lt 12, 3) := by decide +kernel
theorem dX0_isLong_4 : decode cX0_isLong 4 = .ok (.iload_n 0, 1) := by decide +kernel
theorem dX0_isLong_5 : decode cX0_isLong 5 = .ok (.iconst 4, 1) := by decide +kernel
theorem dX0_isLong_6 : decode cX0_isLong 6 = .ok (.if_icmp .ge 7, 3) := by decide +kernel
theorem dX0_isLong_9 : decode cX0_isLong 9 = .ok (.iconst 1, 1) := by decide +kernel
theorem dX0_isLong_10 : decode cX0_isLong 10 = .ok (.goto 4, 3) := by decide +kernel
theorem dX0_isLong_13 : decode cX0_isLong 13 = .ok (.iconst 0, 1) := by decide +kernel
theorem dX0_isLong_14 : decode cX0_isLong 14 = .ok (.ireturn, 1) := by decide +kernel
abbrev cX0_point : ByteArray := prog_1_method_4_code
def yX0_point : MethodName := ⟨RX0, "point", "(IJ)I"⟩
theorem dX0_point_0 : decode cX0_point 0 = .ok (.aload_n 0, 1) := by decide +kernel
theorem dX0_point_1 : decode cX0_point 1 = .ok (.getfield 74, 3) := by decide +kernel
theorem dX0_point_4 : decode cX0_point 4 = .ok (.ifCond .ne 10, 3) := by decide +kernel
theorem dX0_point_7 : decode cX0_point 7 = .ok (.iload_n 1, 1) := by decide +kernel
theorem dX0_point_8 : decode cX0_point 8 = .ok (.invokestatic 78, 3) := by decide +kernel
theorem dX0_point_11 : decode cX0_point 11 = .ok (.ifCond .ne 5, 3) := by decide +kernel
theorem dX0_point_14 : decode cX0_point 14 = .ok (.iconst 0, 1) := by decide +kernel
theorem dX0_point_15 : decode cX0_point 15 = .ok (.ireturn, 1) := by decide +kernel
theorem dX0_point_16 : decode cX0_point 16 = .ok (.aload_n 0, 1) := by decide +kernel
theorem dX0_point_17 : decode cX0_point 17 = .ok (.getfield 13, 3) := by decide +kernel
theorem dX0_point_20 : decode cX0_point 20 = .ok (.iload_n 1, 1) := by decide +kernel
theorem dX0_point_21 : decode cX0_point 21 = .ok (.lload_n 2, 1) := by decide +kernel
theorem dX0_point_22 : decode cX0_point 22 = .ok (.lastore, 1) := by decide +kernel
theorem dX0_point_23 : decode cX0_point 23 = .ok (.iconst 1, 1) := by decide +kernel
theorem dX0_point_24 : decode cX0_point 24 = .ok (.ireturn, 1) := by decide +kernel
abbrev cX0_start : ByteArray := prog_1_method_6_code
def yX0_start : MethodName := ⟨RX0, "start", "()I"⟩
theorem dX0_start_0 : decode cX0_start 0 = .ok (.aload_n 0, 1) := by decide +kernel
theorem dX0_start_1 : decode cX0_start 1 = .ok (.getfield 74, 3) := by decide +kernel
theorem dX0_start_4 : decode cX0_start 4 = .ok (.ifCond .eq 5, 3) := by decide +kernel
theorem dX0_start_7 : decode cX0_start 7 = .ok (.iconst 0, 1) := by decide +kernel
theorem dX0_start_8 : decode cX0_start 8 = .ok (.ireturn, 1) := by decide +kernel
theorem dX0_start_9 : decode cX0_start 9 = .ok (.aload_n 0, 1) := by decide +kernel
theorem dX0_start_10 : decode cX0_start 10 = .ok (.iconst 1, 1) := by decide +kernel
theorem dX0_start_11 : decode cX0_start 11 = .ok (.putfield 74, 3) := by decide +kernel
theorem dX0_start_14 : decode cX0_start 14 = .ok (.aload_n 0, 1) := by decide +kernel
theorem dX0_start_15 : decode cX0_start 15 = .ok (.iconst 0, 1) := by decide +kernel
theorem dX0_start_16 : decode cX0_start 16 = .ok (.putfield 90, 3) := by decide +kernel
theorem dX0_start_19 : decode cX0_start 19 = .ok (.aload_n 0, 1) := by decide +kernel
theorem dX0_start_20 : decode cX0_start 20 = .ok (.getfield 26, 3) := by decide +kernel
theorem dX0_start_23 : decode cX0_start 23 = .ok (.aload_n 0, 1) := by decide +kernel
theorem dX0_start_24 : decode cX0_start 24 = .ok (.getfield 13, 3) := by decide +kernel
theorem dX0_start_27 : decode cX0_start 27 = .ok (.invokevirtual 93, 3) := by decide +kernel
theorem dX0_start_30 : decode cX0_start 30 = .ok (.aload_n 0, 1) := by decide +kernel
theorem dX0_start_31 : decode cX0_start 31 = .ok (.getfield 30, 3) := by decide +kernel
theorem dX0_start_34 : decode cX0_start 34 = .ok (.iconst 1, 1) := by decide +kernel
theorem dX0_start_35 : decode cX0_start 35 = .ok (.invokevirtual 67, 3) := by decide +kernel
theorem dX0_start_38 : decode cX0_start 38 = .ok (.aload_n 0, 1) := by decide +kernel
theorem dX0_start_39 : decode cX0_start 39 = .ok (.getfield 33, 3) := by decide +kernel
theorem dX0_start_42 : decode cX0_start 42 = .ok (.iconst 0, 1) := by decide +kernel
theorem dX0_start_43 : decode cX0_start 43 = .ok (.invokevirtual 67, 3) := by decide +kernel
theorem dX0_start_46 : decode cX0_start 46 = .ok (.aload_n 0, 1) := by decide +kernel
theorem dX0_start_47 : decode cX0_start 47 = .ok (.getfield 36, 3) := by decide +kernel
theorem dX0_start_50 : decode cX0_start 50 = .ok (.aload_n 0, 1) := by decide +kernel
theorem dX0_start_51 : decode cX0_start 51 = .ok (.getfield 26, 3) := by decide +kernel
theorem dX0_start_54 : decode cX0_start 54 = .ok (.invokevirtual 97, 3) := by decide +kernel
theorem dX0_start_57 : decode cX0_start 57 = .ok (.aload_n 0, 1) := by decide +kernel
theorem dX0_start_58 : decode cX0_start 58 = .ok (.getfield 39, 3) := by decide +kernel
theorem dX0_start_61 : decode cX0_start 61 = .ok (.iconst 1, 1) := by decide +kernel
theorem dX0_start_62 : decode cX0_start 62 = .ok (.invokevirtual 67, 3) := by decide +kernel
theorem dX0_start_65 : decode cX0_start 65 = .ok (.iconst 1, 1) := by decide +kernel
theorem dX0_start_66 : decode cX0_start 66 = .ok (.ireturn, 1) := by decide +kernel
abbrev cX0_step : ByteArray := prog_1_method_8_code
def yX0_step : MethodName := ⟨RX0, "step", "(I)I"⟩
theorem dX0_step_0 : decode cX0_step 0 = .ok (.aload_n 0, 1) := by decide +kernel
theorem dX0_step_1 : decode cX0_step 1 = .ok (.getfield 74, 3) := by decide +kernel
theorem dX0_step_4 : decode cX0_step 4 = .ok (.iconst 1, 1) := by decide +kernel
theorem dX0_step_5 : decode cX0_step 5 = .ok (.if_icmp .ne 8, 3) := by decide +kernel
theorem dX0_step_8 : decode cX0_step 8 = .ok (.iload_n 1, 1) := by decide +kernel
theorem dX0_step_9 : decode cX0_step 9 = .ok (.iconst 1, 1) := by decide +kernel
theorem dX0_step_10 : decode cX0_step 10 = .ok (.if_icmp .ge 5, 3) := by decide +kernel
theorem dX0_step_13 : decode cX0_step 13 = .ok (.iconst (-1), 1) := by decide +kernel
theorem dX0_step_14 : decode cX0_step 14 = .ok (.ireturn, 1) := by decide +kernel
theorem dX0_step_15 : decode cX0_step 15 = .ok (.iconst 0, 1) := by decide +kernel
theorem dX0_step_16 : decode cX0_step 16 = .ok (.istore_n 2, 1) := by decide +kernel
theorem dX0_step_17 : decode cX0_step 17 = .ok (.iload_n 2, 1) := by decide +kernel
theorem dX0_step_18 : decode cX0_step 18 = .ok (.iload_n 1, 1) := by decide +kernel
theorem dX0_step_19 : decode cX0_step 19 = .ok (.if_icmp .ge 23, 3) := by decide +kernel
theorem dX0_step_22 : decode cX0_step 22 = .ok (.aload_n 0, 1) := by decide +kernel
theorem dX0_step_23 : decode cX0_step 23 = .ok (.getfield 90, 3) := by decide +kernel
theorem dX0_step_26 : decode cX0_step 26 = .ok (.sipush 255, 3) := by decide +kernel
theorem dX0_step_29 : decode cX0_step 29 = .ok (.if_icmp .ge 13, 3) := by decide +kernel
theorem dX0_step_32 : decode cX0_step 32 = .ok (.aload_n 0, 1) := by decide +kernel
theorem dX0_step_33 : decode cX0_step 33 = .ok (.invokevirtual 119, 3) := by decide +kernel
theorem dX0_step_36 : decode cX0_step 36 = .ok (.iinc 2 1, 3) := by decide +kernel
theorem dX0_step_39 : decode cX0_step 39 = .ok (.goto (-22), 3) := by decide +kernel
theorem dX0_step_42 : decode cX0_step 42 = .ok (.sipush 255, 3) := by decide +kernel
theorem dX0_step_45 : decode cX0_step 45 = .ok (.aload_n 0, 1) := by decide +kernel
theorem dX0_step_46 : decode cX0_step 46 = .ok (.getfield 90, 3) := by decide +kernel
theorem dX0_step_49 : decode cX0_step 49 = .ok (.isub, 1) := by decide +kernel
theorem dX0_step_50 : decode cX0_step 50 = .ok (.ireturn, 1) := by decide +kernel
abbrev cX0_stepOnce : ByteArray := prog_1_method_7_code
def yX0_stepOnce : MethodName := ⟨RX0, "stepOnce", "()V"⟩
theorem dX0_stepOnce_0 : decode cX0_stepOnce 0 = .ok (.sipush 254, 3) := by decide +kernel
theorem dX0_stepOnce_3 : decode cX0_stepOnce 3 = .ok (.aload_n 0, 1) := by decide +kernel
theorem dX0_stepOnce_4 : decode cX0_stepOnce 4 = .ok (.getfield 90, 3) := by decide +kernel
theorem dX0_stepOnce_7 : decode cX0_stepOnce 7 = .ok (.isub, 1) := by decide +kernel
theorem dX0_stepOnce_8 : decode cX0_stepOnce 8 = .ok (.istore_n 1, 1) := by decide +kernel
theorem dX0_stepOnce_9 : decode cX0_stepOnce 9 = .ok (.aload_n 0, 1) := by decide +kernel
theorem dX0_stepOnce_10 : decode cX0_stepOnce 10 = .ok (.iload_n 1, 1) := by decide +kernel
theorem dX0_stepOnce_11 : decode cX0_stepOnce 11 = .ok (.bipush 6, 2) := by decide +kernel
theorem dX0_stepOnce_13 : decode cX0_stepOnce 13 = .ok (.ishr, 1) := by decide +kernel
theorem dX0_stepOnce_14 : decode cX0_stepOnce 14 = .ok (.invokevirtual 100, 3) := by decide +kernel
theorem dX0_stepOnce_17 : decode cX0_stepOnce 17 = .ok (.iload_n 1, 1) := by decide +kernel
theorem dX0_stepOnce_18 : decode cX0_stepOnce 18 = .ok (.bipush 63, 2) := by decide +kernel
theorem dX0_stepOnce_20 : decode cX0_stepOnce 20 = .ok (.iand, 1) := by decide +kernel
theorem dX0_stepOnce_21 : decode cX0_stepOnce 21 = .ok (.lushr, 1) := by decide +kernel
theorem dX0_stepOnce_22 : decode cX0_stepOnce 22 = .ok (.lconst 1, 1) := by decide +kernel
theorem dX0_stepOnce_23 : decode cX0_stepOnce 23 = .ok (.land, 1) := by decide +kernel
theorem dX0_stepOnce_24 : decode cX0_stepOnce 24 = .ok (.lneg, 1) := by decide +kernel
theorem dX0_stepOnce_25 : decode cX0_stepOnce 25 = .ok (.lstore_n 2, 1) := by decide +kernel
theorem dX0_stepOnce_26 : decode cX0_stepOnce 26 = .ok (.aload_n 0, 1) := by decide +kernel
theorem dX0_stepOnce_27 : decode cX0_stepOnce 27 = .ok (.getfield 30, 3) := by decide +kernel
theorem dX0_stepOnce_30 : decode cX0_stepOnce 30 = .ok (.aload_n 0, 1) := by decide +kernel
theorem dX0_stepOnce_31 : decode cX0_stepOnce 31 = .ok (.getfield 36, 3) := by decide +kernel
theorem dX0_stepOnce_34 : decode cX0_stepOnce 34 = .ok (.lload_n 2, 1) := by decide +kernel
theorem dX0_stepOnce_35 : decode cX0_stepOnce 35 = .ok (.invokevirtual 104, 3) := by decide +kernel
theorem dX0_stepOnce_38 : decode cX0_stepOnce 38 = .ok (.aload_n 0, 1) := by decide +kernel
theorem dX0_stepOnce_39 : decode cX0_stepOnce 39 = .ok (.getfield 33, 3) := by decide +kernel
theorem dX0_stepOnce_42 : decode cX0_stepOnce 42 = .ok (.aload_n 0, 1) := by decide +kernel
theorem dX0_stepOnce_43 : decode cX0_stepOnce 43 = .ok (.getfield 39, 3) := by decide +kernel
theorem dX0_stepOnce_46 : decode cX0_stepOnce 46 = .ok (.lload_n 2, 1) := by decide +kernel
theorem dX0_stepOnce_47 : decode cX0_stepOnce 47 = .ok (.invokevirtual 104, 3) := by decide +kernel
theorem dX0_stepOnce_50 : decode cX0_stepOnce 50 = .ok (.aload_n 0, 1) := by decide +kernel
theorem dX0_stepOnce_51 : decode cX0_stepOnce 51 = .ok (.getfield 42, 3) := by decide +kernel
theorem dX0_stepOnce_54 : decode cX0_stepOnce 54 = .ok (.aload_n 0, 1) := by decide +kernel
theorem dX0_stepOnce_55 : decode cX0_stepOnce 55 = .ok (.getfield 30, 3) := by decide +kernel
theorem dX0_stepOnce_58 : decode cX0_stepOnce 58 = .ok (.aload_n 0, 1) := by decide +kernel
theorem dX0_stepOnce_59 : decode cX0_stepOnce 59 = .ok (.getfield 33, 3) := by decide +kernel
theorem dX0_stepOnce_62 : decode cX0_stepOnce 62 = .ok (.invokevirtual 108, 3) := by decide +kernel
theorem dX0_stepOnce_65 : decode cX0_stepOnce 65 = .ok (.aload_n 0, 1) := by decide +kernel
theorem dX0_stepOnce_66 : decode cX0_stepOnce 66 = .ok (.getfield 45, 3) := by decide +kernel
theorem dX0_stepOnce_69 : decode cX0_stepOnce 69 = .ok (.aload_n 0, 1) := by decide +kernel
theorem dX0_stepOnce_70 : decode cX0_stepOnce 70 = .ok (.getfield 30, 3) := by decide +kernel
theorem dX0_stepOnce_73 : decode cX0_stepOnce 73 = .ok (.aload_n 0, 1) := by decide +kernel
theorem dX0_stepOnce_74 : decode cX0_stepOnce 74 = .ok (.getfield 33, 3) := by decide +kernel
theorem dX0_stepOnce_77 : decode cX0_stepOnce 77 = .ok (.invokevirtual 112, 3) := by decide +kernel
theorem dX0_stepOnce_80 : decode cX0_stepOnce 80 = .ok (.aload_n 0, 1) := by decide +kernel
theorem dX0_stepOnce_81 : decode cX0_stepOnce 81 = .ok (.getfield 48, 3) := by decide +kernel
theorem dX0_stepOnce_84 : decode cX0_stepOnce 84 = .ok (.aload_n 0, 1) := by decide +kernel
theorem dX0_stepOnce_85 : decode cX0_stepOnce 85 = .ok (.getfield 36, 3) := by decide +kernel
theorem dX0_stepOnce_88 : decode cX0_stepOnce 88 = .ok (.aload_n 0, 1) := by decide +kernel
theorem dX0_stepOnce_89 : decode cX0_stepOnce 89 = .ok (.getfield 39, 3) := by decide +kernel
theorem dX0_stepOnce_92 : decode cX0_stepOnce 92 = .ok (.invokevirtual 108, 3) := by decide +kernel
theorem dX0_stepOnce_95 : decode cX0_stepOnce 95 = .ok (.aload_n 0, 1) := by decide +kernel
theorem dX0_stepOnce_96 : decode cX0_stepOnce 96 = .ok (.getfield 51, 3) := by decide +kernel
theorem dX0_stepOnce_99 : decode cX0_stepOnce 99 = .ok (.aload_n 0, 1) := by decide +kernel
theorem dX0_stepOnce_100 : decode cX0_stepOnce 100 = .ok (.getfield 36, 3) := by decide +kernel
theorem dX0_stepOnce_103 : decode cX0_stepOnce 103 = .ok (.aload_n 0, 1) := by decide +kernel
theorem dX0_stepOnce_104 : decode cX0_stepOnce 104 = .ok (.getfield 39, 3) := by decide +kernel
theorem dX0_stepOnce_107 : decode cX0_stepOnce 107 = .ok (.invokevirtual 112, 3) := by decide +kernel
theorem dX0_stepOnce_110 : decode cX0_stepOnce 110 = .ok (.aload_n 0, 1) := by decide +kernel
theorem dX0_stepOnce_111 : decode cX0_stepOnce 111 = .ok (.getfield 19, 3) := by decide +kernel
theorem dX0_stepOnce_114 : decode cX0_stepOnce 114 = .ok (.aload_n 0, 1) := by decide +kernel
theorem dX0_stepOnce_115 : decode cX0_stepOnce 115 = .ok (.getfield 51, 3) := by decide +kernel
theorem dX0_stepOnce_118 : decode cX0_stepOnce 118 = .ok (.aload_n 0, 1) := by decide +kernel
theorem dX0_stepOnce_119 : decode cX0_stepOnce 119 = .ok (.getfield 42, 3) := by decide +kernel
theorem dX0_stepOnce_122 : decode cX0_stepOnce 122 = .ok (.aload_n 0, 1) := by decide +kernel
theorem dX0_stepOnce_123 : decode cX0_stepOnce 123 = .ok (.getfield 51, 3) := by decide +kernel
theorem dX0_stepOnce_126 : decode cX0_stepOnce 126 = .ok (.invokevirtual 115, 3) := by decide +kernel
theorem dX0_stepOnce_129 : decode cX0_stepOnce 129 = .ok (.aload_n 0, 1) := by decide +kernel
theorem dX0_stepOnce_130 : decode cX0_stepOnce 130 = .ok (.getfield 19, 3) := by decide +kernel
theorem dX0_stepOnce_133 : decode cX0_stepOnce 133 = .ok (.aload_n 0, 1) := by decide +kernel
theorem dX0_stepOnce_134 : decode cX0_stepOnce 134 = .ok (.getfield 48, 3) := by decide +kernel
theorem dX0_stepOnce_137 : decode cX0_stepOnce 137 = .ok (.aload_n 0, 1) := by decide +kernel
theorem dX0_stepOnce_138 : decode cX0_stepOnce 138 = .ok (.getfield 45, 3) := by decide +kernel
theorem dX0_stepOnce_141 : decode cX0_stepOnce 141 = .ok (.aload_n 0, 1) := by decide +kernel
theorem dX0_stepOnce_142 : decode cX0_stepOnce 142 = .ok (.getfield 48, 3) := by decide +kernel
theorem dX0_stepOnce_145 : decode cX0_stepOnce 145 = .ok (.invokevirtual 115, 3) := by decide +kernel
theorem dX0_stepOnce_148 : decode cX0_stepOnce 148 = .ok (.aload_n 0, 1) := by decide +kernel
theorem dX0_stepOnce_149 : decode cX0_stepOnce 149 = .ok (.getfield 19, 3) := by decide +kernel
theorem dX0_stepOnce_152 : decode cX0_stepOnce 152 = .ok (.aload_n 0, 1) := by decide +kernel
theorem dX0_stepOnce_153 : decode cX0_stepOnce 153 = .ok (.getfield 42, 3) := by decide +kernel
theorem dX0_stepOnce_156 : decode cX0_stepOnce 156 = .ok (.aload_n 0, 1) := by decide +kernel
theorem dX0_stepOnce_157 : decode cX0_stepOnce 157 = .ok (.getfield 42, 3) := by decide +kernel
theorem dX0_stepOnce_160 : decode cX0_stepOnce 160 = .ok (.aload_n 0, 1) := by decide +kernel
theorem dX0_stepOnce_161 : decode cX0_stepOnce 161 = .ok (.getfield 42, 3) := by decide +kernel
theorem dX0_stepOnce_164 : decode cX0_stepOnce 164 = .ok (.invokevirtual 115, 3) := by decide +kernel
theorem dX0_stepOnce_167 : decode cX0_stepOnce 167 = .ok (.aload_n 0, 1) := by decide +kernel
theorem dX0_stepOnce_168 : decode cX0_stepOnce 168 = .ok (.getfield 19, 3) := by decide +kernel
theorem dX0_stepOnce_171 : decode cX0_stepOnce 171 = .ok (.aload_n 0, 1) := by decide +kernel
theorem dX0_stepOnce_172 : decode cX0_stepOnce 172 = .ok (.getfield 45, 3) := by decide +kernel
theorem dX0_stepOnce_175 : decode cX0_stepOnce 175 = .ok (.aload_n 0, 1) := by decide +kernel
theorem dX0_stepOnce_176 : decode cX0_stepOnce 176 = .ok (.getfield 45, 3) := by decide +kernel
theorem dX0_stepOnce_179 : decode cX0_stepOnce 179 = .ok (.aload_n 0, 1) := by decide +kernel
theorem dX0_stepOnce_180 : decode cX0_stepOnce 180 = .ok (.getfield 45, 3) := by decide +kernel
theorem dX0_stepOnce_183 : decode cX0_stepOnce 183 = .ok (.invokevirtual 115, 3) := by decide +kernel
theorem dX0_stepOnce_186 : decode cX0_stepOnce 186 = .ok (.aload_n 0, 1) := by decide +kernel
theorem dX0_stepOnce_187 : decode cX0_stepOnce 187 = .ok (.getfield 19, 3) := by decide +kernel
theorem dX0_stepOnce_190 : decode cX0_stepOnce 190 = .ok (.aload_n 0, 1) := by decide +kernel
theorem dX0_stepOnce_191 : decode cX0_stepOnce 191 = .ok (.getfield 42, 3) := by decide +kernel
theorem dX0_stepOnce_194 : decode cX0_stepOnce 194 = .ok (.aload_n 0, 1) := by decide +kernel
theorem dX0_stepOnce_195 : decode cX0_stepOnce 195 = .ok (.getfield 45, 3) := by decide +kernel
theorem dX0_stepOnce_198 : decode cX0_stepOnce 198 = .ok (.aload_n 0, 1) := by decide +kernel
theorem dX0_stepOnce_199 : decode cX0_stepOnce 199 = .ok (.getfield 30, 3) := by decide +kernel
theorem dX0_stepOnce_202 : decode cX0_stepOnce 202 = .ok (.invokevirtual 115, 3) := by decide +kernel
theorem dX0_stepOnce_205 : decode cX0_stepOnce 205 = .ok (.aload_n 0, 1) := by decide +kernel
theorem dX0_stepOnce_206 : decode cX0_stepOnce 206 = .ok (.getfield 54, 3) := by decide +kernel
theorem dX0_stepOnce_209 : decode cX0_stepOnce 209 = .ok (.aload_n 0, 1) := by decide +kernel
theorem dX0_stepOnce_210 : decode cX0_stepOnce 210 = .ok (.getfield 42, 3) := by decide +kernel
theorem dX0_stepOnce_213 : decode cX0_stepOnce 213 = .ok (.aload_n 0, 1) := by decide +kernel
theorem dX0_stepOnce_214 : decode cX0_stepOnce 214 = .ok (.getfield 45, 3) := by decide +kernel
theorem dX0_stepOnce_217 : decode cX0_stepOnce 217 = .ok (.invokevirtual 112, 3) := by decide +kernel
theorem dX0_stepOnce_220 : decode cX0_stepOnce 220 = .ok (.aload_n 0, 1) := by decide +kernel
theorem dX0_stepOnce_221 : decode cX0_stepOnce 221 = .ok (.getfield 19, 3) := by decide +kernel
theorem dX0_stepOnce_224 : decode cX0_stepOnce 224 = .ok (.aload_n 0, 1) := by decide +kernel
theorem dX0_stepOnce_225 : decode cX0_stepOnce 225 = .ok (.getfield 54, 3) := by decide +kernel
theorem dX0_stepOnce_228 : decode cX0_stepOnce 228 = .ok (.aload_n 0, 1) := by decide +kernel
theorem dX0_stepOnce_229 : decode cX0_stepOnce 229 = .ok (.getfield 57, 3) := by decide +kernel
theorem dX0_stepOnce_232 : decode cX0_stepOnce 232 = .ok (.aload_n 0, 1) := by decide +kernel
theorem dX0_stepOnce_233 : decode cX0_stepOnce 233 = .ok (.getfield 33, 3) := by decide +kernel
theorem dX0_stepOnce_236 : decode cX0_stepOnce 236 = .ok (.invokevirtual 115, 3) := by decide +kernel
theorem dX0_stepOnce_239 : decode cX0_stepOnce 239 = .ok (.aload_n 0, 1) := by decide +kernel
theorem dX0_stepOnce_240 : decode cX0_stepOnce 240 = .ok (.getfield 33, 3) := by decide +kernel
theorem dX0_stepOnce_243 : decode cX0_stepOnce 243 = .ok (.aload_n 0, 1) := by decide +kernel
theorem dX0_stepOnce_244 : decode cX0_stepOnce 244 = .ok (.getfield 33, 3) := by decide +kernel
theorem dX0_stepOnce_247 : decode cX0_stepOnce 247 = .ok (.aload_n 0, 1) := by decide +kernel
theorem dX0_stepOnce_248 : decode cX0_stepOnce 248 = .ok (.getfield 42, 3) := by decide +kernel
theorem dX0_stepOnce_251 : decode cX0_stepOnce 251 = .ok (.invokevirtual 108, 3) := by decide +kernel
theorem dX0_stepOnce_254 : decode cX0_stepOnce 254 = .ok (.aload_n 0, 1) := by decide +kernel
theorem dX0_stepOnce_255 : decode cX0_stepOnce 255 = .ok (.getfield 19, 3) := by decide +kernel
theorem dX0_stepOnce_258 : decode cX0_stepOnce 258 = .ok (.aload_n 0, 1) := by decide +kernel
theorem dX0_stepOnce_259 : decode cX0_stepOnce 259 = .ok (.getfield 33, 3) := by decide +kernel
theorem dX0_stepOnce_262 : decode cX0_stepOnce 262 = .ok (.aload_n 0, 1) := by decide +kernel
theorem dX0_stepOnce_263 : decode cX0_stepOnce 263 = .ok (.getfield 54, 3) := by decide +kernel
theorem dX0_stepOnce_266 : decode cX0_stepOnce 266 = .ok (.aload_n 0, 1) := by decide +kernel
theorem dX0_stepOnce_267 : decode cX0_stepOnce 267 = .ok (.getfield 33, 3) := by decide +kernel
theorem dX0_stepOnce_270 : decode cX0_stepOnce 270 = .ok (.invokevirtual 115, 3) := by decide +kernel
theorem dX0_stepOnce_273 : decode cX0_stepOnce 273 = .ok (.aload_n 0, 1) := by decide +kernel
theorem dX0_stepOnce_274 : decode cX0_stepOnce 274 = .ok (.getfield 36, 3) := by decide +kernel
theorem dX0_stepOnce_277 : decode cX0_stepOnce 277 = .ok (.aload_n 0, 1) := by decide +kernel
theorem dX0_stepOnce_278 : decode cX0_stepOnce 278 = .ok (.getfield 51, 3) := by decide +kernel
theorem dX0_stepOnce_281 : decode cX0_stepOnce 281 = .ok (.aload_n 0, 1) := by decide +kernel
theorem dX0_stepOnce_282 : decode cX0_stepOnce 282 = .ok (.getfield 48, 3) := by decide +kernel
theorem dX0_stepOnce_285 : decode cX0_stepOnce 285 = .ok (.invokevirtual 108, 3) := by decide +kernel
theorem dX0_stepOnce_288 : decode cX0_stepOnce 288 = .ok (.aload_n 0, 1) := by decide +kernel
theorem dX0_stepOnce_289 : decode cX0_stepOnce 289 = .ok (.getfield 19, 3) := by decide +kernel
theorem dX0_stepOnce_292 : decode cX0_stepOnce 292 = .ok (.aload_n 0, 1) := by decide +kernel
theorem dX0_stepOnce_293 : decode cX0_stepOnce 293 = .ok (.getfield 36, 3) := by decide +kernel
theorem dX0_stepOnce_296 : decode cX0_stepOnce 296 = .ok (.aload_n 0, 1) := by decide +kernel
theorem dX0_stepOnce_297 : decode cX0_stepOnce 297 = .ok (.getfield 36, 3) := by decide +kernel
theorem dX0_stepOnce_300 : decode cX0_stepOnce 300 = .ok (.aload_n 0, 1) := by decide +kernel
theorem dX0_stepOnce_301 : decode cX0_stepOnce 301 = .ok (.getfield 36, 3) := by decide +kernel
theorem dX0_stepOnce_304 : decode cX0_stepOnce 304 = .ok (.invokevirtual 115, 3) := by decide +kernel
theorem dX0_stepOnce_307 : decode cX0_stepOnce 307 = .ok (.aload_n 0, 1) := by decide +kernel
theorem dX0_stepOnce_308 : decode cX0_stepOnce 308 = .ok (.getfield 39, 3) := by decide +kernel
theorem dX0_stepOnce_311 : decode cX0_stepOnce 311 = .ok (.aload_n 0, 1) := by decide +kernel
theorem dX0_stepOnce_312 : decode cX0_stepOnce 312 = .ok (.getfield 51, 3) := by decide +kernel
theorem dX0_stepOnce_315 : decode cX0_stepOnce 315 = .ok (.aload_n 0, 1) := by decide +kernel
theorem dX0_stepOnce_316 : decode cX0_stepOnce 316 = .ok (.getfield 48, 3) := by decide +kernel
theorem dX0_stepOnce_319 : decode cX0_stepOnce 319 = .ok (.invokevirtual 112, 3) := by decide +kernel
theorem dX0_stepOnce_322 : decode cX0_stepOnce 322 = .ok (.aload_n 0, 1) := by decide +kernel
theorem dX0_stepOnce_323 : decode cX0_stepOnce 323 = .ok (.getfield 19, 3) := by decide +kernel
theorem dX0_stepOnce_326 : decode cX0_stepOnce 326 = .ok (.aload_n 0, 1) := by decide +kernel
theorem dX0_stepOnce_327 : decode cX0_stepOnce 327 = .ok (.getfield 39, 3) := by decide +kernel
theorem dX0_stepOnce_330 : decode cX0_stepOnce 330 = .ok (.aload_n 0, 1) := by decide +kernel
theorem dX0_stepOnce_331 : decode cX0_stepOnce 331 = .ok (.getfield 39, 3) := by decide +kernel
theorem dX0_stepOnce_334 : decode cX0_stepOnce 334 = .ok (.aload_n 0, 1) := by decide +kernel
theorem dX0_stepOnce_335 : decode cX0_stepOnce 335 = .ok (.getfield 39, 3) := by decide +kernel
theorem dX0_stepOnce_338 : decode cX0_stepOnce 338 = .ok (.invokevirtual 115, 3) := by decide +kernel
theorem dX0_stepOnce_341 : decode cX0_stepOnce 341 = .ok (.aload_n 0, 1) := by decide +kernel
theorem dX0_stepOnce_342 : decode cX0_stepOnce 342 = .ok (.getfield 19, 3) := by decide +kernel
theorem dX0_stepOnce_345 : decode cX0_stepOnce 345 = .ok (.aload_n 0, 1) := by decide +kernel
theorem dX0_stepOnce_346 : decode cX0_stepOnce 346 = .ok (.getfield 39, 3) := by decide +kernel
theorem dX0_stepOnce_349 : decode cX0_stepOnce 349 = .ok (.aload_n 0, 1) := by decide +kernel
theorem dX0_stepOnce_350 : decode cX0_stepOnce 350 = .ok (.getfield 26, 3) := by decide +kernel
theorem dX0_stepOnce_353 : decode cX0_stepOnce 353 = .ok (.aload_n 0, 1) := by decide +kernel
theorem dX0_stepOnce_354 : decode cX0_stepOnce 354 = .ok (.getfield 39, 3) := by decide +kernel
theorem dX0_stepOnce_357 : decode cX0_stepOnce 357 = .ok (.invokevirtual 115, 3) := by decide +kernel
theorem dX0_stepOnce_360 : decode cX0_stepOnce 360 = .ok (.aload_n 0, 1) := by decide +kernel
theorem dX0_stepOnce_361 : decode cX0_stepOnce 361 = .ok (.getfield 30, 3) := by decide +kernel
theorem dX0_stepOnce_364 : decode cX0_stepOnce 364 = .ok (.aload_n 0, 1) := by decide +kernel
theorem dX0_stepOnce_365 : decode cX0_stepOnce 365 = .ok (.getfield 36, 3) := by decide +kernel
theorem dX0_stepOnce_368 : decode cX0_stepOnce 368 = .ok (.lload_n 2, 1) := by decide +kernel
theorem dX0_stepOnce_369 : decode cX0_stepOnce 369 = .ok (.invokevirtual 104, 3) := by decide +kernel
theorem dX0_stepOnce_372 : decode cX0_stepOnce 372 = .ok (.aload_n 0, 1) := by decide +kernel
theorem dX0_stepOnce_373 : decode cX0_stepOnce 373 = .ok (.getfield 33, 3) := by decide +kernel
theorem dX0_stepOnce_376 : decode cX0_stepOnce 376 = .ok (.aload_n 0, 1) := by decide +kernel
theorem dX0_stepOnce_377 : decode cX0_stepOnce 377 = .ok (.getfield 39, 3) := by decide +kernel
theorem dX0_stepOnce_380 : decode cX0_stepOnce 380 = .ok (.lload_n 2, 1) := by decide +kernel
theorem dX0_stepOnce_381 : decode cX0_stepOnce 381 = .ok (.invokevirtual 104, 3) := by decide +kernel
theorem dX0_stepOnce_384 : decode cX0_stepOnce 384 = .ok (.aload_n 0, 1) := by decide +kernel
theorem dX0_stepOnce_385 : decode cX0_stepOnce 385 = .ok (.dup, 1) := by decide +kernel
theorem dX0_stepOnce_386 : decode cX0_stepOnce 386 = .ok (.getfield 90, 3) := by decide +kernel
theorem dX0_stepOnce_389 : decode cX0_stepOnce 389 = .ok (.iconst 1, 1) := by decide +kernel
theorem dX0_stepOnce_390 : decode cX0_stepOnce 390 = .ok (.iadd, 1) := by decide +kernel
theorem dX0_stepOnce_391 : decode cX0_stepOnce 391 = .ok (.putfield 90, 3) := by decide +kernel
theorem dX0_stepOnce_394 : decode cX0_stepOnce 394 = .ok (.return_, 1) := by decide +kernel
abbrev cX0_clamped : ByteArray := prog_1_method_5_code
def yX0_clamped : MethodName := ⟨RX0, "clamped", "(I)J"⟩
theorem dX0_clamped_0 : decode cX0_clamped 0 = .ok (.iload_n 1, 1) := by decide +kernel
theorem dX0_clamped_1 : decode cX0_clamped 1 = .ok (.ifCond .ne 16, 3) := by decide +kernel
theorem dX0_clamped_4 : decode cX0_clamped 4 = .ok (.aload_n 0, 1) := by decide +kernel
theorem dX0_clamped_5 : decode cX0_clamped 5 = .ok (.getfield 7, 3) := by decide +kernel
theorem dX0_clamped_8 : decode cX0_clamped 8 = .ok (.iconst 0, 1) := by decide +kernel
theorem dX0_clamped_9 : decode cX0_clamped 9 = .ok (.laload, 1) := by decide +kernel
theorem dX0_clamped_10 : decode cX0_clamped 10 = .ok (.ldc2_w 82, 3) := by decide +kernel
theorem dX0_clamped_13 : decode cX0_clamped 13 = .ok (.land, 1) := by decide +kernel
theorem dX0_clamped_14 : decode cX0_clamped 14 = .ok (.goto 31, 3) := by decide +kernel
theorem dX0_clamped_17 : decode cX0_clamped 17 = .ok (.iload_n 1, 1) := by decide +kernel
theorem dX0_clamped_18 : decode cX0_clamped 18 = .ok (.iconst 3, 1) := by decide +kernel
theorem dX0_clamped_19 : decode cX0_clamped 19 = .ok (.if_icmp .ne 20, 3) := by decide +kernel
theorem dX0_clamped_22 : decode cX0_clamped 22 = .ok (.aload_n 0, 1) := by decide +kernel
theorem dX0_clamped_23 : decode cX0_clamped 23 = .ok (.getfield 7, 3) := by decide +kernel
theorem dX0_clamped_26 : decode cX0_clamped 26 = .ok (.iconst 3, 1) := by decide +kernel
theorem dX0_clamped_27 : decode cX0_clamped 27 = .ok (.laload, 1) := by decide +kernel
theorem dX0_clamped_28 : decode cX0_clamped 28 = .ok (.ldc2_w 86, 3) := by decide +kernel
theorem dX0_clamped_31 : decode cX0_clamped 31 = .ok (.land, 1) := by decide +kernel
theorem dX0_clamped_32 : decode cX0_clamped 32 = .ok (.ldc2_w 88, 3) := by decide +kernel
theorem dX0_clamped_35 : decode cX0_clamped 35 = .ok (.lor, 1) := by decide +kernel
theorem dX0_clamped_36 : decode cX0_clamped 36 = .ok (.goto 9, 3) := by decide +kernel
theorem dX0_clamped_39 : decode cX0_clamped 39 = .ok (.aload_n 0, 1) := by decide +kernel
theorem dX0_clamped_40 : decode cX0_clamped 40 = .ok (.getfield 7, 3) := by decide +kernel
theorem dX0_clamped_43 : decode cX0_clamped 43 = .ok (.iload_n 1, 1) := by decide +kernel
theorem dX0_clamped_44 : decode cX0_clamped 44 = .ok (.laload, 1) := by decide +kernel
theorem dX0_clamped_45 : decode cX0_clamped 45 = .ok (.lreturn, 1) := by decide +kernel
abbrev cX0_finish : ByteArray := prog_1_method_9_code
def yX0_finish : MethodName := ⟨RX0, "finish", "()I"⟩
theorem dX0_finish_0 : decode cX0_finish 0 = .ok (.aload_n 0, 1) := by decide +kernel
theorem dX0_finish_1 : decode cX0_finish 1 = .ok (.getfield 74, 3) := by decide +kernel
theorem dX0_finish_4 : decode cX0_finish 4 = .ok (.iconst 1, 1) := by decide +kernel
theorem dX0_finish_5 : decode cX0_finish 5 = .ok (.if_icmp .ne 13, 3) := by decide +kernel
theorem dX0_finish_8 : decode cX0_finish 8 = .ok (.aload_n 0, 1) := by decide +kernel
theorem dX0_finish_9 : decode cX0_finish 9 = .ok (.getfield 90, 3) := by decide +kernel
theorem dX0_finish_12 : decode cX0_finish 12 = .ok (.sipush 255, 3) := by decide +kernel
theorem dX0_finish_15 : decode cX0_finish 15 = .ok (.if_icmp .ge 5, 3) := by decide +kernel
theorem dX0_finish_18 : decode cX0_finish 18 = .ok (.iconst 0, 1) := by decide +kernel
theorem dX0_finish_19 : decode cX0_finish 19 = .ok (.ireturn, 1) := by decide +kernel
theorem dX0_finish_20 : decode cX0_finish 20 = .ok (.aload_n 0, 1) := by decide +kernel
theorem dX0_finish_21 : decode cX0_finish 21 = .ok (.getfield 19, 3) := by decide +kernel
theorem dX0_finish_24 : decode cX0_finish 24 = .ok (.aload_n 0, 1) := by decide +kernel
theorem dX0_finish_25 : decode cX0_finish 25 = .ok (.getfield 33, 3) := by decide +kernel
theorem dX0_finish_28 : decode cX0_finish 28 = .ok (.aload_n 0, 1) := by decide +kernel
theorem dX0_finish_29 : decode cX0_finish 29 = .ok (.getfield 60, 3) := by decide +kernel
theorem dX0_finish_32 : decode cX0_finish 32 = .ok (.aload_n 0, 1) := by decide +kernel
theorem dX0_finish_33 : decode cX0_finish 33 = .ok (.getfield 42, 3) := by decide +kernel
theorem dX0_finish_36 : decode cX0_finish 36 = .ok (.invokevirtual 122, 3) := by decide +kernel
theorem dX0_finish_39 : decode cX0_finish 39 = .ok (.aload_n 0, 1) := by decide +kernel
theorem dX0_finish_40 : decode cX0_finish 40 = .ok (.getfield 19, 3) := by decide +kernel
theorem dX0_finish_43 : decode cX0_finish 43 = .ok (.aload_n 0, 1) := by decide +kernel
theorem dX0_finish_44 : decode cX0_finish 44 = .ok (.getfield 60, 3) := by decide +kernel
theorem dX0_finish_47 : decode cX0_finish 47 = .ok (.aload_n 0, 1) := by decide +kernel
theorem dX0_finish_48 : decode cX0_finish 48 = .ok (.getfield 30, 3) := by decide +kernel
theorem dX0_finish_51 : decode cX0_finish 51 = .ok (.aload_n 0, 1) := by decide +kernel
theorem dX0_finish_52 : decode cX0_finish 52 = .ok (.getfield 60, 3) := by decide +kernel
theorem dX0_finish_55 : decode cX0_finish 55 = .ok (.invokevirtual 115, 3) := by decide +kernel
theorem dX0_finish_58 : decode cX0_finish 58 = .ok (.aload_n 0, 1) := by decide +kernel
theorem dX0_finish_59 : decode cX0_finish 59 = .ok (.getfield 60, 3) := by decide +kernel
theorem dX0_finish_62 : decode cX0_finish 62 = .ok (.invokevirtual 125, 3) := by decide +kernel
theorem dX0_finish_65 : decode cX0_finish 65 = .ok (.aload_n 0, 1) := by decide +kernel
theorem dX0_finish_66 : decode cX0_finish 66 = .ok (.iconst 2, 1) := by decide +kernel
theorem dX0_finish_67 : decode cX0_finish 67 = .ok (.putfield 74, 3) := by decide +kernel
theorem dX0_finish_70 : decode cX0_finish 70 = .ok (.aload_n 0, 1) := by decide +kernel
theorem dX0_finish_71 : decode cX0_finish 71 = .ok (.dup, 1) := by decide +kernel
theorem dX0_finish_72 : decode cX0_finish 72 = .ok (.getfield 128, 3) := by decide +kernel
theorem dX0_finish_75 : decode cX0_finish 75 = .ok (.iconst 1, 1) := by decide +kernel
theorem dX0_finish_76 : decode cX0_finish 76 = .ok (.iadd, 1) := by decide +kernel
theorem dX0_finish_77 : decode cX0_finish 77 = .ok (.putfield 128, 3) := by decide +kernel
theorem dX0_finish_80 : decode cX0_finish 80 = .ok (.iconst 1, 1) := by decide +kernel
theorem dX0_finish_81 : decode cX0_finish 81 = .ok (.ireturn, 1) := by decide +kernel
abbrev cX0_again : ByteArray := prog_1_method_10_code
def yX0_again : MethodName := ⟨RX0, "again", "()I"⟩
theorem dX0_again_0 : decode cX0_again 0 = .ok (.aload_n 0, 1) := by decide +kernel
theorem dX0_again_1 : decode cX0_again 1 = .ok (.getfield 74, 3) := by decide +kernel
theorem dX0_again_4 : decode cX0_again 4 = .ok (.iconst 2, 1) := by decide +kernel
theorem dX0_again_5 : decode cX0_again 5 = .ok (.if_icmp .eq 5, 3) := by decide +kernel
theorem dX0_again_8 : decode cX0_again 8 = .ok (.iconst 0, 1) := by decide +kernel
theorem dX0_again_9 : decode cX0_again 9 = .ok (.ireturn, 1) := by decide +kernel
theorem dX0_again_10 : decode cX0_again 10 = .ok (.iconst 0, 1) := by decide +kernel
theorem dX0_again_11 : decode cX0_again 11 = .ok (.istore_n 1, 1) := by decide +kernel
theorem dX0_again_12 : decode cX0_again 12 = .ok (.iload_n 1, 1) := by decide +kernel
theorem dX0_again_13 : decode cX0_again 13 = .ok (.iconst 4, 1) := by decide +kernel
theorem dX0_again_14 : decode cX0_again 14 = .ok (.if_icmp .ge 23, 3) := by decide +kernel
theorem dX0_again_17 : decode cX0_again 17 = .ok (.aload_n 0, 1) := by decide +kernel
theorem dX0_again_18 : decode cX0_again 18 = .ok (.getfield 13, 3) := by decide +kernel
theorem dX0_again_21 : decode cX0_again 21 = .ok (.iload_n 1, 1) := by decide +kernel
theorem dX0_again_22 : decode cX0_again 22 = .ok (.aload_n 0, 1) := by decide +kernel
theorem dX0_again_23 : decode cX0_again 23 = .ok (.getfield 60, 3) := by decide +kernel
theorem dX0_again_26 : decode cX0_again 26 = .ok (.iload_n 1, 1) := by decide +kernel
theorem dX0_again_27 : decode cX0_again 27 = .ok (.invokevirtual 131, 3) := by decide +kernel
theorem dX0_again_30 : decode cX0_again 30 = .ok (.lastore, 1) := by decide +kernel
theorem dX0_again_31 : decode cX0_again 31 = .ok (.iinc 1 1, 3) := by decide +kernel
theorem dX0_again_34 : decode cX0_again 34 = .ok (.goto (-22), 3) := by decide +kernel
theorem dX0_again_37 : decode cX0_again 37 = .ok (.aload_n 0, 1) := by decide +kernel
theorem dX0_again_38 : decode cX0_again 38 = .ok (.iconst 0, 1) := by decide +kernel
theorem dX0_again_39 : decode cX0_again 39 = .ok (.putfield 74, 3) := by decide +kernel
theorem dX0_again_42 : decode cX0_again 42 = .ok (.iconst 1, 1) := by decide +kernel
theorem dX0_again_43 : decode cX0_again 43 = .ok (.ireturn, 1) := by decide +kernel
abbrev cX0_reset : ByteArray := prog_1_method_11_code
def yX0_reset : MethodName := ⟨RX0, "reset", "()I"⟩
theorem dX0_reset_0 : decode cX0_reset 0 = .ok (.aload_n 0, 1) := by decide +kernel
theorem dX0_reset_1 : decode cX0_reset 1 = .ok (.getfield 74, 3) := by decide +kernel
theorem dX0_reset_4 : decode cX0_reset 4 = .ok (.istore_n 1, 1) := by decide +kernel
theorem dX0_reset_5 : decode cX0_reset 5 = .ok (.aload_n 0, 1) := by decide +kernel
theorem dX0_reset_6 : decode cX0_reset 6 = .ok (.iconst 0, 1) := by decide +kernel
theorem dX0_reset_7 : decode cX0_reset 7 = .ok (.putfield 74, 3) := by decide +kernel
theorem dX0_reset_10 : decode cX0_reset 10 = .ok (.iload_n 1, 1) := by decide +kernel
theorem dX0_reset_11 : decode cX0_reset 11 = .ok (.ireturn, 1) := by decide +kernel
abbrev cX0_phase : ByteArray := prog_1_method_12_code
def yX0_phase : MethodName := ⟨RX0, "phase", "()I"⟩
theorem dX0_phase_0 : decode cX0_phase 0 = .ok (.aload_n 0, 1) := by decide +kernel
theorem dX0_phase_1 : decode cX0_phase 1 = .ok (.getfield 74, 3) := by decide +kernel
theorem dX0_phase_4 : decode cX0_phase 4 = .ok (.ireturn, 1) := by decide +kernel
abbrev cX0_out : ByteArray := prog_1_method_13_code
def yX0_out : MethodName := ⟨RX0, "out", "(I)J"⟩
theorem dX0_out_0 : decode cX0_out 0 = .ok (.aload_n 0, 1) := by decide +kernel
theorem dX0_out_1 : decode cX0_out 1 = .ok (.getfield 74, 3) := by decide +kernel
theorem dX0_out_4 : decode cX0_out 4 = .ok (.iconst 2, 1) := by decide +kernel
theorem dX0_out_5 : decode cX0_out 5 = .ok (.if_icmp .ne 21, 3) := by decide +kernel
theorem dX0_out_8 : decode cX0_out 8 = .ok (.iload_n 1, 1) := by decide +kernel
theorem dX0_out_9 : decode cX0_out 9 = .ok (.invokestatic 78, 3) := by decide +kernel
theorem dX0_out_12 : decode cX0_out 12 = .ok (.ifCond .eq 14, 3) := by decide +kernel
theorem dX0_out_15 : decode cX0_out 15 = .ok (.aload_n 0, 1) := by decide +kernel
theorem dX0_out_16 : decode cX0_out 16 = .ok (.getfield 60, 3) := by decide +kernel
theorem dX0_out_19 : decode cX0_out 19 = .ok (.iload_n 1, 1) := by decide +kernel
theorem dX0_out_20 : decode cX0_out 20 = .ok (.invokevirtual 131, 3) := by decide +kernel
theorem dX0_out_23 : decode cX0_out 23 = .ok (.goto 4, 3) := by decide +kernel
theorem dX0_out_26 : decode cX0_out 26 = .ok (.lconst 0, 1) := by decide +kernel
theorem dX0_out_27 : decode cX0_out 27 = .ok (.lreturn, 1) := by decide +kernel
abbrev cX0_part : ByteArray := prog_1_method_15_code
def yX0_part : MethodName := ⟨RX0, "part", "(II)J"⟩
theorem dX0_part_0 : decode cX0_part 0 = .ok (.aload_n 0, 1) := by decide +kernel
theorem dX0_part_1 : decode cX0_part 1 = .ok (.getfield 74, 3) := by decide +kernel
theorem dX0_part_4 : decode cX0_part 4 = .ok (.ifCond .eq 19, 3) := by decide +kernel
theorem dX0_part_7 : decode cX0_part 7 = .ok (.iload_n 1, 1) := by decide +kernel
theorem dX0_part_8 : decode cX0_part 8 = .ok (.ifCond .lt 15, 3) := by decide +kernel
theorem dX0_part_11 : decode cX0_part 11 = .ok (.iload_n 1, 1) := by decide +kernel
theorem dX0_part_12 : decode cX0_part 12 = .ok (.iconst 4, 1) := by decide +kernel
theorem dX0_part_13 : decode cX0_part 13 = .ok (.if_icmp .gt 10, 3) := by decide +kernel
theorem dX0_part_16 : decode cX0_part 16 = .ok (.iload_n 2, 1) := by decide +kernel
theorem dX0_part_17 : decode cX0_part 17 = .ok (.invokestatic 78, 3) := by decide +kernel
theorem dX0_part_20 : decode cX0_part 20 = .ok (.ifCond .ne 5, 3) := by decide +kernel
theorem dX0_part_23 : decode cX0_part 23 = .ok (.lconst 0, 1) := by decide +kernel
theorem dX0_part_24 : decode cX0_part 24 = .ok (.lreturn, 1) := by decide +kernel
theorem dX0_part_25 : decode cX0_part 25 = .ok (.aload_n 0, 1) := by decide +kernel
theorem dX0_part_26 : decode cX0_part 26 = .ok (.getfield 63, 3) := by decide +kernel
theorem dX0_part_29 : decode cX0_part 29 = .ok (.aload_n 0, 1) := by decide +kernel
theorem dX0_part_30 : decode cX0_part 30 = .ok (.iload_n 1, 1) := by decide +kernel
theorem dX0_part_31 : decode cX0_part 31 = .ok (.invokevirtual 134, 3) := by decide +kernel
theorem dX0_part_34 : decode cX0_part 34 = .ok (.invokevirtual 97, 3) := by decide +kernel
theorem dX0_part_37 : decode cX0_part 37 = .ok (.aload_n 0, 1) := by decide +kernel
theorem dX0_part_38 : decode cX0_part 38 = .ok (.getfield 63, 3) := by decide +kernel
theorem dX0_part_41 : decode cX0_part 41 = .ok (.invokevirtual 125, 3) := by decide +kernel
theorem dX0_part_44 : decode cX0_part 44 = .ok (.aload_n 0, 1) := by decide +kernel
theorem dX0_part_45 : decode cX0_part 45 = .ok (.getfield 63, 3) := by decide +kernel
theorem dX0_part_48 : decode cX0_part 48 = .ok (.iload_n 2, 1) := by decide +kernel
theorem dX0_part_49 : decode cX0_part 49 = .ok (.invokevirtual 131, 3) := by decide +kernel
theorem dX0_part_52 : decode cX0_part 52 = .ok (.lreturn, 1) := by decide +kernel
abbrev cX0_which : ByteArray := prog_1_method_14_code
def yX0_which : MethodName := ⟨RX0, "which", "(I)LLadderDesk$Number;"⟩
theorem dX0_which_0 : decode cX0_which 0 = .ok (.iload_n 1, 1) := by decide +kernel
theorem dX0_which_1 : decode cX0_which 1 = .ok (.ifCond .ne 10, 3) := by decide +kernel
theorem dX0_which_4 : decode cX0_which 4 = .ok (.aload_n 0, 1) := by decide +kernel
theorem dX0_which_5 : decode cX0_which 5 = .ok (.getfield 30, 3) := by decide +kernel
theorem dX0_which_8 : decode cX0_which 8 = .ok (.goto 43, 3) := by decide +kernel
theorem dX0_which_11 : decode cX0_which 11 = .ok (.iload_n 1, 1) := by decide +kernel
theorem dX0_which_12 : decode cX0_which 12 = .ok (.iconst 1, 1) := by decide +kernel
theorem dX0_which_13 : decode cX0_which 13 = .ok (.if_icmp .ne 10, 3) := by decide +kernel
theorem dX0_which_16 : decode cX0_which 16 = .ok (.aload_n 0, 1) := by decide +kernel
theorem dX0_which_17 : decode cX0_which 17 = .ok (.getfield 33, 3) := by decide +kernel
theorem dX0_which_20 : decode cX0_which 20 = .ok (.goto 31, 3) := by decide +kernel
theorem dX0_which_23 : decode cX0_which 23 = .ok (.iload_n 1, 1) := by decide +kernel
theorem dX0_which_24 : decode cX0_which 24 = .ok (.iconst 2, 1) := by decide +kernel
theorem dX0_which_25 : decode cX0_which 25 = .ok (.if_icmp .ne 10, 3) := by decide +kernel
theorem dX0_which_28 : decode cX0_which 28 = .ok (.aload_n 0, 1) := by decide +kernel
theorem dX0_which_29 : decode cX0_which 29 = .ok (.getfield 36, 3) := by decide +kernel
theorem dX0_which_32 : decode cX0_which 32 = .ok (.goto 19, 3) := by decide +kernel
theorem dX0_which_35 : decode cX0_which 35 = .ok (.iload_n 1, 1) := by decide +kernel
theorem dX0_which_36 : decode cX0_which 36 = .ok (.iconst 3, 1) := by decide +kernel
theorem dX0_which_37 : decode cX0_which 37 = .ok (.if_icmp .ne 10, 3) := by decide +kernel
theorem dX0_which_40 : decode cX0_which 40 = .ok (.aload_n 0, 1) := by decide +kernel
theorem dX0_which_41 : decode cX0_which 41 = .ok (.getfield 39, 3) := by decide +kernel
theorem dX0_which_44 : decode cX0_which 44 = .ok (.goto 7, 3) := by decide +kernel
theorem dX0_which_47 : decode cX0_which 47 = .ok (.aload_n 0, 1) := by decide +kernel
theorem dX0_which_48 : decode cX0_which 48 = .ok (.getfield 26, 3) := by decide +kernel
theorem dX0_which_51 : decode cX0_which 51 = .ok (.areturn, 1) := by decide +kernel
abbrev cX0_told : ByteArray := prog_1_method_16_code
def yX0_told : MethodName := ⟨RX0, "told", "(II)J"⟩
theorem dX0_told_0 : decode cX0_told 0 = .ok (.iload_n 1, 1) := by decide +kernel
theorem dX0_told_1 : decode cX0_told 1 = .ok (.ifCond .lt 15, 3) := by decide +kernel
theorem dX0_told_4 : decode cX0_told 4 = .ok (.iload_n 1, 1) := by decide +kernel
theorem dX0_told_5 : decode cX0_told 5 = .ok (.iconst 3, 1) := by decide +kernel
theorem dX0_told_6 : decode cX0_told 6 = .ok (.if_icmp .gt 10, 3) := by decide +kernel
theorem dX0_told_9 : decode cX0_told 9 = .ok (.iload_n 2, 1) := by decide +kernel
theorem dX0_told_10 : decode cX0_told 10 = .ok (.invokestatic 78, 3) := by decide +kernel
theorem dX0_told_13 : decode cX0_told 13 = .ok (.ifCond .ne 5, 3) := by decide +kernel
theorem dX0_told_16 : decode cX0_told 16 = .ok (.lconst 0, 1) := by decide +kernel
theorem dX0_told_17 : decode cX0_told 17 = .ok (.lreturn, 1) := by decide +kernel
theorem dX0_told_18 : decode cX0_told 18 = .ok (.iload_n 1, 1) := by decide +kernel
theorem dX0_told_19 : decode cX0_told 19 = .ok (.iconst 3, 1) := by decide +kernel
theorem dX0_told_20 : decode cX0_told 20 = .ok (.if_icmp .ne 21, 3) := by decide +kernel
theorem dX0_told_23 : decode cX0_told 23 = .ok (.aload_n 0, 1) := by decide +kernel
theorem dX0_told_24 : decode cX0_told 24 = .ok (.getfield 63, 3) := by decide +kernel
theorem dX0_told_27 : decode cX0_told 27 = .ok (.aload_n 0, 1) := by decide +kernel
theorem dX0_told_28 : decode cX0_told 28 = .ok (.getfield 13, 3) := by decide +kernel
theorem dX0_told_31 : decode cX0_told 31 = .ok (.invokevirtual 93, 3) := by decide +kernel
theorem dX0_told_34 : decode cX0_told 34 = .ok (.aload_n 0, 1) := by decide +kernel
theorem dX0_told_35 : decode cX0_told 35 = .ok (.getfield 63, 3) := by decide +kernel
theorem dX0_told_38 : decode cX0_told 38 = .ok (.invokevirtual 125, 3) := by decide +kernel
theorem dX0_told_41 : decode cX0_told 41 = .ok (.iload_n 1, 1) := by decide +kernel
theorem dX0_told_42 : decode cX0_told 42 = .ok (.ifCond .ne 12, 3) := by decide +kernel
theorem dX0_told_45 : decode cX0_told 45 = .ok (.aload_n 0, 1) := by decide +kernel
theorem dX0_told_46 : decode cX0_told 46 = .ok (.getfield 7, 3) := by decide +kernel
theorem dX0_told_49 : decode cX0_told 49 = .ok (.iload_n 2, 1) := by decide +kernel
theorem dX0_told_50 : decode cX0_told 50 = .ok (.laload, 1) := by decide +kernel
theorem dX0_told_51 : decode cX0_told 51 = .ok (.goto 38, 3) := by decide +kernel
theorem dX0_told_54 : decode cX0_told 54 = .ok (.iload_n 1, 1) := by decide +kernel
theorem dX0_told_55 : decode cX0_told 55 = .ok (.iconst 1, 1) := by decide +kernel
theorem dX0_told_56 : decode cX0_told 56 = .ok (.if_icmp .ne 12, 3) := by decide +kernel
theorem dX0_told_59 : decode cX0_told 59 = .ok (.aload_n 0, 1) := by decide +kernel
theorem dX0_told_60 : decode cX0_told 60 = .ok (.getfield 13, 3) := by decide +kernel
theorem dX0_told_63 : decode cX0_told 63 = .ok (.iload_n 2, 1) := by decide +kernel
theorem dX0_told_64 : decode cX0_told 64 = .ok (.laload, 1) := by decide +kernel
theorem dX0_told_65 : decode cX0_told 65 = .ok (.goto 24, 3) := by decide +kernel
theorem dX0_told_68 : decode cX0_told 68 = .ok (.iload_n 1, 1) := by decide +kernel
theorem dX0_told_69 : decode cX0_told 69 = .ok (.iconst 2, 1) := by decide +kernel
theorem dX0_told_70 : decode cX0_told 70 = .ok (.if_icmp .ne 11, 3) := by decide +kernel
theorem dX0_told_73 : decode cX0_told 73 = .ok (.aload_n 0, 1) := by decide +kernel
theorem dX0_told_74 : decode cX0_told 74 = .ok (.iload_n 2, 1) := by decide +kernel
theorem dX0_told_75 : decode cX0_told 75 = .ok (.invokevirtual 100, 3) := by decide +kernel
theorem dX0_told_78 : decode cX0_told 78 = .ok (.goto 11, 3) := by decide +kernel
theorem dX0_told_81 : decode cX0_told 81 = .ok (.aload_n 0, 1) := by decide +kernel
theorem dX0_told_82 : decode cX0_told 82 = .ok (.getfield 63, 3) := by decide +kernel
theorem dX0_told_85 : decode cX0_told 85 = .ok (.iload_n 2, 1) := by decide +kernel
theorem dX0_told_86 : decode cX0_told 86 = .ok (.invokevirtual 131, 3) := by decide +kernel
theorem dX0_told_89 : decode cX0_told 89 = .ok (.lreturn, 1) := by decide +kernel
abbrev cX0_count : ByteArray := prog_1_method_17_code
def yX0_count : MethodName := ⟨RX0, "count", "(I)I"⟩
theorem dX0_count_0 : decode cX0_count 0 = .ok (.iload_n 1, 1) := by decide +kernel
theorem dX0_count_1 : decode cX0_count 1 = .ok (.ifCond .ne 21, 3) := by decide +kernel
theorem dX0_count_4 : decode cX0_count 4 = .ok (.aload_n 0, 1) := by decide +kernel
theorem dX0_count_5 : decode cX0_count 5 = .ok (.getfield 74, 3) := by decide +kernel
theorem dX0_count_8 : decode cX0_count 8 = .ok (.ifCond .ne 7, 3) := by decide +kernel
theorem dX0_count_11 : decode cX0_count 11 = .ok (.iconst 0, 1) := by decide +kernel
theorem dX0_count_12 : decode cX0_count 12 = .ok (.goto 23, 3) := by decide +kernel
theorem dX0_count_15 : decode cX0_count 15 = .ok (.aload_n 0, 1) := by decide +kernel
theorem dX0_count_16 : decode cX0_count 16 = .ok (.getfield 90, 3) := by decide +kernel
theorem dX0_count_19 : decode cX0_count 19 = .ok (.goto 16, 3) := by decide +kernel
theorem dX0_count_22 : decode cX0_count 22 = .ok (.iload_n 1, 1) := by decide +kernel
theorem dX0_count_23 : decode cX0_count 23 = .ok (.iconst 1, 1) := by decide +kernel
theorem dX0_count_24 : decode cX0_count 24 = .ok (.if_icmp .ne 10, 3) := by decide +kernel
theorem dX0_count_27 : decode cX0_count 27 = .ok (.aload_n 0, 1) := by decide +kernel
theorem dX0_count_28 : decode cX0_count 28 = .ok (.getfield 128, 3) := by decide +kernel
theorem dX0_count_31 : decode cX0_count 31 = .ok (.goto 4, 3) := by decide +kernel
theorem dX0_count_34 : decode cX0_count 34 = .ok (.iconst (-1), 1) := by decide +kernel
theorem dX0_count_35 : decode cX0_count 35 = .ok (.ireturn, 1) := by decide +kernel
abbrev cX0_check : ByteArray := prog_1_method_18_code
def yX0_check : MethodName := ⟨RX0, "check", "()I"⟩
theorem dX0_check_0 : decode cX0_check 0 = .ok (.aload_n 0, 1) := by decide +kernel
theorem dX0_check_1 : decode cX0_check 1 = .ok (.getfield 74, 3) := by decide +kernel
theorem dX0_check_4 : decode cX0_check 4 = .ok (.iconst 2, 1) := by decide +kernel
theorem dX0_check_5 : decode cX0_check 5 = .ok (.if_icmp .eq 5, 3) := by decide +kernel
theorem dX0_check_8 : decode cX0_check 8 = .ok (.iconst 1, 1) := by decide +kernel
theorem dX0_check_9 : decode cX0_check 9 = .ok (.ireturn, 1) := by decide +kernel
theorem dX0_check_10 : decode cX0_check 10 = .ok (.aload_n 0, 1) := by decide +kernel
theorem dX0_check_11 : decode cX0_check 11 = .ok (.getfield 19, 3) := by decide +kernel
theorem dX0_check_14 : decode cX0_check 14 = .ok (.aload_n 0, 1) := by decide +kernel
theorem dX0_check_15 : decode cX0_check 15 = .ok (.getfield 60, 3) := by decide +kernel
theorem dX0_check_18 : decode cX0_check 18 = .ok (.aload_n 0, 1) := by decide +kernel
theorem dX0_check_19 : decode cX0_check 19 = .ok (.getfield 33, 3) := by decide +kernel
theorem dX0_check_22 : decode cX0_check 22 = .ok (.aload_n 0, 1) := by decide +kernel
theorem dX0_check_23 : decode cX0_check 23 = .ok (.getfield 42, 3) := by decide +kernel
theorem dX0_check_26 : decode cX0_check 26 = .ok (.invokevirtual 115, 3) := by decide +kernel
theorem dX0_check_29 : decode cX0_check 29 = .ok (.aload_n 0, 1) := by decide +kernel
theorem dX0_check_30 : decode cX0_check 30 = .ok (.getfield 42, 3) := by decide +kernel
theorem dX0_check_33 : decode cX0_check 33 = .ok (.aload_n 0, 1) := by decide +kernel
theorem dX0_check_34 : decode cX0_check 34 = .ok (.getfield 42, 3) := by decide +kernel
theorem dX0_check_37 : decode cX0_check 37 = .ok (.aload_n 0, 1) := by decide +kernel
theorem dX0_check_38 : decode cX0_check 38 = .ok (.getfield 30, 3) := by decide +kernel
theorem dX0_check_41 : decode cX0_check 41 = .ok (.invokevirtual 112, 3) := by decide +kernel
theorem dX0_check_44 : decode cX0_check 44 = .ok (.aload_n 0, 1) := by decide +kernel
theorem dX0_check_45 : decode cX0_check 45 = .ok (.getfield 42, 3) := by decide +kernel
theorem dX0_check_48 : decode cX0_check 48 = .ok (.invokevirtual 125, 3) := by decide +kernel
theorem dX0_check_51 : decode cX0_check 51 = .ok (.aload_n 0, 1) := by decide +kernel
theorem dX0_check_52 : decode cX0_check 52 = .ok (.getfield 63, 3) := by decide +kernel
theorem dX0_check_55 : decode cX0_check 55 = .ok (.aload_n 0, 1) := by decide +kernel
theorem dX0_check_56 : decode cX0_check 56 = .ok (.getfield 33, 3) := by decide +kernel
theorem dX0_check_59 : decode cX0_check 59 = .ok (.invokevirtual 97, 3) := by decide +kernel
theorem dX0_check_62 : decode cX0_check 62 = .ok (.aload_n 0, 1) := by decide +kernel
theorem dX0_check_63 : decode cX0_check 63 = .ok (.getfield 63, 3) := by decide +kernel
theorem dX0_check_66 : decode cX0_check 66 = .ok (.invokevirtual 125, 3) := by decide +kernel
theorem dX0_check_69 : decode cX0_check 69 = .ok (.aload_n 0, 1) := by decide +kernel
theorem dX0_check_70 : decode cX0_check 70 = .ok (.getfield 63, 3) := by decide +kernel
theorem dX0_check_73 : decode cX0_check 73 = .ok (.invokevirtual 138, 3) := by decide +kernel
theorem dX0_check_76 : decode cX0_check 76 = .ok (.ifCond .eq 21, 3) := by decide +kernel
theorem dX0_check_79 : decode cX0_check 79 = .ok (.aload_n 0, 1) := by decide +kernel
theorem dX0_check_80 : decode cX0_check 80 = .ok (.getfield 60, 3) := by decide +kernel
theorem dX0_check_83 : decode cX0_check 83 = .ok (.invokevirtual 138, 3) := by decide +kernel
theorem dX0_check_86 : decode cX0_check 86 = .ok (.ifCond .eq 7, 3) := by decide +kernel
theorem dX0_check_89 : decode cX0_check 89 = .ok (.iconst 1, 1) := by decide +kernel
theorem dX0_check_90 : decode cX0_check 90 = .ok (.goto 22, 3) := by decide +kernel
theorem dX0_check_93 : decode cX0_check 93 = .ok (.iconst 0, 1) := by decide +kernel
theorem dX0_check_94 : decode cX0_check 94 = .ok (.goto 18, 3) := by decide +kernel
theorem dX0_check_97 : decode cX0_check 97 = .ok (.aload_n 0, 1) := by decide +kernel
theorem dX0_check_98 : decode cX0_check 98 = .ok (.getfield 42, 3) := by decide +kernel
theorem dX0_check_101 : decode cX0_check 101 = .ok (.invokevirtual 138, 3) := by decide +kernel
theorem dX0_check_104 : decode cX0_check 104 = .ok (.ifCond .eq 7, 3) := by decide +kernel
theorem dX0_check_107 : decode cX0_check 107 = .ok (.iconst 1, 1) := by decide +kernel
theorem dX0_check_108 : decode cX0_check 108 = .ok (.goto 4, 3) := by decide +kernel
theorem dX0_check_111 : decode cX0_check 111 = .ok (.iconst 0, 1) := by decide +kernel
theorem dX0_check_112 : decode cX0_check 112 = .ok (.ireturn, 1) := by decide +kernel
theorem q21 : (Jvm.Cond.initialized "LadderDesk") ∈ lw_all := lw_g (lw_at lw_m1 1 rfl) rfl
theorem q27 : (Jvm.Cond.instantiable "LadderDesk" (19 : Nat)) ∈ lw_all := lw_g (lw_at lw_m1 7 rfl) rfl
theorem q29 : (Jvm.Cond.instanceMethod ({ cls := "LadderDesk", name := "<init>", desc := "()V" } : Jvm.MethodName)) ∈ lw_all := lw_g (lw_at lw_m1 9 rfl) rfl
theorem q30 : (Jvm.Cond.code ({ cls := "LadderDesk", name := "<init>", desc := "()V" } : Jvm.MethodName) prog_1_method_1_code (1 : Nat) (Option.none : Option Jvm.ClassFile.FieldType)) ∈ lw_all := lw_g (lw_at lw_m1 10 rfl) rfl
theorem q31 : (Jvm.Cond.methodLink "LadderDesk" (1 : Nat) ({ cls := "java/lang/Object", name := "<init>", desc := "()V" } : Jvm.MethodName)) ∈ lw_all := lw_g (lw_at lw_m1 11 rfl) rfl
theorem q34 : (Jvm.Cond.classLink "LadderDesk" (16 : Nat) "LadderDesk$Products") ∈ lw_all := lw_g (lw_at lw_m1 14 rfl) rfl
theorem q36 : (Jvm.Cond.methodLinkNest "LadderDesk" (18 : Nat) ({ cls := "LadderDesk$Products", name := "<init>", desc := "()V" } : Jvm.MethodName) "LadderDesk") ∈ lw_tbl := lw_at lw_m1 16 rfl
theorem q45 : (Jvm.Cond.classLink "LadderDesk" (23 : Nat) "LadderDesk$Number") ∈ lw_all := lw_g (lw_at lw_m1 25 rfl) rfl
theorem q47 : (Jvm.Cond.methodLinkNest "LadderDesk" (25 : Nat) ({ cls := "LadderDesk$Number", name := "<init>", desc := "()V" } : Jvm.MethodName) "LadderDesk") ∈ lw_tbl := lw_at lw_m1 27 rfl
theorem q52 : (Jvm.Cond.fieldLinkNest "LadderDesk" (71 : Nat) "LadderDesk$Number" "parts" "[J" "LadderDesk") ∈ lw_tbl := lw_at lw_m1 32 rfl
theorem q60 : (Jvm.Cond.constant "LadderDesk" (66 : Nat) (56129 : Int32)) ∈ lw_all := lw_g (lw_at lw_m1 40 rfl) rfl
theorem q61 : (Jvm.Cond.methodLink "LadderDesk" (67 : Nat) ({ cls := "LadderDesk$Number", name := "set", desc := "(I)V" } : Jvm.MethodName)) ∈ lw_all := lw_g (lw_at lw_m1 41 rfl) rfl
theorem q65 : (Jvm.Cond.fieldLink "LadderDesk" (7 : Nat) "LadderDesk" "scalar" "[J") ∈ lw_all := lw_g (lw_at lw_m1 45 rfl) rfl
theorem q66 : (Jvm.Cond.fieldLink "LadderDesk" (13 : Nat) "LadderDesk" "point" "[J") ∈ lw_all := lw_g (lw_at lw_m1 46 rfl) rfl
theorem q67 : (Jvm.Cond.fieldLink "LadderDesk" (74 : Nat) "LadderDesk" "phase" "I") ∈ lw_all := lw_g (lw_at lw_m1 47 rfl) rfl
theorem q68 : (Jvm.Cond.fieldLink "LadderDesk" (90 : Nat) "LadderDesk" "made" "I") ∈ lw_all := lw_g (lw_at lw_m1 48 rfl) rfl
theorem q69 : (Jvm.Cond.fieldLink "LadderDesk" (128 : Nat) "LadderDesk" "results" "I") ∈ lw_all := lw_g (lw_at lw_m1 49 rfl) rfl
theorem q70 : (Jvm.Cond.fieldLink "LadderDesk" (19 : Nat) "LadderDesk" "products" "LLadderDesk$Products;") ∈ lw_all := lw_g (lw_at lw_m1 50 rfl) rfl
theorem q71 : (Jvm.Cond.fieldLink "LadderDesk" (26 : Nat) "LadderDesk" "u" "LLadderDesk$Number;") ∈ lw_all := lw_g (lw_at lw_m1 51 rfl) rfl
theorem q72 : (Jvm.Cond.fieldLink "LadderDesk" (30 : Nat) "LadderDesk" "x2" "LLadderDesk$Number;") ∈ lw_all := lw_g (lw_at lw_m1 52 rfl) rfl
theorem q73 : (Jvm.Cond.fieldLink "LadderDesk" (33 : Nat) "LadderDesk" "z2" "LLadderDesk$Number;") ∈ lw_all := lw_g (lw_at lw_m1 53 rfl) rfl
theorem q74 : (Jvm.Cond.fieldLink "LadderDesk" (36 : Nat) "LadderDesk" "x3" "LLadderDesk$Number;") ∈ lw_all := lw_g (lw_at lw_m1 54 rfl) rfl
theorem q75 : (Jvm.Cond.fieldLink "LadderDesk" (39 : Nat) "LadderDesk" "z3" "LLadderDesk$Number;") ∈ lw_all := lw_g (lw_at lw_m1 55 rfl) rfl
theorem q76 : (Jvm.Cond.fieldLink "LadderDesk" (42 : Nat) "LadderDesk" "a" "LLadderDesk$Number;") ∈ lw_all := lw_g (lw_at lw_m1 56 rfl) rfl
theorem q77 : (Jvm.Cond.fieldLink "LadderDesk" (45 : Nat) "LadderDesk" "b" "LLadderDesk$Number;") ∈ lw_all := lw_g (lw_at lw_m1 57 rfl) rfl
theorem q78 : (Jvm.Cond.fieldLink "LadderDesk" (48 : Nat) "LadderDesk" "c" "LLadderDesk$Number;") ∈ lw_all := lw_g (lw_at lw_m1 58 rfl) rfl
theorem q79 : (Jvm.Cond.fieldLink "LadderDesk" (51 : Nat) "LadderDesk" "d" "LLadderDesk$Number;") ∈ lw_all := lw_g (lw_at lw_m1 59 rfl) rfl
theorem q80 : (Jvm.Cond.fieldLink "LadderDesk" (54 : Nat) "LadderDesk" "e" "LLadderDesk$Number;") ∈ lw_all := lw_g (lw_at lw_m1 60 rfl) rfl
theorem q81 : (Jvm.Cond.fieldLink "LadderDesk" (57 : Nat) "LadderDesk" "small" "LLadderDesk$Number;") ∈ lw_all := lw_g (lw_at lw_m1 61 rfl) rfl
theorem q82 : (Jvm.Cond.fieldLink "LadderDesk" (60 : Nat) "LadderDesk" "result" "LLadderDesk$Number;") ∈ lw_all := lw_g (lw_at lw_m1 62 rfl) rfl
theorem q83 : (Jvm.Cond.fieldLink "LadderDesk" (63 : Nat) "LadderDesk" "shown" "LLadderDesk$Number;") ∈ lw_all := lw_g (lw_at lw_m1 63 rfl) rfl
theorem q84 : (Jvm.Cond.laysFinal "LadderDesk" "LadderDesk" "scalar" "[J") ∈ lw_all := lw_g (lw_at lw_m1 64 rfl) rfl
theorem q85 : (Jvm.Cond.soleField "LadderDesk" "scalar") ∈ lw_all := lw_g (lw_at lw_m1 65 rfl) rfl
theorem q86 : (Jvm.Cond.laysFinal "LadderDesk" "LadderDesk" "point" "[J") ∈ lw_all := lw_g (lw_at lw_m1 66 rfl) rfl
theorem q87 : (Jvm.Cond.soleField "LadderDesk" "point") ∈ lw_all := lw_g (lw_at lw_m1 67 rfl) rfl
theorem q88 : (Jvm.Cond.lays "LadderDesk" "LadderDesk" "phase" "I") ∈ lw_all := lw_g (lw_at lw_m1 68 rfl) rfl
theorem q89 : (Jvm.Cond.soleField "LadderDesk" "phase") ∈ lw_all := lw_g (lw_at lw_m1 69 rfl) rfl
theorem q90 : (Jvm.Cond.lays "LadderDesk" "LadderDesk" "made" "I") ∈ lw_all := lw_g (lw_at lw_m1 70 rfl) rfl
theorem q91 : (Jvm.Cond.soleField "LadderDesk" "made") ∈ lw_all := lw_g (lw_at lw_m1 71 rfl) rfl
theorem q92 : (Jvm.Cond.lays "LadderDesk" "LadderDesk" "results" "I") ∈ lw_all := lw_g (lw_at lw_m1 72 rfl) rfl
theorem q93 : (Jvm.Cond.soleField "LadderDesk" "results") ∈ lw_all := lw_g (lw_at lw_m1 73 rfl) rfl
theorem q94 : (Jvm.Cond.laysFinal "LadderDesk" "LadderDesk" "products" "LLadderDesk$Products;") ∈ lw_all := lw_g (lw_at lw_m1 74 rfl) rfl
theorem q95 : (Jvm.Cond.soleField "LadderDesk" "products") ∈ lw_all := lw_g (lw_at lw_m1 75 rfl) rfl
theorem q96 : (Jvm.Cond.laysFinal "LadderDesk" "LadderDesk" "u" "LLadderDesk$Number;") ∈ lw_all := lw_g (lw_at lw_m1 76 rfl) rfl
theorem q97 : (Jvm.Cond.soleField "LadderDesk" "u") ∈ lw_all := lw_g (lw_at lw_m1 77 rfl) rfl
theorem q98 : (Jvm.Cond.laysFinal "LadderDesk" "LadderDesk" "x2" "LLadderDesk$Number;") ∈ lw_all := lw_g (lw_at lw_m1 78 rfl) rfl
theorem q99 : (Jvm.Cond.soleField "LadderDesk" "x2") ∈ lw_all := lw_g (lw_at lw_m1 79 rfl) rfl
theorem q100 : (Jvm.Cond.laysFinal "LadderDesk" "LadderDesk" "z2" "LLadderDesk$Number;") ∈ lw_all := lw_g (lw_at lw_m1 80 rfl) rfl
theorem q101 : (Jvm.Cond.soleField "LadderDesk" "z2") ∈ lw_all := lw_g (lw_at lw_m1 81 rfl) rfl
theorem q102 : (Jvm.Cond.laysFinal "LadderDesk" "LadderDesk" "x3" "LLadderDesk$Number;") ∈ lw_all := lw_g (lw_at lw_m1 82 rfl) rfl
theorem q103 : (Jvm.Cond.soleField "LadderDesk" "x3") ∈ lw_all := lw_g (lw_at lw_m1 83 rfl) rfl
theorem q104 : (Jvm.Cond.laysFinal "LadderDesk" "LadderDesk" "z3" "LLadderDesk$Number;") ∈ lw_all := lw_g (lw_at lw_m1 84 rfl) rfl
theorem q105 : (Jvm.Cond.soleField "LadderDesk" "z3") ∈ lw_all := lw_g (lw_at lw_m1 85 rfl) rfl
theorem q106 : (Jvm.Cond.laysFinal "LadderDesk" "LadderDesk" "a" "LLadderDesk$Number;") ∈ lw_all := lw_g (lw_at lw_m1 86 rfl) rfl
theorem q107 : (Jvm.Cond.soleField "LadderDesk" "a") ∈ lw_all := lw_g (lw_at lw_m1 87 rfl) rfl
theorem q108 : (Jvm.Cond.laysFinal "LadderDesk" "LadderDesk" "b" "LLadderDesk$Number;") ∈ lw_all := lw_g (lw_at lw_m1 88 rfl) rfl
theorem q109 : (Jvm.Cond.soleField "LadderDesk" "b") ∈ lw_all := lw_g (lw_at lw_m1 89 rfl) rfl
theorem q110 : (Jvm.Cond.laysFinal "LadderDesk" "LadderDesk" "c" "LLadderDesk$Number;") ∈ lw_all := lw_g (lw_at lw_m1 90 rfl) rfl
theorem q111 : (Jvm.Cond.soleField "LadderDesk" "c") ∈ lw_all := lw_g (lw_at lw_m1 91 rfl) rfl
theorem q112 : (Jvm.Cond.laysFinal "LadderDesk" "LadderDesk" "d" "LLadderDesk$Number;") ∈ lw_all := lw_g (lw_at lw_m1 92 rfl) rfl
theorem q113 : (Jvm.Cond.soleField "LadderDesk" "d") ∈ lw_all := lw_g (lw_at lw_m1 93 rfl) rfl
theorem q114 : (Jvm.Cond.laysFinal "LadderDesk" "LadderDesk" "e" "LLadderDesk$Number;") ∈ lw_all := lw_g (lw_at lw_m1 94 rfl) rfl
theorem q115 : (Jvm.Cond.soleField "LadderDesk" "e") ∈ lw_all := lw_g (lw_at lw_m1 95 rfl) rfl
theorem q116 : (Jvm.Cond.laysFinal "LadderDesk" "LadderDesk" "small" "LLadderDesk$Number;") ∈ lw_all := lw_g (lw_at lw_m1 96 rfl) rfl
theorem q117 : (Jvm.Cond.soleField "LadderDesk" "small") ∈ lw_all := lw_g (lw_at lw_m1 97 rfl) rfl
theorem q118 : (Jvm.Cond.laysFinal "LadderDesk" "LadderDesk" "result" "LLadderDesk$Number;") ∈ lw_all := lw_g (lw_at lw_m1 98 rfl) rfl
theorem q119 : (Jvm.Cond.soleField "LadderDesk" "result") ∈ lw_all := lw_g (lw_at lw_m1 99 rfl) rfl
theorem q120 : (Jvm.Cond.laysFinal "LadderDesk" "LadderDesk" "shown" "LLadderDesk$Number;") ∈ lw_all := lw_g (lw_at lw_m1 100 rfl) rfl
theorem q121 : (Jvm.Cond.soleField "LadderDesk" "shown") ∈ lw_all := lw_g (lw_at lw_m1 101 rfl) rfl
theorem q122 : (Jvm.Cond.superclass "LadderDesk" "java/lang/Object") ∈ lw_all := lw_g (lw_at lw_m1 102 rfl) rfl
theorem q124 : (Jvm.Cond.instanceMethod ({ cls := "LadderDesk", name := "scalar", desc := "(IJ)I" } : Jvm.MethodName)) ∈ lw_all := lw_g (lw_at lw_m1 104 rfl) rfl
theorem q125 : (Jvm.Cond.selects "LadderDesk" ({ cls := "LadderDesk", name := "scalar", desc := "(IJ)I" } : Jvm.MethodName) ({ cls := "LadderDesk", name := "scalar", desc := "(IJ)I" } : Jvm.MethodName)) ∈ lw_all := lw_g (lw_at lw_m1 105 rfl) rfl
theorem q126 : (Jvm.Cond.code ({ cls := "LadderDesk", name := "scalar", desc := "(IJ)I" } : Jvm.MethodName) prog_1_method_3_code (4 : Nat) (Option.some Jvm.ClassFile.FieldType.int)) ∈ lw_all := lw_g (lw_at lw_m1 106 rfl) rfl
theorem q127 : (Jvm.Cond.methodLink "LadderDesk" (78 : Nat) ({ cls := "LadderDesk", name := "isLong", desc := "(I)Z" } : Jvm.MethodName)) ∈ lw_all := lw_g (lw_at lw_m1 107 rfl) rfl
theorem q128 : (Jvm.Cond.static ({ cls := "LadderDesk", name := "isLong", desc := "(I)Z" } : Jvm.MethodName)) ∈ lw_all := lw_g (lw_at lw_m1 108 rfl) rfl
theorem q129 : (Jvm.Cond.code ({ cls := "LadderDesk", name := "isLong", desc := "(I)Z" } : Jvm.MethodName) prog_1_method_2_code (1 : Nat) (Option.some Jvm.ClassFile.FieldType.boolean)) ∈ lw_all := lw_g (lw_at lw_m1 109 rfl) rfl
theorem q131 : (Jvm.Cond.instanceMethod ({ cls := "LadderDesk", name := "point", desc := "(IJ)I" } : Jvm.MethodName)) ∈ lw_all := lw_g (lw_at lw_m1 111 rfl) rfl
theorem q132 : (Jvm.Cond.selects "LadderDesk" ({ cls := "LadderDesk", name := "point", desc := "(IJ)I" } : Jvm.MethodName) ({ cls := "LadderDesk", name := "point", desc := "(IJ)I" } : Jvm.MethodName)) ∈ lw_all := lw_g (lw_at lw_m1 112 rfl) rfl
theorem q133 : (Jvm.Cond.code ({ cls := "LadderDesk", name := "point", desc := "(IJ)I" } : Jvm.MethodName) prog_1_method_4_code (4 : Nat) (Option.some Jvm.ClassFile.FieldType.int)) ∈ lw_all := lw_g (lw_at lw_m1 113 rfl) rfl
theorem q135 : (Jvm.Cond.instanceMethod ({ cls := "LadderDesk", name := "start", desc := "()I" } : Jvm.MethodName)) ∈ lw_all := lw_g (lw_at lw_m1 115 rfl) rfl
theorem q136 : (Jvm.Cond.selects "LadderDesk" ({ cls := "LadderDesk", name := "start", desc := "()I" } : Jvm.MethodName) ({ cls := "LadderDesk", name := "start", desc := "()I" } : Jvm.MethodName)) ∈ lw_all := lw_g (lw_at lw_m1 116 rfl) rfl
theorem q137 : (Jvm.Cond.code ({ cls := "LadderDesk", name := "start", desc := "()I" } : Jvm.MethodName) prog_1_method_6_code (1 : Nat) (Option.some Jvm.ClassFile.FieldType.int)) ∈ lw_all := lw_g (lw_at lw_m1 117 rfl) rfl
theorem q138 : (Jvm.Cond.methodLink "LadderDesk" (93 : Nat) ({ cls := "LadderDesk$Number", name := "take", desc := "([J)V" } : Jvm.MethodName)) ∈ lw_all := lw_g (lw_at lw_m1 118 rfl) rfl
theorem q144 : (Jvm.Cond.methodLink "LadderDesk" (97 : Nat) ({ cls := "LadderDesk$Number", name := "take", desc := "(LLadderDesk$Number;)V" } : Jvm.MethodName)) ∈ lw_all := lw_g (lw_at lw_m1 124 rfl) rfl
theorem q152 : (Jvm.Cond.instanceMethod ({ cls := "LadderDesk", name := "step", desc := "(I)I" } : Jvm.MethodName)) ∈ lw_all := lw_g (lw_at lw_m1 132 rfl) rfl
theorem q153 : (Jvm.Cond.selects "LadderDesk" ({ cls := "LadderDesk", name := "step", desc := "(I)I" } : Jvm.MethodName) ({ cls := "LadderDesk", name := "step", desc := "(I)I" } : Jvm.MethodName)) ∈ lw_all := lw_g (lw_at lw_m1 133 rfl) rfl
theorem q154 : (Jvm.Cond.code ({ cls := "LadderDesk", name := "step", desc := "(I)I" } : Jvm.MethodName) prog_1_method_8_code (3 : Nat) (Option.some Jvm.ClassFile.FieldType.int)) ∈ lw_all := lw_g (lw_at lw_m1 134 rfl) rfl
theorem q155 : (Jvm.Cond.methodLink "LadderDesk" (119 : Nat) ({ cls := "LadderDesk", name := "stepOnce", desc := "()V" } : Jvm.MethodName)) ∈ lw_all := lw_g (lw_at lw_m1 135 rfl) rfl
theorem q156 : (Jvm.Cond.privateMethod ({ cls := "LadderDesk", name := "stepOnce", desc := "()V" } : Jvm.MethodName)) ∈ lw_tbl := lw_at lw_m1 136 rfl
theorem q157 : (Jvm.Cond.instanceMethod ({ cls := "LadderDesk", name := "stepOnce", desc := "()V" } : Jvm.MethodName)) ∈ lw_all := lw_g (lw_at lw_m1 137 rfl) rfl
theorem q158 : (Jvm.Cond.code ({ cls := "LadderDesk", name := "stepOnce", desc := "()V" } : Jvm.MethodName) prog_1_method_7_code (4 : Nat) (Option.none : Option Jvm.ClassFile.FieldType)) ∈ lw_all := lw_g (lw_at lw_m1 138 rfl) rfl
theorem q159 : (Jvm.Cond.methodLink "LadderDesk" (100 : Nat) ({ cls := "LadderDesk", name := "clamped", desc := "(I)J" } : Jvm.MethodName)) ∈ lw_all := lw_g (lw_at lw_m1 139 rfl) rfl
theorem q160 : (Jvm.Cond.privateMethod ({ cls := "LadderDesk", name := "clamped", desc := "(I)J" } : Jvm.MethodName)) ∈ lw_tbl := lw_at lw_m1 140 rfl
theorem q161 : (Jvm.Cond.instanceMethod ({ cls := "LadderDesk", name := "clamped", desc := "(I)J" } : Jvm.MethodName)) ∈ lw_all := lw_g (lw_at lw_m1 141 rfl) rfl
theorem q162 : (Jvm.Cond.code ({ cls := "LadderDesk", name := "clamped", desc := "(I)J" } : Jvm.MethodName) prog_1_method_5_code (2 : Nat) (Option.some Jvm.ClassFile.FieldType.long)) ∈ lw_all := lw_g (lw_at lw_m1 142 rfl) rfl
theorem q163 : (Jvm.Cond.constantLong "LadderDesk" (82 : Nat) (-8 : Int64)) ∈ lw_all := lw_g (lw_at lw_m1 143 rfl) rfl
theorem q164 : (Jvm.Cond.constantLong "LadderDesk" (86 : Nat) (9223372036854775807 : Int64)) ∈ lw_all := lw_g (lw_at lw_m1 144 rfl) rfl
theorem q165 : (Jvm.Cond.constantLong "LadderDesk" (88 : Nat) (4611686018427387904 : Int64)) ∈ lw_all := lw_g (lw_at lw_m1 145 rfl) rfl
theorem q166 : (Jvm.Cond.methodLink "LadderDesk" (104 : Nat) ({ cls := "LadderDesk$Number", name := "change", desc := "(LLadderDesk$Number;J)V" } : Jvm.MethodName)) ∈ lw_all := lw_g (lw_at lw_m1 146 rfl) rfl
theorem q170 : (Jvm.Cond.methodLink "LadderDesk" (108 : Nat) ({ cls := "LadderDesk$Number", name := "add", desc := "(LLadderDesk$Number;LLadderDesk$Number;)V" } : Jvm.MethodName)) ∈ lw_all := lw_g (lw_at lw_m1 150 rfl) rfl
theorem q174 : (Jvm.Cond.methodLink "LadderDesk" (112 : Nat) ({ cls := "LadderDesk$Number", name := "subtract", desc := "(LLadderDesk$Number;LLadderDesk$Number;)V" } : Jvm.MethodName)) ∈ lw_all := lw_g (lw_at lw_m1 154 rfl) rfl
theorem q178 : (Jvm.Cond.methodLink "LadderDesk" (115 : Nat) ({ cls := "LadderDesk$Products", name := "multiply", desc := "(LLadderDesk$Number;LLadderDesk$Number;LLadderDesk$Number;)V" } : Jvm.MethodName)) ∈ lw_all := lw_g (lw_at lw_m1 158 rfl) rfl
theorem q190 : (Jvm.Cond.instanceMethod ({ cls := "LadderDesk", name := "finish", desc := "()I" } : Jvm.MethodName)) ∈ lw_all := lw_g (lw_at lw_m1 170 rfl) rfl
theorem q191 : (Jvm.Cond.selects "LadderDesk" ({ cls := "LadderDesk", name := "finish", desc := "()I" } : Jvm.MethodName) ({ cls := "LadderDesk", name := "finish", desc := "()I" } : Jvm.MethodName)) ∈ lw_all := lw_g (lw_at lw_m1 171 rfl) rfl
theorem q192 : (Jvm.Cond.code ({ cls := "LadderDesk", name := "finish", desc := "()I" } : Jvm.MethodName) prog_1_method_9_code (1 : Nat) (Option.some Jvm.ClassFile.FieldType.int)) ∈ lw_all := lw_g (lw_at lw_m1 172 rfl) rfl
theorem q193 : (Jvm.Cond.methodLink "LadderDesk" (122 : Nat) ({ cls := "LadderDesk$Products", name := "invert", desc := "(LLadderDesk$Number;LLadderDesk$Number;LLadderDesk$Number;)V" } : Jvm.MethodName)) ∈ lw_all := lw_g (lw_at lw_m1 173 rfl) rfl
theorem q199 : (Jvm.Cond.methodLink "LadderDesk" (125 : Nat) ({ cls := "LadderDesk$Number", name := "close", desc := "()V" } : Jvm.MethodName)) ∈ lw_all := lw_g (lw_at lw_m1 179 rfl) rfl
theorem q210 : (Jvm.Cond.instanceMethod ({ cls := "LadderDesk", name := "again", desc := "()I" } : Jvm.MethodName)) ∈ lw_all := lw_g (lw_at lw_m1 190 rfl) rfl
theorem q211 : (Jvm.Cond.selects "LadderDesk" ({ cls := "LadderDesk", name := "again", desc := "()I" } : Jvm.MethodName) ({ cls := "LadderDesk", name := "again", desc := "()I" } : Jvm.MethodName)) ∈ lw_all := lw_g (lw_at lw_m1 191 rfl) rfl
theorem q212 : (Jvm.Cond.code ({ cls := "LadderDesk", name := "again", desc := "()I" } : Jvm.MethodName) prog_1_method_10_code (2 : Nat) (Option.some Jvm.ClassFile.FieldType.int)) ∈ lw_all := lw_g (lw_at lw_m1 192 rfl) rfl
theorem q213 : (Jvm.Cond.methodLink "LadderDesk" (131 : Nat) ({ cls := "LadderDesk$Number", name := "at", desc := "(I)J" } : Jvm.MethodName)) ∈ lw_all := lw_g (lw_at lw_m1 193 rfl) rfl
theorem q218 : (Jvm.Cond.instanceMethod ({ cls := "LadderDesk", name := "reset", desc := "()I" } : Jvm.MethodName)) ∈ lw_all := lw_g (lw_at lw_m1 198 rfl) rfl
theorem q219 : (Jvm.Cond.selects "LadderDesk" ({ cls := "LadderDesk", name := "reset", desc := "()I" } : Jvm.MethodName) ({ cls := "LadderDesk", name := "reset", desc := "()I" } : Jvm.MethodName)) ∈ lw_all := lw_g (lw_at lw_m1 199 rfl) rfl
theorem q220 : (Jvm.Cond.code ({ cls := "LadderDesk", name := "reset", desc := "()I" } : Jvm.MethodName) prog_1_method_11_code (2 : Nat) (Option.some Jvm.ClassFile.FieldType.int)) ∈ lw_all := lw_g (lw_at lw_m1 200 rfl) rfl
theorem q222 : (Jvm.Cond.instanceMethod ({ cls := "LadderDesk", name := "phase", desc := "()I" } : Jvm.MethodName)) ∈ lw_all := lw_g (lw_at lw_m1 202 rfl) rfl
theorem q223 : (Jvm.Cond.selects "LadderDesk" ({ cls := "LadderDesk", name := "phase", desc := "()I" } : Jvm.MethodName) ({ cls := "LadderDesk", name := "phase", desc := "()I" } : Jvm.MethodName)) ∈ lw_all := lw_g (lw_at lw_m1 203 rfl) rfl
theorem q224 : (Jvm.Cond.code ({ cls := "LadderDesk", name := "phase", desc := "()I" } : Jvm.MethodName) prog_1_method_12_code (1 : Nat) (Option.some Jvm.ClassFile.FieldType.int)) ∈ lw_all := lw_g (lw_at lw_m1 204 rfl) rfl
theorem q226 : (Jvm.Cond.instanceMethod ({ cls := "LadderDesk", name := "out", desc := "(I)J" } : Jvm.MethodName)) ∈ lw_all := lw_g (lw_at lw_m1 206 rfl) rfl
theorem q227 : (Jvm.Cond.selects "LadderDesk" ({ cls := "LadderDesk", name := "out", desc := "(I)J" } : Jvm.MethodName) ({ cls := "LadderDesk", name := "out", desc := "(I)J" } : Jvm.MethodName)) ∈ lw_all := lw_g (lw_at lw_m1 207 rfl) rfl
theorem q228 : (Jvm.Cond.code ({ cls := "LadderDesk", name := "out", desc := "(I)J" } : Jvm.MethodName) prog_1_method_13_code (2 : Nat) (Option.some Jvm.ClassFile.FieldType.long)) ∈ lw_all := lw_g (lw_at lw_m1 208 rfl) rfl
theorem q230 : (Jvm.Cond.instanceMethod ({ cls := "LadderDesk", name := "part", desc := "(II)J" } : Jvm.MethodName)) ∈ lw_all := lw_g (lw_at lw_m1 210 rfl) rfl
theorem q231 : (Jvm.Cond.selects "LadderDesk" ({ cls := "LadderDesk", name := "part", desc := "(II)J" } : Jvm.MethodName) ({ cls := "LadderDesk", name := "part", desc := "(II)J" } : Jvm.MethodName)) ∈ lw_all := lw_g (lw_at lw_m1 211 rfl) rfl
theorem q232 : (Jvm.Cond.code ({ cls := "LadderDesk", name := "part", desc := "(II)J" } : Jvm.MethodName) prog_1_method_15_code (3 : Nat) (Option.some Jvm.ClassFile.FieldType.long)) ∈ lw_all := lw_g (lw_at lw_m1 212 rfl) rfl
theorem q233 : (Jvm.Cond.methodLink "LadderDesk" (134 : Nat) ({ cls := "LadderDesk", name := "which", desc := "(I)LLadderDesk$Number;" } : Jvm.MethodName)) ∈ lw_all := lw_g (lw_at lw_m1 213 rfl) rfl
theorem q234 : (Jvm.Cond.privateMethod ({ cls := "LadderDesk", name := "which", desc := "(I)LLadderDesk$Number;" } : Jvm.MethodName)) ∈ lw_tbl := lw_at lw_m1 214 rfl
theorem q235 : (Jvm.Cond.instanceMethod ({ cls := "LadderDesk", name := "which", desc := "(I)LLadderDesk$Number;" } : Jvm.MethodName)) ∈ lw_all := lw_g (lw_at lw_m1 215 rfl) rfl
theorem q236 : (Jvm.Cond.code ({ cls := "LadderDesk", name := "which", desc := "(I)LLadderDesk$Number;" } : Jvm.MethodName) prog_1_method_14_code (2 : Nat) (Option.some (Jvm.ClassFile.FieldType.object "LadderDesk$Number"))) ∈ lw_all := lw_g (lw_at lw_m1 216 rfl) rfl
theorem q238 : (Jvm.Cond.instanceMethod ({ cls := "LadderDesk", name := "told", desc := "(II)J" } : Jvm.MethodName)) ∈ lw_all := lw_g (lw_at lw_m1 218 rfl) rfl
theorem q239 : (Jvm.Cond.selects "LadderDesk" ({ cls := "LadderDesk", name := "told", desc := "(II)J" } : Jvm.MethodName) ({ cls := "LadderDesk", name := "told", desc := "(II)J" } : Jvm.MethodName)) ∈ lw_all := lw_g (lw_at lw_m1 219 rfl) rfl
theorem q240 : (Jvm.Cond.code ({ cls := "LadderDesk", name := "told", desc := "(II)J" } : Jvm.MethodName) prog_1_method_16_code (3 : Nat) (Option.some Jvm.ClassFile.FieldType.long)) ∈ lw_all := lw_g (lw_at lw_m1 220 rfl) rfl
theorem q242 : (Jvm.Cond.instanceMethod ({ cls := "LadderDesk", name := "count", desc := "(I)I" } : Jvm.MethodName)) ∈ lw_all := lw_g (lw_at lw_m1 222 rfl) rfl
theorem q243 : (Jvm.Cond.selects "LadderDesk" ({ cls := "LadderDesk", name := "count", desc := "(I)I" } : Jvm.MethodName) ({ cls := "LadderDesk", name := "count", desc := "(I)I" } : Jvm.MethodName)) ∈ lw_all := lw_g (lw_at lw_m1 223 rfl) rfl
theorem q244 : (Jvm.Cond.code ({ cls := "LadderDesk", name := "count", desc := "(I)I" } : Jvm.MethodName) prog_1_method_17_code (2 : Nat) (Option.some Jvm.ClassFile.FieldType.int)) ∈ lw_all := lw_g (lw_at lw_m1 224 rfl) rfl
theorem q246 : (Jvm.Cond.instanceMethod ({ cls := "LadderDesk", name := "check", desc := "()I" } : Jvm.MethodName)) ∈ lw_all := lw_g (lw_at lw_m1 226 rfl) rfl
theorem q247 : (Jvm.Cond.selects "LadderDesk" ({ cls := "LadderDesk", name := "check", desc := "()I" } : Jvm.MethodName) ({ cls := "LadderDesk", name := "check", desc := "()I" } : Jvm.MethodName)) ∈ lw_all := lw_g (lw_at lw_m1 227 rfl) rfl
theorem q248 : (Jvm.Cond.code ({ cls := "LadderDesk", name := "check", desc := "()I" } : Jvm.MethodName) prog_1_method_18_code (1 : Nat) (Option.some Jvm.ClassFile.FieldType.int)) ∈ lw_all := lw_g (lw_at lw_m1 228 rfl) rfl
theorem q249 : (Jvm.Cond.methodLink "LadderDesk" (138 : Nat) ({ cls := "LadderDesk$Number", name := "isZero", desc := "()Z" } : Jvm.MethodName)) ∈ lw_all := lw_g (lw_at lw_m1 229 rfl) rfl
theorem in_X0 : ∀ w ∈ wsX00, w ∈ lw_all := lw_in wsX00 [84, 86, 88, 90, 92, 94, 96, 98, 100, 102, 104, 106, 108, 110, 112, 114, 116, 118, 120] (by decide +kernel) (by decide +kernel)
end
section
/-! LadderDeskModel -/
set_option maxRecDepth 100000
def RX3 : String := "LadderDeskModel"
def TX3 : u_T := fun k => match k with
  | 0 => ("LadderDeskModel", "phase", "I", false)
  | 1 => ("LadderDeskModel", "steps", "I", false)
  | 2 => ("LadderDeskModel", "results", "I", false)
  | 3 => ("LadderDeskModel", "scalar", "[J", true)
  | 4 => ("LadderDeskModel", "point", "[J", true)
  | 5 => ("LadderDeskModel", "digits", "[I", true)
  | _ => ("LadderDeskModel", "sums", "[J", true)
def tyX3 : Nat → FieldType := fun k => match k with
  | 0 => .int
  | 1 => .int
  | 2 => .int
  | 3 => .array .long
  | 4 => .array .long
  | 5 => .array .int
  | _ => .array .long
abbrev wsX30 : List Cond := u_ws RX3 TX3 7
theorem nmX3 : ∀ a, a < 7 → ∀ b, b < 7 → a ≠ b → (TX3 a).2.1 ≠ (TX3 b).2.1 := by decide +kernel
theorem tyX3_ok : ∀ k, k < 7 → parseFieldDescriptor (TX3 k).2.2.1 = some (tyX3 k) := by decide +kernel
abbrev cX3_init : ByteArray := prog_5_method_1_code
def yX3_init : MethodName := ⟨RX3, "<init>", "()V"⟩
theorem dX3_init_0 : decode cX3_init 0 = .ok (.aload_n 0, 1) := by decide +kernel
theorem dX3_init_1 : decode cX3_init 1 = .ok (.invokespecial 1, 3) := by decide +kernel
theorem dX3_init_4 : decode cX3_init 4 = .ok (.aload_n 0, 1) := by decide +kernel
theorem dX3_init_5 : decode cX3_init 5 = .ok (.iconst 4, 1) := by decide +kernel
theorem dX3_init_6 : decode cX3_init 6 = .ok (.newarray .long, 2) := by decide +kernel
theorem dX3_init_8 : decode cX3_init 8 = .ok (.putfield 7, 3) := by decide +kernel
theorem dX3_init_11 : decode cX3_init 11 = .ok (.aload_n 0, 1) := by decide +kernel
theorem dX3_init_12 : decode cX3_init 12 = .ok (.iconst 4, 1) := by decide +kernel
theorem dX3_init_13 : decode cX3_init 13 = .ok (.newarray .long, 2) := by decide +kernel
theorem dX3_init_15 : decode cX3_init 15 = .ok (.putfield 13, 3) := by decide +kernel
theorem dX3_init_18 : decode cX3_init 18 = .ok (.aload_n 0, 1) := by decide +kernel
theorem dX3_init_19 : decode cX3_init 19 = .ok (.sipush 208, 3) := by decide +kernel
theorem dX3_init_22 : decode cX3_init 22 = .ok (.newarray .int, 2) := by decide +kernel
theorem dX3_init_24 : decode cX3_init 24 = .ok (.putfield 16, 3) := by decide +kernel
theorem dX3_init_27 : decode cX3_init 27 = .ok (.aload_n 0, 1) := by decide +kernel
theorem dX3_init_28 : decode cX3_init 28 = .ok (.bipush 32, 2) := by decide +kernel
theorem dX3_init_30 : decode cX3_init 30 = .ok (.newarray .long, 2) := by decide +kernel
theorem dX3_init_32 : decode cX3_init 32 = .ok (.putfield 20, 3) := by decide +kernel
theorem dX3_init_35 : decode cX3_init 35 = .ok (.return_, 1) := by decide +kernel
abbrev cX3_scalar : ByteArray := prog_5_method_17_code
def yX3_scalar : MethodName := ⟨RX3, "scalar", "(IJ)I"⟩
theorem dX3_scalar_0 : decode cX3_scalar 0 = .ok (.aload_n 0, 1) := by decide +kernel
theorem dX3_scalar_1 : decode cX3_scalar 1 = .ok (.getfield 53, 3) := by decide +kernel
theorem dX3_scalar_4 : decode cX3_scalar 4 = .ok (.ifCond .ne 10, 3) := by decide +kernel
theorem dX3_scalar_7 : decode cX3_scalar 7 = .ok (.iload_n 1, 1) := by decide +kernel
theorem dX3_scalar_8 : decode cX3_scalar 8 = .ok (.invokestatic 57, 3) := by decide +kernel
theorem dX3_scalar_11 : decode cX3_scalar 11 = .ok (.ifCond .ne 5, 3) := by decide +kernel
theorem dX3_scalar_14 : decode cX3_scalar 14 = .ok (.iconst 0, 1) := by decide +kernel
theorem dX3_scalar_15 : decode cX3_scalar 15 = .ok (.ireturn, 1) := by decide +kernel
theorem dX3_scalar_16 : decode cX3_scalar 16 = .ok (.aload_n 0, 1) := by decide +kernel
theorem dX3_scalar_17 : decode cX3_scalar 17 = .ok (.getfield 7, 3) := by decide +kernel
theorem dX3_scalar_20 : decode cX3_scalar 20 = .ok (.iload_n 1, 1) := by decide +kernel
theorem dX3_scalar_21 : decode cX3_scalar 21 = .ok (.lload_n 2, 1) := by decide +kernel
theorem dX3_scalar_22 : decode cX3_scalar 22 = .ok (.lastore, 1) := by decide +kernel
theorem dX3_scalar_23 : decode cX3_scalar 23 = .ok (.iconst 1, 1) := by decide +kernel
theorem dX3_scalar_24 : decode cX3_scalar 24 = .ok (.ireturn, 1) := by decide +kernel
abbrev cX3_isLong : ByteArray := prog_5_method_16_code
def yX3_isLong : MethodName := ⟨RX3, "isLong", "(I)Z"⟩
theorem dX3_isLong_0 : decode cX3_isLong 0 = .ok (.iload_n 0, 1) := by decide +kernel
theorem dX3_isLong_1 : decode cX3_isLong 1 = .ok (.ifCond .lt 12, 3) := by decide +kernel
theorem dX3_isLong_4 : decode cX3_isLong 4 = .ok (.iload_n 0, 1) := by decide +kernel
theorem dX3_isLong_5 : decode cX3_isLong 5 = .ok (.iconst 4, 1) := by decide +kernel
theorem dX3_isLong_6 : decode cX3_isLong 6 = .ok (.if_icmp .ge 7, 3) := by decide +kernel
theorem dX3_isLong_9 : decode cX3_isLong 9 = .ok (.iconst 1, 1) := by decide +kernel
theorem dX3_isLong_10 : decode cX3_isLong 10 = .ok (.goto 4, 3) := by decide +kernel
theorem dX3_isLong_13 : decode cX3_isLong 13 = .ok (.iconst 0, 1) := by decide +kernel
theorem dX3_isLong_14 : decode cX3_isLong 14 = .ok (.ireturn, 1) := by decide +kernel
abbrev cX3_point : ByteArray := prog_5_method_18_code
def yX3_point : MethodName := ⟨RX3, "point", "(IJ)I"⟩
theorem dX3_point_0 : decode cX3_point 0 = .ok (.aload_n 0, 1) := by decide +kernel
theorem dX3_point_1 : decode cX3_point 1 = .ok (.getfield 53, 3) := by decide +kernel
theorem dX3_point_4 : decode cX3_point 4 = .ok (.ifCond .ne 10, 3) := by decide +kernel
theorem dX3_point_7 : decode cX3_point 7 = .ok (.iload_n 1, 1) := by decide +kernel
theorem dX3_point_8 : decode cX3_point 8 = .ok (.invokestatic 57, 3) := by decide +kernel
theorem dX3_point_11 : decode cX3_point 11 = .ok (.ifCond .ne 5, 3) := by decide +kernel
theorem dX3_point_14 : decode cX3_point 14 = .ok (.iconst 0, 1) := by decide +kernel
theorem dX3_point_15 : decode cX3_point 15 = .ok (.ireturn, 1) := by decide +kernel
theorem dX3_point_16 : decode cX3_point 16 = .ok (.aload_n 0, 1) := by decide +kernel
theorem dX3_point_17 : decode cX3_point 17 = .ok (.getfield 13, 3) := by decide +kernel
theorem dX3_point_20 : decode cX3_point 20 = .ok (.iload_n 1, 1) := by decide +kernel
theorem dX3_point_21 : decode cX3_point 21 = .ok (.lload_n 2, 1) := by decide +kernel
theorem dX3_point_22 : decode cX3_point 22 = .ok (.lastore, 1) := by decide +kernel
theorem dX3_point_23 : decode cX3_point 23 = .ok (.iconst 1, 1) := by decide +kernel
theorem dX3_point_24 : decode cX3_point 24 = .ok (.ireturn, 1) := by decide +kernel
abbrev cX3_start : ByteArray := prog_5_method_21_code
def yX3_start : MethodName := ⟨RX3, "start", "()I"⟩
theorem dX3_start_0 : decode cX3_start 0 = .ok (.aload_n 0, 1) := by decide +kernel
theorem dX3_start_1 : decode cX3_start 1 = .ok (.getfield 53, 3) := by decide +kernel
theorem dX3_start_4 : decode cX3_start 4 = .ok (.ifCond .eq 5, 3) := by decide +kernel
theorem dX3_start_7 : decode cX3_start 7 = .ok (.iconst 0, 1) := by decide +kernel
theorem dX3_start_8 : decode cX3_start 8 = .ok (.ireturn, 1) := by decide +kernel
theorem dX3_start_9 : decode cX3_start 9 = .ok (.aload_n 0, 1) := by decide +kernel
theorem dX3_start_10 : decode cX3_start 10 = .ok (.iconst 1, 1) := by decide +kernel
theorem dX3_start_11 : decode cX3_start 11 = .ok (.putfield 53, 3) := by decide +kernel
theorem dX3_start_14 : decode cX3_start 14 = .ok (.aload_n 0, 1) := by decide +kernel
theorem dX3_start_15 : decode cX3_start 15 = .ok (.iconst 0, 1) := by decide +kernel
theorem dX3_start_16 : decode cX3_start 16 = .ok (.putfield 61, 3) := by decide +kernel
theorem dX3_start_19 : decode cX3_start 19 = .ok (.aload_n 0, 1) := by decide +kernel
theorem dX3_start_20 : decode cX3_start 20 = .ok (.invokevirtual 64, 3) := by decide +kernel
theorem dX3_start_23 : decode cX3_start 23 = .ok (.aload_n 0, 1) := by decide +kernel
theorem dX3_start_24 : decode cX3_start 24 = .ok (.iconst 0, 1) := by decide +kernel
theorem dX3_start_25 : decode cX3_start 25 = .ok (.iconst 1, 1) := by decide +kernel
theorem dX3_start_26 : decode cX3_start 26 = .ok (.invokevirtual 67, 3) := by decide +kernel
theorem dX3_start_29 : decode cX3_start 29 = .ok (.aload_n 0, 1) := by decide +kernel
theorem dX3_start_30 : decode cX3_start 30 = .ok (.iconst 1, 1) := by decide +kernel
theorem dX3_start_31 : decode cX3_start 31 = .ok (.iconst 0, 1) := by decide +kernel
theorem dX3_start_32 : decode cX3_start 32 = .ok (.invokevirtual 67, 3) := by decide +kernel
theorem dX3_start_35 : decode cX3_start 35 = .ok (.aload_n 0, 1) := by decide +kernel
theorem dX3_start_36 : decode cX3_start 36 = .ok (.iconst 2, 1) := by decide +kernel
theorem dX3_start_37 : decode cX3_start 37 = .ok (.iconst 4, 1) := by decide +kernel
theorem dX3_start_38 : decode cX3_start 38 = .ok (.invokevirtual 23, 3) := by decide +kernel
theorem dX3_start_41 : decode cX3_start 41 = .ok (.aload_n 0, 1) := by decide +kernel
theorem dX3_start_42 : decode cX3_start 42 = .ok (.iconst 3, 1) := by decide +kernel
theorem dX3_start_43 : decode cX3_start 43 = .ok (.iconst 1, 1) := by decide +kernel
theorem dX3_start_44 : decode cX3_start 44 = .ok (.invokevirtual 67, 3) := by decide +kernel
theorem dX3_start_47 : decode cX3_start 47 = .ok (.iconst 1, 1) := by decide +kernel
theorem dX3_start_48 : decode cX3_start 48 = .ok (.ireturn, 1) := by decide +kernel
abbrev cX3_makeU : ByteArray := prog_5_method_20_code
def yX3_makeU : MethodName := ⟨RX3, "makeU", "()V"⟩
theorem dX3_makeU_0 : decode cX3_makeU 0 = .ok (.iconst 0, 1) := by decide +kernel
theorem dX3_makeU_1 : decode cX3_makeU 1 = .ok (.istore_n 1, 1) := by decide +kernel
theorem dX3_makeU_2 : decode cX3_makeU 2 = .ok (.iload_n 1, 1) := by decide +kernel
theorem dX3_makeU_3 : decode cX3_makeU 3 = .ok (.bipush 16, 2) := by decide +kernel
theorem dX3_makeU_5 : decode cX3_makeU 5 = .ok (.if_icmp .ge 34, 3) := by decide +kernel
theorem dX3_makeU_8 : decode cX3_makeU 8 = .ok (.aload_n 0, 1) := by decide +kernel
theorem dX3_makeU_9 : decode cX3_makeU 9 = .ok (.getfield 20, 3) := by decide +kernel
theorem dX3_makeU_12 : decode cX3_makeU 12 = .ok (.iload_n 1, 1) := by decide +kernel
theorem dX3_makeU_13 : decode cX3_makeU 13 = .ok (.aload_n 0, 1) := by decide +kernel
theorem dX3_makeU_14 : decode cX3_makeU 14 = .ok (.getfield 13, 3) := by decide +kernel
theorem dX3_makeU_17 : decode cX3_makeU 17 = .ok (.iload_n 1, 1) := by decide +kernel
theorem dX3_makeU_18 : decode cX3_makeU 18 = .ok (.iconst 4, 1) := by decide +kernel
theorem dX3_makeU_19 : decode cX3_makeU 19 = .ok (.idiv, 1) := by decide +kernel
theorem dX3_makeU_20 : decode cX3_makeU 20 = .ok (.laload, 1) := by decide +kernel
theorem dX3_makeU_21 : decode cX3_makeU 21 = .ok (.bipush 16, 2) := by decide +kernel
theorem dX3_makeU_23 : decode cX3_makeU 23 = .ok (.iload_n 1, 1) := by decide +kernel
theorem dX3_makeU_24 : decode cX3_makeU 24 = .ok (.iconst 4, 1) := by decide +kernel
theorem dX3_makeU_25 : decode cX3_makeU 25 = .ok (.irem, 1) := by decide +kernel
theorem dX3_makeU_26 : decode cX3_makeU 26 = .ok (.imul, 1) := by decide +kernel
theorem dX3_makeU_27 : decode cX3_makeU 27 = .ok (.lushr, 1) := by decide +kernel
theorem dX3_makeU_28 : decode cX3_makeU 28 = .ok (.ldc2_w 33, 3) := by decide +kernel
theorem dX3_makeU_31 : decode cX3_makeU 31 = .ok (.land, 1) := by decide +kernel
theorem dX3_makeU_32 : decode cX3_makeU 32 = .ok (.lastore, 1) := by decide +kernel
theorem dX3_makeU_33 : decode cX3_makeU 33 = .ok (.iinc 1 1, 3) := by decide +kernel
theorem dX3_makeU_36 : decode cX3_makeU 36 = .ok (.goto (-34), 3) := by decide +kernel
theorem dX3_makeU_39 : decode cX3_makeU 39 = .ok (.aload_n 0, 1) := by decide +kernel
theorem dX3_makeU_40 : decode cX3_makeU 40 = .ok (.getfield 20, 3) := by decide +kernel
theorem dX3_makeU_43 : decode cX3_makeU 43 = .ok (.bipush 15, 2) := by decide +kernel
theorem dX3_makeU_45 : decode cX3_makeU 45 = .ok (.aload_n 0, 1) := by decide +kernel
theorem dX3_makeU_46 : decode cX3_makeU 46 = .ok (.getfield 20, 3) := by decide +kernel
theorem dX3_makeU_49 : decode cX3_makeU 49 = .ok (.bipush 15, 2) := by decide +kernel
theorem dX3_makeU_51 : decode cX3_makeU 51 = .ok (.laload, 1) := by decide +kernel
theorem dX3_makeU_52 : decode cX3_makeU 52 = .ok (.ldc2_w 37, 3) := by decide +kernel
theorem dX3_makeU_55 : decode cX3_makeU 55 = .ok (.land, 1) := by decide +kernel
theorem dX3_makeU_56 : decode cX3_makeU 56 = .ok (.lastore, 1) := by decide +kernel
theorem dX3_makeU_57 : decode cX3_makeU 57 = .ok (.aload_n 0, 1) := by decide +kernel
theorem dX3_makeU_58 : decode cX3_makeU 58 = .ok (.iconst 4, 1) := by decide +kernel
theorem dX3_makeU_59 : decode cX3_makeU 59 = .ok (.invokevirtual 45, 3) := by decide +kernel
theorem dX3_makeU_62 : decode cX3_makeU 62 = .ok (.return_, 1) := by decide +kernel
abbrev cX3_store : ByteArray := prog_5_method_8_code
def yX3_store : MethodName := ⟨RX3, "store", "(I)V"⟩
theorem dX3_store_0 : decode cX3_store 0 = .ok (.iconst 0, 1) := by decide +kernel
theorem dX3_store_1 : decode cX3_store 1 = .ok (.istore_n 2, 1) := by decide +kernel
theorem dX3_store_2 : decode cX3_store 2 = .ok (.iload_n 2, 1) := by decide +kernel
theorem dX3_store_3 : decode cX3_store 3 = .ok (.iconst 3, 1) := by decide +kernel
theorem dX3_store_4 : decode cX3_store 4 = .ok (.if_icmp .ge 112, 3) := by decide +kernel
theorem dX3_store_7 : decode cX3_store 7 = .ok (.lconst 0, 1) := by decide +kernel
theorem dX3_store_8 : decode cX3_store 8 = .ok (.lstore_n 3, 1) := by decide +kernel
theorem dX3_store_9 : decode cX3_store 9 = .ok (.iconst 0, 1) := by decide +kernel
theorem dX3_store_10 : decode cX3_store 10 = .ok (.istore 5, 2) := by decide +kernel
theorem dX3_store_12 : decode cX3_store 12 = .ok (.iload 5, 2) := by decide +kernel
theorem dX3_store_14 : decode cX3_store 14 = .ok (.bipush 16, 2) := by decide +kernel
theorem dX3_store_16 : decode cX3_store 16 = .ok (.if_icmp .ge 39, 3) := by decide +kernel
theorem dX3_store_19 : decode cX3_store 19 = .ok (.aload_n 0, 1) := by decide +kernel
theorem dX3_store_20 : decode cX3_store 20 = .ok (.getfield 20, 3) := by decide +kernel
theorem dX3_store_23 : decode cX3_store 23 = .ok (.iload 5, 2) := by decide +kernel
theorem dX3_store_25 : decode cX3_store 25 = .ok (.laload, 1) := by decide +kernel
theorem dX3_store_26 : decode cX3_store 26 = .ok (.lload_n 3, 1) := by decide +kernel
theorem dX3_store_27 : decode cX3_store 27 = .ok (.ladd, 1) := by decide +kernel
theorem dX3_store_28 : decode cX3_store 28 = .ok (.lstore 6, 2) := by decide +kernel
theorem dX3_store_30 : decode cX3_store 30 = .ok (.aload_n 0, 1) := by decide +kernel
theorem dX3_store_31 : decode cX3_store 31 = .ok (.getfield 20, 3) := by decide +kernel
theorem dX3_store_34 : decode cX3_store 34 = .ok (.iload 5, 2) := by decide +kernel
theorem dX3_store_36 : decode cX3_store 36 = .ok (.lload 6, 2) := by decide +kernel
theorem dX3_store_38 : decode cX3_store 38 = .ok (.ldc2_w 33, 3) := by decide +kernel
theorem dX3_store_41 : decode cX3_store 41 = .ok (.land, 1) := by decide +kernel
theorem dX3_store_42 : decode cX3_store 42 = .ok (.lastore, 1) := by decide +kernel
theorem dX3_store_43 : decode cX3_store 43 = .ok (.lload 6, 2) := by decide +kernel
theorem dX3_store_45 : decode cX3_store 45 = .ok (.bipush 16, 2) := by decide +kernel
theorem dX3_store_47 : decode cX3_store 47 = .ok (.lshr, 1) := by decide +kernel
theorem dX3_store_48 : decode cX3_store 48 = .ok (.lstore_n 3, 1) := by decide +kernel
theorem dX3_store_49 : decode cX3_store 49 = .ok (.iinc 5 1, 3) := by decide +kernel
theorem dX3_store_52 : decode cX3_store 52 = .ok (.goto (-40), 3) := by decide +kernel
theorem dX3_store_55 : decode cX3_store 55 = .ok (.lload_n 3, 1) := by decide +kernel
theorem dX3_store_56 : decode cX3_store 56 = .ok (.ldc2_w 35, 3) := by decide +kernel
theorem dX3_store_59 : decode cX3_store 59 = .ok (.lmul, 1) := by decide +kernel
theorem dX3_store_60 : decode cX3_store 60 = .ok (.aload_n 0, 1) := by decide +kernel
theorem dX3_store_61 : decode cX3_store 61 = .ok (.getfield 20, 3) := by decide +kernel
theorem dX3_store_64 : decode cX3_store 64 = .ok (.bipush 15, 2) := by decide +kernel
theorem dX3_store_66 : decode cX3_store 66 = .ok (.laload, 1) := by decide +kernel
theorem dX3_store_67 : decode cX3_store 67 = .ok (.bipush 15, 2) := by decide +kernel
theorem dX3_store_69 : decode cX3_store 69 = .ok (.lshr, 1) := by decide +kernel
theorem dX3_store_70 : decode cX3_store 70 = .ok (.ladd, 1) := by decide +kernel
theorem dX3_store_71 : decode cX3_store 71 = .ok (.lstore 5, 2) := by decide +kernel
theorem dX3_store_73 : decode cX3_store 73 = .ok (.aload_n 0, 1) := by decide +kernel
theorem dX3_store_74 : decode cX3_store 74 = .ok (.getfield 20, 3) := by decide +kernel
theorem dX3_store_77 : decode cX3_store 77 = .ok (.bipush 15, 2) := by decide +kernel
theorem dX3_store_79 : decode cX3_store 79 = .ok (.aload_n 0, 1) := by decide +kernel
theorem dX3_store_80 : decode cX3_store 80 = .ok (.getfield 20, 3) := by decide +kernel
theorem dX3_store_83 : decode cX3_store 83 = .ok (.bipush 15, 2) := by decide +kernel
theorem dX3_store_85 : decode cX3_store 85 = .ok (.laload, 1) := by decide +kernel
theorem dX3_store_86 : decode cX3_store 86 = .ok (.ldc2_w 37, 3) := by decide +kernel
theorem dX3_store_89 : decode cX3_store 89 = .ok (.land, 1) := by decide +kernel
theorem dX3_store_90 : decode cX3_store 90 = .ok (.lastore, 1) := by decide +kernel
theorem dX3_store_91 : decode cX3_store 91 = .ok (.aload_n 0, 1) := by decide +kernel
theorem dX3_store_92 : decode cX3_store 92 = .ok (.getfield 20, 3) := by decide +kernel
theorem dX3_store_95 : decode cX3_store 95 = .ok (.iconst 0, 1) := by decide +kernel
theorem dX3_store_96 : decode cX3_store 96 = .ok (.aload_n 0, 1) := by decide +kernel
theorem dX3_store_97 : decode cX3_store 97 = .ok (.getfield 20, 3) := by decide +kernel
theorem dX3_store_100 : decode cX3_store 100 = .ok (.iconst 0, 1) := by decide +kernel
theorem dX3_store_101 : decode cX3_store 101 = .ok (.laload, 1) := by decide +kernel
theorem dX3_store_102 : decode cX3_store 102 = .ok (.ldc2_w 39, 3) := by decide +kernel
theorem dX3_store_105 : decode cX3_store 105 = .ok (.lload 5, 2) := by decide +kernel
theorem dX3_store_107 : decode cX3_store 107 = .ok (.lmul, 1) := by decide +kernel
theorem dX3_store_108 : decode cX3_store 108 = .ok (.ladd, 1) := by decide +kernel
theorem dX3_store_109 : decode cX3_store 109 = .ok (.lastore, 1) := by decide +kernel
theorem dX3_store_110 : decode cX3_store 110 = .ok (.iinc 2 1, 3) := by decide +kernel
theorem dX3_store_113 : decode cX3_store 113 = .ok (.goto (-111), 3) := by decide +kernel
theorem dX3_store_116 : decode cX3_store 116 = .ok (.lconst 0, 1) := by decide +kernel
theorem dX3_store_117 : decode cX3_store 117 = .ok (.lstore_n 2, 1) := by decide +kernel
theorem dX3_store_118 : decode cX3_store 118 = .ok (.iconst 0, 1) := by decide +kernel
theorem dX3_store_119 : decode cX3_store 119 = .ok (.istore 4, 2) := by decide +kernel
theorem dX3_store_121 : decode cX3_store 121 = .ok (.iload 4, 2) := by decide +kernel
theorem dX3_store_123 : decode cX3_store 123 = .ok (.bipush 16, 2) := by decide +kernel
theorem dX3_store_125 : decode cX3_store 125 = .ok (.if_icmp .ge 39, 3) := by decide +kernel
theorem dX3_store_128 : decode cX3_store 128 = .ok (.aload_n 0, 1) := by decide +kernel
theorem dX3_store_129 : decode cX3_store 129 = .ok (.getfield 20, 3) := by decide +kernel
theorem dX3_store_132 : decode cX3_store 132 = .ok (.iload 4, 2) := by decide +kernel
theorem dX3_store_134 : decode cX3_store 134 = .ok (.laload, 1) := by decide +kernel
theorem dX3_store_135 : decode cX3_store 135 = .ok (.lload_n 2, 1) := by decide +kernel
theorem dX3_store_136 : decode cX3_store 136 = .ok (.ladd, 1) := by decide +kernel
theorem dX3_store_137 : decode cX3_store 137 = .ok (.lstore 5, 2) := by decide +kernel
theorem dX3_store_139 : decode cX3_store 139 = .ok (.aload_n 0, 1) := by decide +kernel
theorem dX3_store_140 : decode cX3_store 140 = .ok (.getfield 20, 3) := by decide +kernel
theorem dX3_store_143 : decode cX3_store 143 = .ok (.iload 4, 2) := by decide +kernel
theorem dX3_store_145 : decode cX3_store 145 = .ok (.lload 5, 2) := by decide +kernel
theorem dX3_store_147 : decode cX3_store 147 = .ok (.ldc2_w 33, 3) := by decide +kernel
theorem dX3_store_150 : decode cX3_store 150 = .ok (.land, 1) := by decide +kernel
theorem dX3_store_151 : decode cX3_store 151 = .ok (.lastore, 1) := by decide +kernel
theorem dX3_store_152 : decode cX3_store 152 = .ok (.lload 5, 2) := by decide +kernel
theorem dX3_store_154 : decode cX3_store 154 = .ok (.bipush 16, 2) := by decide +kernel
theorem dX3_store_156 : decode cX3_store 156 = .ok (.lshr, 1) := by decide +kernel
theorem dX3_store_157 : decode cX3_store 157 = .ok (.lstore_n 2, 1) := by decide +kernel
theorem dX3_store_158 : decode cX3_store 158 = .ok (.iinc 4 1, 3) := by decide +kernel
theorem dX3_store_161 : decode cX3_store 161 = .ok (.goto (-40), 3) := by decide +kernel
theorem dX3_store_164 : decode cX3_store 164 = .ok (.aload_n 0, 1) := by decide +kernel
theorem dX3_store_165 : decode cX3_store 165 = .ok (.invokevirtual 41, 3) := by decide +kernel
theorem dX3_store_168 : decode cX3_store 168 = .ok (.istore 4, 2) := by decide +kernel
theorem dX3_store_170 : decode cX3_store 170 = .ok (.lconst 0, 1) := by decide +kernel
theorem dX3_store_171 : decode cX3_store 171 = .ok (.lstore 5, 2) := by decide +kernel
theorem dX3_store_173 : decode cX3_store 173 = .ok (.iconst 0, 1) := by decide +kernel
theorem dX3_store_174 : decode cX3_store 174 = .ok (.istore 7, 2) := by decide +kernel
theorem dX3_store_176 : decode cX3_store 176 = .ok (.iload 7, 2) := by decide +kernel
theorem dX3_store_178 : decode cX3_store 178 = .ok (.bipush 16, 2) := by decide +kernel
theorem dX3_store_180 : decode cX3_store 180 = .ok (.if_icmp .ge 63, 3) := by decide +kernel
theorem dX3_store_183 : decode cX3_store 183 = .ok (.aload_n 0, 1) := by decide +kernel
theorem dX3_store_184 : decode cX3_store 184 = .ok (.getfield 20, 3) := by decide +kernel
theorem dX3_store_187 : decode cX3_store 187 = .ok (.iload 7, 2) := by decide +kernel
theorem dX3_store_189 : decode cX3_store 189 = .ok (.laload, 1) := by decide +kernel
theorem dX3_store_190 : decode cX3_store 190 = .ok (.iload 4, 2) := by decide +kernel
theorem dX3_store_192 : decode cX3_store 192 = .ok (.ifCond .eq 11, 3) := by decide +kernel
theorem dX3_store_195 : decode cX3_store 195 = .ok (.iload 7, 2) := by decide +kernel
theorem dX3_store_197 : decode cX3_store 197 = .ok (.invokestatic 29, 3) := by decide +kernel
theorem dX3_store_200 : decode cX3_store 200 = .ok (.goto 4, 3) := by decide +kernel
theorem dX3_store_203 : decode cX3_store 203 = .ok (.iconst 0, 1) := by decide +kernel
theorem dX3_store_204 : decode cX3_store 204 = .ok (.i2l, 1) := by decide +kernel
theorem dX3_store_205 : decode cX3_store 205 = .ok (.lsub, 1) := by decide +kernel
theorem dX3_store_206 : decode cX3_store 206 = .ok (.lload 5, 2) := by decide +kernel
theorem dX3_store_208 : decode cX3_store 208 = .ok (.ladd, 1) := by decide +kernel
theorem dX3_store_209 : decode cX3_store 209 = .ok (.lstore 8, 2) := by decide +kernel
theorem dX3_store_211 : decode cX3_store 211 = .ok (.aload_n 0, 1) := by decide +kernel
theorem dX3_store_212 : decode cX3_store 212 = .ok (.getfield 16, 3) := by decide +kernel
theorem dX3_store_215 : decode cX3_store 215 = .ok (.bipush 16, 2) := by decide +kernel
theorem dX3_store_217 : decode cX3_store 217 = .ok (.iload_n 1, 1) := by decide +kernel
theorem dX3_store_218 : decode cX3_store 218 = .ok (.imul, 1) := by decide +kernel
theorem dX3_store_219 : decode cX3_store 219 = .ok (.iload 7, 2) := by decide +kernel
theorem dX3_store_221 : decode cX3_store 221 = .ok (.iadd, 1) := by decide +kernel
theorem dX3_store_222 : decode cX3_store 222 = .ok (.lload 8, 2) := by decide +kernel
theorem dX3_store_224 : decode cX3_store 224 = .ok (.ldc2_w 33, 3) := by decide +kernel
theorem dX3_store_227 : decode cX3_store 227 = .ok (.land, 1) := by decide +kernel
theorem dX3_store_228 : decode cX3_store 228 = .ok (.l2i, 1) := by decide +kernel
theorem dX3_store_229 : decode cX3_store 229 = .ok (.iastore, 1) := by decide +kernel
theorem dX3_store_230 : decode cX3_store 230 = .ok (.lload 8, 2) := by decide +kernel
theorem dX3_store_232 : decode cX3_store 232 = .ok (.bipush 16, 2) := by decide +kernel
theorem dX3_store_234 : decode cX3_store 234 = .ok (.lshr, 1) := by decide +kernel
theorem dX3_store_235 : decode cX3_store 235 = .ok (.lstore 5, 2) := by decide +kernel
theorem dX3_store_237 : decode cX3_store 237 = .ok (.iinc 7 1, 3) := by decide +kernel
theorem dX3_store_240 : decode cX3_store 240 = .ok (.goto (-64), 3) := by decide +kernel
theorem dX3_store_243 : decode cX3_store 243 = .ok (.return_, 1) := by decide +kernel
abbrev cX3_isGreat : ByteArray := prog_5_method_7_code
def yX3_isGreat : MethodName := ⟨RX3, "isGreat", "()Z"⟩
theorem dX3_isGreat_0 : decode cX3_isGreat 0 = .ok (.bipush 15, 2) := by decide +kernel
theorem dX3_isGreat_2 : decode cX3_isGreat 2 = .ok (.istore_n 1, 1) := by decide +kernel
theorem dX3_isGreat_3 : decode cX3_isGreat 3 = .ok (.iload_n 1, 1) := by decide +kernel
theorem dX3_isGreat_4 : decode cX3_isGreat 4 = .ok (.ifCond .lt 45, 3) := by decide +kernel
theorem dX3_isGreat_7 : decode cX3_isGreat 7 = .ok (.aload_n 0, 1) := by decide +kernel
theorem dX3_isGreat_8 : decode cX3_isGreat 8 = .ok (.getfield 20, 3) := by decide +kernel
theorem dX3_isGreat_11 : decode cX3_isGreat 11 = .ok (.iload_n 1, 1) := by decide +kernel
theorem dX3_isGreat_12 : decode cX3_isGreat 12 = .ok (.laload, 1) := by decide +kernel
theorem dX3_isGreat_13 : decode cX3_isGreat 13 = .ok (.iload_n 1, 1) := by decide +kernel
theorem dX3_isGreat_14 : decode cX3_isGreat 14 = .ok (.invokestatic 29, 3) := by decide +kernel
theorem dX3_isGreat_17 : decode cX3_isGreat 17 = .ok (.i2l, 1) := by decide +kernel
theorem dX3_isGreat_18 : decode cX3_isGreat 18 = .ok (.lcmp, 1) := by decide +kernel
theorem dX3_isGreat_19 : decode cX3_isGreat 19 = .ok (.ifCond .eq 24, 3) := by decide +kernel
theorem dX3_isGreat_22 : decode cX3_isGreat 22 = .ok (.aload_n 0, 1) := by decide +kernel
theorem dX3_isGreat_23 : decode cX3_isGreat 23 = .ok (.getfield 20, 3) := by decide +kernel
theorem dX3_isGreat_26 : decode cX3_isGreat 26 = .ok (.iload_n 1, 1) := by decide +kernel
theorem dX3_isGreat_27 : decode cX3_isGreat 27 = .ok (.laload, 1) := by decide +kernel
theorem dX3_isGreat_28 : decode cX3_isGreat 28 = .ok (.iload_n 1, 1) := by decide +kernel
theorem dX3_isGreat_29 : decode cX3_isGreat 29 = .ok (.invokestatic 29, 3) := by decide +kernel
theorem dX3_isGreat_32 : decode cX3_isGreat 32 = .ok (.i2l, 1) := by decide +kernel
theorem dX3_isGreat_33 : decode cX3_isGreat 33 = .ok (.lcmp, 1) := by decide +kernel
theorem dX3_isGreat_34 : decode cX3_isGreat 34 = .ok (.ifCond .le 7, 3) := by decide +kernel
theorem dX3_isGreat_37 : decode cX3_isGreat 37 = .ok (.iconst 1, 1) := by decide +kernel
theorem dX3_isGreat_38 : decode cX3_isGreat 38 = .ok (.goto 4, 3) := by decide +kernel
theorem dX3_isGreat_41 : decode cX3_isGreat 41 = .ok (.iconst 0, 1) := by decide +kernel
theorem dX3_isGreat_42 : decode cX3_isGreat 42 = .ok (.ireturn, 1) := by decide +kernel
theorem dX3_isGreat_43 : decode cX3_isGreat 43 = .ok (.iinc 1 (-1), 3) := by decide +kernel
theorem dX3_isGreat_46 : decode cX3_isGreat 46 = .ok (.goto (-43), 3) := by decide +kernel
theorem dX3_isGreat_49 : decode cX3_isGreat 49 = .ok (.iconst 1, 1) := by decide +kernel
theorem dX3_isGreat_50 : decode cX3_isGreat 50 = .ok (.ireturn, 1) := by decide +kernel
abbrev cX3_ofP : ByteArray := prog_5_method_6_code
def yX3_ofP : MethodName := ⟨RX3, "ofP", "(I)I"⟩
theorem dX3_ofP_0 : decode cX3_ofP 0 = .ok (.iload_n 0, 1) := by decide +kernel
theorem dX3_ofP_1 : decode cX3_ofP 1 = .ok (.ifCond .ne 8, 3) := by decide +kernel
theorem dX3_ofP_4 : decode cX3_ofP 4 = .ok (.ldc 27, 2) := by decide +kernel
theorem dX3_ofP_6 : decode cX3_ofP 6 = .ok (.goto 17, 3) := by decide +kernel
theorem dX3_ofP_9 : decode cX3_ofP 9 = .ok (.iload_n 0, 1) := by decide +kernel
theorem dX3_ofP_10 : decode cX3_ofP 10 = .ok (.bipush 15, 2) := by decide +kernel
theorem dX3_ofP_12 : decode cX3_ofP 12 = .ok (.if_icmp .ne 9, 3) := by decide +kernel
theorem dX3_ofP_15 : decode cX3_ofP 15 = .ok (.sipush 32767, 3) := by decide +kernel
theorem dX3_ofP_18 : decode cX3_ofP 18 = .ok (.goto 5, 3) := by decide +kernel
theorem dX3_ofP_21 : decode cX3_ofP 21 = .ok (.ldc 28, 2) := by decide +kernel
theorem dX3_ofP_23 : decode cX3_ofP 23 = .ok (.ireturn, 1) := by decide +kernel
abbrev cX3_setSmall : ByteArray := prog_5_method_3_code
def yX3_setSmall : MethodName := ⟨RX3, "setSmall", "(II)V"⟩
theorem dX3_setSmall_0 : decode cX3_setSmall 0 = .ok (.iconst 0, 1) := by decide +kernel
theorem dX3_setSmall_1 : decode cX3_setSmall 1 = .ok (.istore_n 3, 1) := by decide +kernel
theorem dX3_setSmall_2 : decode cX3_setSmall 2 = .ok (.iload_n 3, 1) := by decide +kernel
theorem dX3_setSmall_3 : decode cX3_setSmall 3 = .ok (.bipush 16, 2) := by decide +kernel
theorem dX3_setSmall_5 : decode cX3_setSmall 5 = .ok (.if_icmp .ge 29, 3) := by decide +kernel
theorem dX3_setSmall_8 : decode cX3_setSmall 8 = .ok (.aload_n 0, 1) := by decide +kernel
theorem dX3_setSmall_9 : decode cX3_setSmall 9 = .ok (.getfield 16, 3) := by decide +kernel
theorem dX3_setSmall_12 : decode cX3_setSmall 12 = .ok (.bipush 16, 2) := by decide +kernel
theorem dX3_setSmall_14 : decode cX3_setSmall 14 = .ok (.iload_n 1, 1) := by decide +kernel
theorem dX3_setSmall_15 : decode cX3_setSmall 15 = .ok (.imul, 1) := by decide +kernel
theorem dX3_setSmall_16 : decode cX3_setSmall 16 = .ok (.iload_n 3, 1) := by decide +kernel
theorem dX3_setSmall_17 : decode cX3_setSmall 17 = .ok (.iadd, 1) := by decide +kernel
theorem dX3_setSmall_18 : decode cX3_setSmall 18 = .ok (.iload_n 3, 1) := by decide +kernel
theorem dX3_setSmall_19 : decode cX3_setSmall 19 = .ok (.ifCond .ne 7, 3) := by decide +kernel
theorem dX3_setSmall_22 : decode cX3_setSmall 22 = .ok (.iload_n 2, 1) := by decide +kernel
theorem dX3_setSmall_23 : decode cX3_setSmall 23 = .ok (.goto 4, 3) := by decide +kernel
theorem dX3_setSmall_26 : decode cX3_setSmall 26 = .ok (.iconst 0, 1) := by decide +kernel
theorem dX3_setSmall_27 : decode cX3_setSmall 27 = .ok (.iastore, 1) := by decide +kernel
theorem dX3_setSmall_28 : decode cX3_setSmall 28 = .ok (.iinc 3 1, 3) := by decide +kernel
theorem dX3_setSmall_31 : decode cX3_setSmall 31 = .ok (.goto (-29), 3) := by decide +kernel
theorem dX3_setSmall_34 : decode cX3_setSmall 34 = .ok (.return_, 1) := by decide +kernel
abbrev cX3_copy : ByteArray := prog_5_method_4_code
def yX3_copy : MethodName := ⟨RX3, "copy", "(II)V"⟩
theorem dX3_copy_0 : decode cX3_copy 0 = .ok (.iconst 0, 1) := by decide +kernel
theorem dX3_copy_1 : decode cX3_copy 1 = .ok (.istore_n 3, 1) := by decide +kernel
theorem dX3_copy_2 : decode cX3_copy 2 = .ok (.iload_n 3, 1) := by decide +kernel
theorem dX3_copy_3 : decode cX3_copy 3 = .ok (.bipush 16, 2) := by decide +kernel
theorem dX3_copy_5 : decode cX3_copy 5 = .ok (.if_icmp .ge 31, 3) := by decide +kernel
theorem dX3_copy_8 : decode cX3_copy 8 = .ok (.aload_n 0, 1) := by decide +kernel
theorem dX3_copy_9 : decode cX3_copy 9 = .ok (.getfield 16, 3) := by decide +kernel
theorem dX3_copy_12 : decode cX3_copy 12 = .ok (.bipush 16, 2) := by decide +kernel
theorem dX3_copy_14 : decode cX3_copy 14 = .ok (.iload_n 1, 1) := by decide +kernel
theorem dX3_copy_15 : decode cX3_copy 15 = .ok (.imul, 1) := by decide +kernel
theorem dX3_copy_16 : decode cX3_copy 16 = .ok (.iload_n 3, 1) := by decide +kernel
theorem dX3_copy_17 : decode cX3_copy 17 = .ok (.iadd, 1) := by decide +kernel
theorem dX3_copy_18 : decode cX3_copy 18 = .ok (.aload_n 0, 1) := by decide +kernel
theorem dX3_copy_19 : decode cX3_copy 19 = .ok (.getfield 16, 3) := by decide +kernel
theorem dX3_copy_22 : decode cX3_copy 22 = .ok (.bipush 16, 2) := by decide +kernel
theorem dX3_copy_24 : decode cX3_copy 24 = .ok (.iload_n 2, 1) := by decide +kernel
theorem dX3_copy_25 : decode cX3_copy 25 = .ok (.imul, 1) := by decide +kernel
theorem dX3_copy_26 : decode cX3_copy 26 = .ok (.iload_n 3, 1) := by decide +kernel
theorem dX3_copy_27 : decode cX3_copy 27 = .ok (.iadd, 1) := by decide +kernel
theorem dX3_copy_28 : decode cX3_copy 28 = .ok (.iaload, 1) := by decide +kernel
theorem dX3_copy_29 : decode cX3_copy 29 = .ok (.iastore, 1) := by decide +kernel
theorem dX3_copy_30 : decode cX3_copy 30 = .ok (.iinc 3 1, 3) := by decide +kernel
theorem dX3_copy_33 : decode cX3_copy 33 = .ok (.goto (-31), 3) := by decide +kernel
theorem dX3_copy_36 : decode cX3_copy 36 = .ok (.return_, 1) := by decide +kernel
abbrev cX3_step : ByteArray := prog_5_method_24_code
def yX3_step : MethodName := ⟨RX3, "step", "(I)I"⟩
theorem dX3_step_0 : decode cX3_step 0 = .ok (.aload_n 0, 1) := by decide +kernel
theorem dX3_step_1 : decode cX3_step 1 = .ok (.getfield 53, 3) := by decide +kernel
theorem dX3_step_4 : decode cX3_step 4 = .ok (.iconst 1, 1) := by decide +kernel
theorem dX3_step_5 : decode cX3_step 5 = .ok (.if_icmp .ne 8, 3) := by decide +kernel
theorem dX3_step_8 : decode cX3_step 8 = .ok (.iload_n 1, 1) := by decide +kernel
theorem dX3_step_9 : decode cX3_step 9 = .ok (.iconst 1, 1) := by decide +kernel
theorem dX3_step_10 : decode cX3_step 10 = .ok (.if_icmp .ge 5, 3) := by decide +kernel
theorem dX3_step_13 : decode cX3_step 13 = .ok (.iconst (-1), 1) := by decide +kernel
theorem dX3_step_14 : decode cX3_step 14 = .ok (.ireturn, 1) := by decide +kernel
theorem dX3_step_15 : decode cX3_step 15 = .ok (.iconst 0, 1) := by decide +kernel
theorem dX3_step_16 : decode cX3_step 16 = .ok (.istore_n 2, 1) := by decide +kernel
theorem dX3_step_17 : decode cX3_step 17 = .ok (.iload_n 2, 1) := by decide +kernel
theorem dX3_step_18 : decode cX3_step 18 = .ok (.iload_n 1, 1) := by decide +kernel
theorem dX3_step_19 : decode cX3_step 19 = .ok (.if_icmp .ge 23, 3) := by decide +kernel
theorem dX3_step_22 : decode cX3_step 22 = .ok (.aload_n 0, 1) := by decide +kernel
theorem dX3_step_23 : decode cX3_step 23 = .ok (.getfield 61, 3) := by decide +kernel
theorem dX3_step_26 : decode cX3_step 26 = .ok (.sipush 255, 3) := by decide +kernel
theorem dX3_step_29 : decode cX3_step 29 = .ok (.if_icmp .ge 13, 3) := by decide +kernel
theorem dX3_step_32 : decode cX3_step 32 = .ok (.aload_n 0, 1) := by decide +kernel
theorem dX3_step_33 : decode cX3_step 33 = .ok (.invokevirtual 94, 3) := by decide +kernel
theorem dX3_step_36 : decode cX3_step 36 = .ok (.iinc 2 1, 3) := by decide +kernel
theorem dX3_step_39 : decode cX3_step 39 = .ok (.goto (-22), 3) := by decide +kernel
theorem dX3_step_42 : decode cX3_step 42 = .ok (.sipush 255, 3) := by decide +kernel
theorem dX3_step_45 : decode cX3_step 45 = .ok (.aload_n 0, 1) := by decide +kernel
theorem dX3_step_46 : decode cX3_step 46 = .ok (.getfield 61, 3) := by decide +kernel
theorem dX3_step_49 : decode cX3_step 49 = .ok (.isub, 1) := by decide +kernel
theorem dX3_step_50 : decode cX3_step 50 = .ok (.ireturn, 1) := by decide +kernel
abbrev cX3_stepOnce : ByteArray := prog_5_method_23_code
def yX3_stepOnce : MethodName := ⟨RX3, "stepOnce", "()V"⟩
theorem dX3_stepOnce_0 : decode cX3_stepOnce 0 = .ok (.aload_n 0, 1) := by decide +kernel
theorem dX3_stepOnce_1 : decode cX3_stepOnce 1 = .ok (.sipush 254, 3) := by decide +kernel
theorem dX3_stepOnce_4 : decode cX3_stepOnce 4 = .ok (.aload_n 0, 1) := by decide +kernel
theorem dX3_stepOnce_5 : decode cX3_stepOnce 5 = .ok (.getfield 61, 3) := by decide +kernel
theorem dX3_stepOnce_8 : decode cX3_stepOnce 8 = .ok (.isub, 1) := by decide +kernel
theorem dX3_stepOnce_9 : decode cX3_stepOnce 9 = .ok (.invokevirtual 73, 3) := by decide +kernel
theorem dX3_stepOnce_12 : decode cX3_stepOnce 12 = .ok (.istore_n 1, 1) := by decide +kernel
theorem dX3_stepOnce_13 : decode cX3_stepOnce 13 = .ok (.aload_n 0, 1) := by decide +kernel
theorem dX3_stepOnce_14 : decode cX3_stepOnce 14 = .ok (.iload_n 1, 1) := by decide +kernel
theorem dX3_stepOnce_15 : decode cX3_stepOnce 15 = .ok (.invokevirtual 76, 3) := by decide +kernel
theorem dX3_stepOnce_18 : decode cX3_stepOnce 18 = .ok (.aload_n 0, 1) := by decide +kernel
theorem dX3_stepOnce_19 : decode cX3_stepOnce 19 = .ok (.bipush 6, 2) := by decide +kernel
theorem dX3_stepOnce_21 : decode cX3_stepOnce 21 = .ok (.iconst 0, 1) := by decide +kernel
theorem dX3_stepOnce_22 : decode cX3_stepOnce 22 = .ok (.iconst 1, 1) := by decide +kernel
theorem dX3_stepOnce_23 : decode cX3_stepOnce 23 = .ok (.invokevirtual 80, 3) := by decide +kernel
theorem dX3_stepOnce_26 : decode cX3_stepOnce 26 = .ok (.aload_n 0, 1) := by decide +kernel
theorem dX3_stepOnce_27 : decode cX3_stepOnce 27 = .ok (.bipush 7, 2) := by decide +kernel
theorem dX3_stepOnce_29 : decode cX3_stepOnce 29 = .ok (.iconst 0, 1) := by decide +kernel
theorem dX3_stepOnce_30 : decode cX3_stepOnce 30 = .ok (.iconst 1, 1) := by decide +kernel
theorem dX3_stepOnce_31 : decode cX3_stepOnce 31 = .ok (.invokevirtual 84, 3) := by decide +kernel
theorem dX3_stepOnce_34 : decode cX3_stepOnce 34 = .ok (.aload_n 0, 1) := by decide +kernel
theorem dX3_stepOnce_35 : decode cX3_stepOnce 35 = .ok (.bipush 8, 2) := by decide +kernel
theorem dX3_stepOnce_37 : decode cX3_stepOnce 37 = .ok (.iconst 2, 1) := by decide +kernel
theorem dX3_stepOnce_38 : decode cX3_stepOnce 38 = .ok (.iconst 3, 1) := by decide +kernel
theorem dX3_stepOnce_39 : decode cX3_stepOnce 39 = .ok (.invokevirtual 80, 3) := by decide +kernel
theorem dX3_stepOnce_42 : decode cX3_stepOnce 42 = .ok (.aload_n 0, 1) := by decide +kernel
theorem dX3_stepOnce_43 : decode cX3_stepOnce 43 = .ok (.bipush 9, 2) := by decide +kernel
theorem dX3_stepOnce_45 : decode cX3_stepOnce 45 = .ok (.iconst 2, 1) := by decide +kernel
theorem dX3_stepOnce_46 : decode cX3_stepOnce 46 = .ok (.iconst 3, 1) := by decide +kernel
theorem dX3_stepOnce_47 : decode cX3_stepOnce 47 = .ok (.invokevirtual 84, 3) := by decide +kernel
theorem dX3_stepOnce_50 : decode cX3_stepOnce 50 = .ok (.aload_n 0, 1) := by decide +kernel
theorem dX3_stepOnce_51 : decode cX3_stepOnce 51 = .ok (.bipush 9, 2) := by decide +kernel
theorem dX3_stepOnce_53 : decode cX3_stepOnce 53 = .ok (.bipush 9, 2) := by decide +kernel
theorem dX3_stepOnce_55 : decode cX3_stepOnce 55 = .ok (.bipush 6, 2) := by decide +kernel
theorem dX3_stepOnce_57 : decode cX3_stepOnce 57 = .ok (.invokevirtual 87, 3) := by decide +kernel
theorem dX3_stepOnce_60 : decode cX3_stepOnce 60 = .ok (.aload_n 0, 1) := by decide +kernel
theorem dX3_stepOnce_61 : decode cX3_stepOnce 61 = .ok (.bipush 8, 2) := by decide +kernel
theorem dX3_stepOnce_63 : decode cX3_stepOnce 63 = .ok (.bipush 8, 2) := by decide +kernel
theorem dX3_stepOnce_65 : decode cX3_stepOnce 65 = .ok (.bipush 7, 2) := by decide +kernel
theorem dX3_stepOnce_67 : decode cX3_stepOnce 67 = .ok (.invokevirtual 87, 3) := by decide +kernel
theorem dX3_stepOnce_70 : decode cX3_stepOnce 70 = .ok (.aload_n 0, 1) := by decide +kernel
theorem dX3_stepOnce_71 : decode cX3_stepOnce 71 = .ok (.bipush 6, 2) := by decide +kernel
theorem dX3_stepOnce_73 : decode cX3_stepOnce 73 = .ok (.bipush 6, 2) := by decide +kernel
theorem dX3_stepOnce_75 : decode cX3_stepOnce 75 = .ok (.bipush 6, 2) := by decide +kernel
theorem dX3_stepOnce_77 : decode cX3_stepOnce 77 = .ok (.invokevirtual 87, 3) := by decide +kernel
theorem dX3_stepOnce_80 : decode cX3_stepOnce 80 = .ok (.aload_n 0, 1) := by decide +kernel
theorem dX3_stepOnce_81 : decode cX3_stepOnce 81 = .ok (.bipush 7, 2) := by decide +kernel
theorem dX3_stepOnce_83 : decode cX3_stepOnce 83 = .ok (.bipush 7, 2) := by decide +kernel
theorem dX3_stepOnce_85 : decode cX3_stepOnce 85 = .ok (.bipush 7, 2) := by decide +kernel
theorem dX3_stepOnce_87 : decode cX3_stepOnce 87 = .ok (.invokevirtual 87, 3) := by decide +kernel
theorem dX3_stepOnce_90 : decode cX3_stepOnce 90 = .ok (.aload_n 0, 1) := by decide +kernel
theorem dX3_stepOnce_91 : decode cX3_stepOnce 91 = .ok (.bipush 10, 2) := by decide +kernel
theorem dX3_stepOnce_93 : decode cX3_stepOnce 93 = .ok (.bipush 6, 2) := by decide +kernel
theorem dX3_stepOnce_95 : decode cX3_stepOnce 95 = .ok (.bipush 7, 2) := by decide +kernel
theorem dX3_stepOnce_97 : decode cX3_stepOnce 97 = .ok (.invokevirtual 84, 3) := by decide +kernel
theorem dX3_stepOnce_100 : decode cX3_stepOnce 100 = .ok (.aload_n 0, 1) := by decide +kernel
theorem dX3_stepOnce_101 : decode cX3_stepOnce 101 = .ok (.iconst 0, 1) := by decide +kernel
theorem dX3_stepOnce_102 : decode cX3_stepOnce 102 = .ok (.bipush 6, 2) := by decide +kernel
theorem dX3_stepOnce_104 : decode cX3_stepOnce 104 = .ok (.bipush 7, 2) := by decide +kernel
theorem dX3_stepOnce_106 : decode cX3_stepOnce 106 = .ok (.invokevirtual 87, 3) := by decide +kernel
theorem dX3_stepOnce_109 : decode cX3_stepOnce 109 = .ok (.aload_n 0, 1) := by decide +kernel
theorem dX3_stepOnce_110 : decode cX3_stepOnce 110 = .ok (.bipush 11, 2) := by decide +kernel
theorem dX3_stepOnce_112 : decode cX3_stepOnce 112 = .ok (.bipush 10, 2) := by decide +kernel
theorem dX3_stepOnce_114 : decode cX3_stepOnce 114 = .ok (.ldc 90, 2) := by decide +kernel
theorem dX3_stepOnce_116 : decode cX3_stepOnce 116 = .ok (.invokevirtual 91, 3) := by decide +kernel
theorem dX3_stepOnce_119 : decode cX3_stepOnce 119 = .ok (.aload_n 0, 1) := by decide +kernel
theorem dX3_stepOnce_120 : decode cX3_stepOnce 120 = .ok (.bipush 11, 2) := by decide +kernel
theorem dX3_stepOnce_122 : decode cX3_stepOnce 122 = .ok (.bipush 11, 2) := by decide +kernel
theorem dX3_stepOnce_124 : decode cX3_stepOnce 124 = .ok (.bipush 6, 2) := by decide +kernel
theorem dX3_stepOnce_126 : decode cX3_stepOnce 126 = .ok (.invokevirtual 80, 3) := by decide +kernel
theorem dX3_stepOnce_129 : decode cX3_stepOnce 129 = .ok (.aload_n 0, 1) := by decide +kernel
theorem dX3_stepOnce_130 : decode cX3_stepOnce 130 = .ok (.iconst 1, 1) := by decide +kernel
theorem dX3_stepOnce_131 : decode cX3_stepOnce 131 = .ok (.bipush 10, 2) := by decide +kernel
theorem dX3_stepOnce_133 : decode cX3_stepOnce 133 = .ok (.bipush 11, 2) := by decide +kernel
theorem dX3_stepOnce_135 : decode cX3_stepOnce 135 = .ok (.invokevirtual 87, 3) := by decide +kernel
theorem dX3_stepOnce_138 : decode cX3_stepOnce 138 = .ok (.aload_n 0, 1) := by decide +kernel
theorem dX3_stepOnce_139 : decode cX3_stepOnce 139 = .ok (.bipush 11, 2) := by decide +kernel
theorem dX3_stepOnce_141 : decode cX3_stepOnce 141 = .ok (.bipush 9, 2) := by decide +kernel
theorem dX3_stepOnce_143 : decode cX3_stepOnce 143 = .ok (.bipush 8, 2) := by decide +kernel
theorem dX3_stepOnce_145 : decode cX3_stepOnce 145 = .ok (.invokevirtual 80, 3) := by decide +kernel
theorem dX3_stepOnce_148 : decode cX3_stepOnce 148 = .ok (.aload_n 0, 1) := by decide +kernel
theorem dX3_stepOnce_149 : decode cX3_stepOnce 149 = .ok (.iconst 2, 1) := by decide +kernel
theorem dX3_stepOnce_150 : decode cX3_stepOnce 150 = .ok (.bipush 11, 2) := by decide +kernel
theorem dX3_stepOnce_152 : decode cX3_stepOnce 152 = .ok (.bipush 11, 2) := by decide +kernel
theorem dX3_stepOnce_154 : decode cX3_stepOnce 154 = .ok (.invokevirtual 87, 3) := by decide +kernel
theorem dX3_stepOnce_157 : decode cX3_stepOnce 157 = .ok (.aload_n 0, 1) := by decide +kernel
theorem dX3_stepOnce_158 : decode cX3_stepOnce 158 = .ok (.bipush 11, 2) := by decide +kernel
theorem dX3_stepOnce_160 : decode cX3_stepOnce 160 = .ok (.bipush 9, 2) := by decide +kernel
theorem dX3_stepOnce_162 : decode cX3_stepOnce 162 = .ok (.bipush 8, 2) := by decide +kernel
theorem dX3_stepOnce_164 : decode cX3_stepOnce 164 = .ok (.invokevirtual 84, 3) := by decide +kernel
theorem dX3_stepOnce_167 : decode cX3_stepOnce 167 = .ok (.aload_n 0, 1) := by decide +kernel
theorem dX3_stepOnce_168 : decode cX3_stepOnce 168 = .ok (.bipush 11, 2) := by decide +kernel
theorem dX3_stepOnce_170 : decode cX3_stepOnce 170 = .ok (.bipush 11, 2) := by decide +kernel
theorem dX3_stepOnce_172 : decode cX3_stepOnce 172 = .ok (.bipush 11, 2) := by decide +kernel
theorem dX3_stepOnce_174 : decode cX3_stepOnce 174 = .ok (.invokevirtual 87, 3) := by decide +kernel
theorem dX3_stepOnce_177 : decode cX3_stepOnce 177 = .ok (.aload_n 0, 1) := by decide +kernel
theorem dX3_stepOnce_178 : decode cX3_stepOnce 178 = .ok (.iconst 3, 1) := by decide +kernel
theorem dX3_stepOnce_179 : decode cX3_stepOnce 179 = .ok (.iconst 4, 1) := by decide +kernel
theorem dX3_stepOnce_180 : decode cX3_stepOnce 180 = .ok (.bipush 11, 2) := by decide +kernel
theorem dX3_stepOnce_182 : decode cX3_stepOnce 182 = .ok (.invokevirtual 87, 3) := by decide +kernel
theorem dX3_stepOnce_185 : decode cX3_stepOnce 185 = .ok (.aload_n 0, 1) := by decide +kernel
theorem dX3_stepOnce_186 : decode cX3_stepOnce 186 = .ok (.iload_n 1, 1) := by decide +kernel
theorem dX3_stepOnce_187 : decode cX3_stepOnce 187 = .ok (.invokevirtual 76, 3) := by decide +kernel
theorem dX3_stepOnce_190 : decode cX3_stepOnce 190 = .ok (.aload_n 0, 1) := by decide +kernel
theorem dX3_stepOnce_191 : decode cX3_stepOnce 191 = .ok (.dup, 1) := by decide +kernel
theorem dX3_stepOnce_192 : decode cX3_stepOnce 192 = .ok (.getfield 61, 3) := by decide +kernel
theorem dX3_stepOnce_195 : decode cX3_stepOnce 195 = .ok (.iconst 1, 1) := by decide +kernel
theorem dX3_stepOnce_196 : decode cX3_stepOnce 196 = .ok (.iadd, 1) := by decide +kernel
theorem dX3_stepOnce_197 : decode cX3_stepOnce 197 = .ok (.putfield 61, 3) := by decide +kernel
theorem dX3_stepOnce_200 : decode cX3_stepOnce 200 = .ok (.return_, 1) := by decide +kernel
abbrev cX3_bit : ByteArray := prog_5_method_19_code
def yX3_bit : MethodName := ⟨RX3, "bit", "(I)Z"⟩
theorem dX3_bit_0 : decode cX3_bit 0 = .ok (.iload_n 1, 1) := by decide +kernel
theorem dX3_bit_1 : decode cX3_bit 1 = .ok (.iconst 3, 1) := by decide +kernel
theorem dX3_bit_2 : decode cX3_bit 2 = .ok (.if_icmp .lt 10, 3) := by decide +kernel
theorem dX3_bit_5 : decode cX3_bit 5 = .ok (.iload_n 1, 1) := by decide +kernel
theorem dX3_bit_6 : decode cX3_bit 6 = .ok (.sipush 255, 3) := by decide +kernel
theorem dX3_bit_9 : decode cX3_bit 9 = .ok (.if_icmp .ne 5, 3) := by decide +kernel
theorem dX3_bit_12 : decode cX3_bit 12 = .ok (.iconst 0, 1) := by decide +kernel
theorem dX3_bit_13 : decode cX3_bit 13 = .ok (.ireturn, 1) := by decide +kernel
theorem dX3_bit_14 : decode cX3_bit 14 = .ok (.iload_n 1, 1) := by decide +kernel
theorem dX3_bit_15 : decode cX3_bit 15 = .ok (.sipush 254, 3) := by decide +kernel
theorem dX3_bit_18 : decode cX3_bit 18 = .ok (.if_icmp .eq 24, 3) := by decide +kernel
theorem dX3_bit_21 : decode cX3_bit 21 = .ok (.aload_n 0, 1) := by decide +kernel
theorem dX3_bit_22 : decode cX3_bit 22 = .ok (.getfield 7, 3) := by decide +kernel
theorem dX3_bit_25 : decode cX3_bit 25 = .ok (.iload_n 1, 1) := by decide +kernel
theorem dX3_bit_26 : decode cX3_bit 26 = .ok (.bipush 64, 2) := by decide +kernel
theorem dX3_bit_28 : decode cX3_bit 28 = .ok (.idiv, 1) := by decide +kernel
theorem dX3_bit_29 : decode cX3_bit 29 = .ok (.laload, 1) := by decide +kernel
theorem dX3_bit_30 : decode cX3_bit 30 = .ok (.iload_n 1, 1) := by decide +kernel
theorem dX3_bit_31 : decode cX3_bit 31 = .ok (.bipush 64, 2) := by decide +kernel
theorem dX3_bit_33 : decode cX3_bit 33 = .ok (.irem, 1) := by decide +kernel
theorem dX3_bit_34 : decode cX3_bit 34 = .ok (.lshr, 1) := by decide +kernel
theorem dX3_bit_35 : decode cX3_bit 35 = .ok (.lconst 1, 1) := by decide +kernel
theorem dX3_bit_36 : decode cX3_bit 36 = .ok (.land, 1) := by decide +kernel
theorem dX3_bit_37 : decode cX3_bit 37 = .ok (.lconst 1, 1) := by decide +kernel
theorem dX3_bit_38 : decode cX3_bit 38 = .ok (.lcmp, 1) := by decide +kernel
theorem dX3_bit_39 : decode cX3_bit 39 = .ok (.ifCond .ne 7, 3) := by decide +kernel
theorem dX3_bit_42 : decode cX3_bit 42 = .ok (.iconst 1, 1) := by decide +kernel
theorem dX3_bit_43 : decode cX3_bit 43 = .ok (.goto 4, 3) := by decide +kernel
theorem dX3_bit_46 : decode cX3_bit 46 = .ok (.iconst 0, 1) := by decide +kernel
theorem dX3_bit_47 : decode cX3_bit 47 = .ok (.ireturn, 1) := by decide +kernel
abbrev cX3_change : ByteArray := prog_5_method_22_code
def yX3_change : MethodName := ⟨RX3, "change", "(Z)V"⟩
theorem dX3_change_0 : decode cX3_change 0 = .ok (.iload_n 1, 1) := by decide +kernel
theorem dX3_change_1 : decode cX3_change 1 = .ok (.ifCond .eq 15, 3) := by decide +kernel
theorem dX3_change_4 : decode cX3_change 4 = .ok (.aload_n 0, 1) := by decide +kernel
theorem dX3_change_5 : decode cX3_change 5 = .ok (.iconst 0, 1) := by decide +kernel
theorem dX3_change_6 : decode cX3_change 6 = .ok (.iconst 2, 1) := by decide +kernel
theorem dX3_change_7 : decode cX3_change 7 = .ok (.invokevirtual 70, 3) := by decide +kernel
theorem dX3_change_10 : decode cX3_change 10 = .ok (.aload_n 0, 1) := by decide +kernel
theorem dX3_change_11 : decode cX3_change 11 = .ok (.iconst 1, 1) := by decide +kernel
theorem dX3_change_12 : decode cX3_change 12 = .ok (.iconst 3, 1) := by decide +kernel
theorem dX3_change_13 : decode cX3_change 13 = .ok (.invokevirtual 70, 3) := by decide +kernel
theorem dX3_change_16 : decode cX3_change 16 = .ok (.return_, 1) := by decide +kernel
abbrev cX3_swap : ByteArray := prog_5_method_5_code
def yX3_swap : MethodName := ⟨RX3, "swap", "(II)V"⟩
theorem dX3_swap_0 : decode cX3_swap 0 = .ok (.aload_n 0, 1) := by decide +kernel
theorem dX3_swap_1 : decode cX3_swap 1 = .ok (.bipush 12, 2) := by decide +kernel
theorem dX3_swap_3 : decode cX3_swap 3 = .ok (.iload_n 1, 1) := by decide +kernel
theorem dX3_swap_4 : decode cX3_swap 4 = .ok (.invokevirtual 23, 3) := by decide +kernel
theorem dX3_swap_7 : decode cX3_swap 7 = .ok (.aload_n 0, 1) := by decide +kernel
theorem dX3_swap_8 : decode cX3_swap 8 = .ok (.iload_n 1, 1) := by decide +kernel
theorem dX3_swap_9 : decode cX3_swap 9 = .ok (.iload_n 2, 1) := by decide +kernel
theorem dX3_swap_10 : decode cX3_swap 10 = .ok (.invokevirtual 23, 3) := by decide +kernel
theorem dX3_swap_13 : decode cX3_swap 13 = .ok (.aload_n 0, 1) := by decide +kernel
theorem dX3_swap_14 : decode cX3_swap 14 = .ok (.iload_n 2, 1) := by decide +kernel
theorem dX3_swap_15 : decode cX3_swap 15 = .ok (.bipush 12, 2) := by decide +kernel
theorem dX3_swap_17 : decode cX3_swap 17 = .ok (.invokevirtual 23, 3) := by decide +kernel
theorem dX3_swap_20 : decode cX3_swap 20 = .ok (.return_, 1) := by decide +kernel
abbrev cX3_add : ByteArray := prog_5_method_9_code
def yX3_add : MethodName := ⟨RX3, "add", "(III)V"⟩
theorem dX3_add_0 : decode cX3_add 0 = .ok (.iconst 0, 1) := by decide +kernel
theorem dX3_add_1 : decode cX3_add 1 = .ok (.istore 4, 2) := by decide +kernel
theorem dX3_add_3 : decode cX3_add 3 = .ok (.iload 4, 2) := by decide +kernel
theorem dX3_add_5 : decode cX3_add 5 = .ok (.bipush 16, 2) := by decide +kernel
theorem dX3_add_7 : decode cX3_add 7 = .ok (.if_icmp .ge 43, 3) := by decide +kernel
theorem dX3_add_10 : decode cX3_add 10 = .ok (.aload_n 0, 1) := by decide +kernel
theorem dX3_add_11 : decode cX3_add 11 = .ok (.getfield 20, 3) := by decide +kernel
theorem dX3_add_14 : decode cX3_add 14 = .ok (.iload 4, 2) := by decide +kernel
theorem dX3_add_16 : decode cX3_add 16 = .ok (.aload_n 0, 1) := by decide +kernel
theorem dX3_add_17 : decode cX3_add 17 = .ok (.getfield 16, 3) := by decide +kernel
theorem dX3_add_20 : decode cX3_add 20 = .ok (.bipush 16, 2) := by decide +kernel
theorem dX3_add_22 : decode cX3_add 22 = .ok (.iload_n 2, 1) := by decide +kernel
theorem dX3_add_23 : decode cX3_add 23 = .ok (.imul, 1) := by decide +kernel
theorem dX3_add_24 : decode cX3_add 24 = .ok (.iload 4, 2) := by decide +kernel
theorem dX3_add_26 : decode cX3_add 26 = .ok (.iadd, 1) := by decide +kernel
theorem dX3_add_27 : decode cX3_add 27 = .ok (.iaload, 1) := by decide +kernel
theorem dX3_add_28 : decode cX3_add 28 = .ok (.i2l, 1) := by decide +kernel
theorem dX3_add_29 : decode cX3_add 29 = .ok (.aload_n 0, 1) := by decide +kernel
theorem dX3_add_30 : decode cX3_add 30 = .ok (.getfield 16, 3) := by decide +kernel
theorem dX3_add_33 : decode cX3_add 33 = .ok (.bipush 16, 2) := by decide +kernel
theorem dX3_add_35 : decode cX3_add 35 = .ok (.iload_n 3, 1) := by decide +kernel
theorem dX3_add_36 : decode cX3_add 36 = .ok (.imul, 1) := by decide +kernel
theorem dX3_add_37 : decode cX3_add 37 = .ok (.iload 4, 2) := by decide +kernel
theorem dX3_add_39 : decode cX3_add 39 = .ok (.iadd, 1) := by decide +kernel
theorem dX3_add_40 : decode cX3_add 40 = .ok (.iaload, 1) := by decide +kernel
theorem dX3_add_41 : decode cX3_add 41 = .ok (.i2l, 1) := by decide +kernel
theorem dX3_add_42 : decode cX3_add 42 = .ok (.ladd, 1) := by decide +kernel
theorem dX3_add_43 : decode cX3_add 43 = .ok (.lastore, 1) := by decide +kernel
theorem dX3_add_44 : decode cX3_add 44 = .ok (.iinc 4 1, 3) := by decide +kernel
theorem dX3_add_47 : decode cX3_add 47 = .ok (.goto (-44), 3) := by decide +kernel
theorem dX3_add_50 : decode cX3_add 50 = .ok (.aload_n 0, 1) := by decide +kernel
theorem dX3_add_51 : decode cX3_add 51 = .ok (.iload_n 1, 1) := by decide +kernel
theorem dX3_add_52 : decode cX3_add 52 = .ok (.invokevirtual 45, 3) := by decide +kernel
theorem dX3_add_55 : decode cX3_add 55 = .ok (.return_, 1) := by decide +kernel
abbrev cX3_subtract : ByteArray := prog_5_method_10_code
def yX3_subtract : MethodName := ⟨RX3, "subtract", "(III)V"⟩
theorem dX3_subtract_0 : decode cX3_subtract 0 = .ok (.lconst 0, 1) := by decide +kernel
theorem dX3_subtract_1 : decode cX3_subtract 1 = .ok (.lstore 4, 2) := by decide +kernel
theorem dX3_subtract_3 : decode cX3_subtract 3 = .ok (.iconst 0, 1) := by decide +kernel
theorem dX3_subtract_4 : decode cX3_subtract 4 = .ok (.istore 6, 2) := by decide +kernel
theorem dX3_subtract_6 : decode cX3_subtract 6 = .ok (.iload 6, 2) := by decide +kernel
theorem dX3_subtract_8 : decode cX3_subtract 8 = .ok (.bipush 16, 2) := by decide +kernel
theorem dX3_subtract_10 : decode cX3_subtract 10 = .ok (.if_icmp .ge 68, 3) := by decide +kernel
theorem dX3_subtract_13 : decode cX3_subtract 13 = .ok (.aload_n 0, 1) := by decide +kernel
theorem dX3_subtract_14 : decode cX3_subtract 14 = .ok (.getfield 16, 3) := by decide +kernel
theorem dX3_subtract_17 : decode cX3_subtract 17 = .ok (.bipush 16, 2) := by decide +kernel
theorem dX3_subtract_19 : decode cX3_subtract 19 = .ok (.iload_n 2, 1) := by decide +kernel
theorem dX3_subtract_20 : decode cX3_subtract 20 = .ok (.imul, 1) := by decide +kernel
theorem dX3_subtract_21 : decode cX3_subtract 21 = .ok (.iload 6, 2) := by decide +kernel
theorem dX3_subtract_23 : decode cX3_subtract 23 = .ok (.iadd, 1) := by decide +kernel
theorem dX3_subtract_24 : decode cX3_subtract 24 = .ok (.iaload, 1) := by decide +kernel
theorem dX3_subtract_25 : decode cX3_subtract 25 = .ok (.i2l, 1) := by decide +kernel
theorem dX3_subtract_26 : decode cX3_subtract 26 = .ok (.iload 6, 2) := by decide +kernel
theorem dX3_subtract_28 : decode cX3_subtract 28 = .ok (.invokestatic 29, 3) := by decide +kernel
theorem dX3_subtract_31 : decode cX3_subtract 31 = .ok (.i2l, 1) := by decide +kernel
theorem dX3_subtract_32 : decode cX3_subtract 32 = .ok (.ladd, 1) := by decide +kernel
theorem dX3_subtract_33 : decode cX3_subtract 33 = .ok (.aload_n 0, 1) := by decide +kernel
theorem dX3_subtract_34 : decode cX3_subtract 34 = .ok (.getfield 16, 3) := by decide +kernel
theorem dX3_subtract_37 : decode cX3_subtract 37 = .ok (.bipush 16, 2) := by decide +kernel
theorem dX3_subtract_39 : decode cX3_subtract 39 = .ok (.iload_n 3, 1) := by decide +kernel
theorem dX3_subtract_40 : decode cX3_subtract 40 = .ok (.imul, 1) := by decide +kernel
theorem dX3_subtract_41 : decode cX3_subtract 41 = .ok (.iload 6, 2) := by decide +kernel
theorem dX3_subtract_43 : decode cX3_subtract 43 = .ok (.iadd, 1) := by decide +kernel
theorem dX3_subtract_44 : decode cX3_subtract 44 = .ok (.iaload, 1) := by decide +kernel
theorem dX3_subtract_45 : decode cX3_subtract 45 = .ok (.i2l, 1) := by decide +kernel
theorem dX3_subtract_46 : decode cX3_subtract 46 = .ok (.lsub, 1) := by decide +kernel
theorem dX3_subtract_47 : decode cX3_subtract 47 = .ok (.lload 4, 2) := by decide +kernel
theorem dX3_subtract_49 : decode cX3_subtract 49 = .ok (.ladd, 1) := by decide +kernel
theorem dX3_subtract_50 : decode cX3_subtract 50 = .ok (.lstore 7, 2) := by decide +kernel
theorem dX3_subtract_52 : decode cX3_subtract 52 = .ok (.aload_n 0, 1) := by decide +kernel
theorem dX3_subtract_53 : decode cX3_subtract 53 = .ok (.getfield 20, 3) := by decide +kernel
theorem dX3_subtract_56 : decode cX3_subtract 56 = .ok (.iload 6, 2) := by decide +kernel
theorem dX3_subtract_58 : decode cX3_subtract 58 = .ok (.lload 7, 2) := by decide +kernel
theorem dX3_subtract_60 : decode cX3_subtract 60 = .ok (.ldc2_w 33, 3) := by decide +kernel
theorem dX3_subtract_63 : decode cX3_subtract 63 = .ok (.land, 1) := by decide +kernel
theorem dX3_subtract_64 : decode cX3_subtract 64 = .ok (.lastore, 1) := by decide +kernel
theorem dX3_subtract_65 : decode cX3_subtract 65 = .ok (.lload 7, 2) := by decide +kernel
theorem dX3_subtract_67 : decode cX3_subtract 67 = .ok (.bipush 16, 2) := by decide +kernel
theorem dX3_subtract_69 : decode cX3_subtract 69 = .ok (.lshr, 1) := by decide +kernel
theorem dX3_subtract_70 : decode cX3_subtract 70 = .ok (.lstore 4, 2) := by decide +kernel
theorem dX3_subtract_72 : decode cX3_subtract 72 = .ok (.iinc 6 1, 3) := by decide +kernel
theorem dX3_subtract_75 : decode cX3_subtract 75 = .ok (.goto (-69), 3) := by decide +kernel
theorem dX3_subtract_78 : decode cX3_subtract 78 = .ok (.aload_n 0, 1) := by decide +kernel
theorem dX3_subtract_79 : decode cX3_subtract 79 = .ok (.getfield 20, 3) := by decide +kernel
theorem dX3_subtract_82 : decode cX3_subtract 82 = .ok (.bipush 15, 2) := by decide +kernel
theorem dX3_subtract_84 : decode cX3_subtract 84 = .ok (.aload_n 0, 1) := by decide +kernel
theorem dX3_subtract_85 : decode cX3_subtract 85 = .ok (.getfield 20, 3) := by decide +kernel
theorem dX3_subtract_88 : decode cX3_subtract 88 = .ok (.bipush 15, 2) := by decide +kernel
theorem dX3_subtract_90 : decode cX3_subtract 90 = .ok (.laload, 1) := by decide +kernel
theorem dX3_subtract_91 : decode cX3_subtract 91 = .ok (.lload 4, 2) := by decide +kernel
theorem dX3_subtract_93 : decode cX3_subtract 93 = .ok (.ldc2_w 49, 3) := by decide +kernel
theorem dX3_subtract_96 : decode cX3_subtract 96 = .ok (.lmul, 1) := by decide +kernel
theorem dX3_subtract_97 : decode cX3_subtract 97 = .ok (.ladd, 1) := by decide +kernel
theorem dX3_subtract_98 : decode cX3_subtract 98 = .ok (.lastore, 1) := by decide +kernel
theorem dX3_subtract_99 : decode cX3_subtract 99 = .ok (.aload_n 0, 1) := by decide +kernel
theorem dX3_subtract_100 : decode cX3_subtract 100 = .ok (.iload_n 1, 1) := by decide +kernel
theorem dX3_subtract_101 : decode cX3_subtract 101 = .ok (.invokevirtual 45, 3) := by decide +kernel
theorem dX3_subtract_104 : decode cX3_subtract 104 = .ok (.return_, 1) := by decide +kernel
abbrev cX3_multiply : ByteArray := prog_5_method_11_code
def yX3_multiply : MethodName := ⟨RX3, "multiply", "(III)V"⟩
theorem dX3_multiply_0 : decode cX3_multiply 0 = .ok (.iconst 0, 1) := by decide +kernel
theorem dX3_multiply_1 : decode cX3_multiply 1 = .ok (.istore 4, 2) := by decide +kernel
theorem dX3_multiply_3 : decode cX3_multiply 3 = .ok (.iload 4, 2) := by decide +kernel
theorem dX3_multiply_5 : decode cX3_multiply 5 = .ok (.bipush 32, 2) := by decide +kernel
theorem dX3_multiply_7 : decode cX3_multiply 7 = .ok (.if_icmp .ge 17, 3) := by decide +kernel
theorem dX3_multiply_10 : decode cX3_multiply 10 = .ok (.aload_n 0, 1) := by decide +kernel
theorem dX3_multiply_11 : decode cX3_multiply 11 = .ok (.getfield 20, 3) := by decide +kernel
theorem dX3_multiply_14 : decode cX3_multiply 14 = .ok (.iload 4, 2) := by decide +kernel
theorem dX3_multiply_16 : decode cX3_multiply 16 = .ok (.lconst 0, 1) := by decide +kernel
theorem dX3_multiply_17 : decode cX3_multiply 17 = .ok (.lastore, 1) := by decide +kernel
theorem dX3_multiply_18 : decode cX3_multiply 18 = .ok (.iinc 4 1, 3) := by decide +kernel
theorem dX3_multiply_21 : decode cX3_multiply 21 = .ok (.goto (-18), 3) := by decide +kernel
theorem dX3_multiply_24 : decode cX3_multiply 24 = .ok (.iconst 0, 1) := by decide +kernel
theorem dX3_multiply_25 : decode cX3_multiply 25 = .ok (.istore 4, 2) := by decide +kernel
theorem dX3_multiply_27 : decode cX3_multiply 27 = .ok (.iload 4, 2) := by decide +kernel
theorem dX3_multiply_29 : decode cX3_multiply 29 = .ok (.bipush 16, 2) := by decide +kernel
theorem dX3_multiply_31 : decode cX3_multiply 31 = .ok (.if_icmp .ge 73, 3) := by decide +kernel
theorem dX3_multiply_34 : decode cX3_multiply 34 = .ok (.iconst 0, 1) := by decide +kernel
theorem dX3_multiply_35 : decode cX3_multiply 35 = .ok (.istore 5, 2) := by decide +kernel
theorem dX3_multiply_37 : decode cX3_multiply 37 = .ok (.iload 5, 2) := by decide +kernel
theorem dX3_multiply_39 : decode cX3_multiply 39 = .ok (.bipush 16, 2) := by decide +kernel
theorem dX3_multiply_41 : decode cX3_multiply 41 = .ok (.if_icmp .ge 57, 3) := by decide +kernel
theorem dX3_multiply_44 : decode cX3_multiply 44 = .ok (.aload_n 0, 1) := by decide +kernel
theorem dX3_multiply_45 : decode cX3_multiply 45 = .ok (.getfield 20, 3) := by decide +kernel
theorem dX3_multiply_48 : decode cX3_multiply 48 = .ok (.iload 4, 2) := by decide +kernel
theorem dX3_multiply_50 : decode cX3_multiply 50 = .ok (.iload 5, 2) := by decide +kernel
theorem dX3_multiply_52 : decode cX3_multiply 52 = .ok (.iadd, 1) := by decide +kernel
theorem dX3_multiply_53 : decode cX3_multiply 53 = .ok (.aload_n 0, 1) := by decide +kernel
theorem dX3_multiply_54 : decode cX3_multiply 54 = .ok (.getfield 20, 3) := by decide +kernel
theorem dX3_multiply_57 : decode cX3_multiply 57 = .ok (.iload 4, 2) := by decide +kernel
theorem dX3_multiply_59 : decode cX3_multiply 59 = .ok (.iload 5, 2) := by decide +kernel
theorem dX3_multiply_61 : decode cX3_multiply 61 = .ok (.iadd, 1) := by decide +kernel
theorem dX3_multiply_62 : decode cX3_multiply 62 = .ok (.laload, 1) := by decide +kernel
theorem dX3_multiply_63 : decode cX3_multiply 63 = .ok (.aload_n 0, 1) := by decide +kernel
theorem dX3_multiply_64 : decode cX3_multiply 64 = .ok (.getfield 16, 3) := by decide +kernel
theorem dX3_multiply_67 : decode cX3_multiply 67 = .ok (.bipush 16, 2) := by decide +kernel
theorem dX3_multiply_69 : decode cX3_multiply 69 = .ok (.iload_n 2, 1) := by decide +kernel
theorem dX3_multiply_70 : decode cX3_multiply 70 = .ok (.imul, 1) := by decide +kernel
theorem dX3_multiply_71 : decode cX3_multiply 71 = .ok (.iload 4, 2) := by decide +kernel
theorem dX3_multiply_73 : decode cX3_multiply 73 = .ok (.iadd, 1) := by decide +kernel
theorem dX3_multiply_74 : decode cX3_multiply 74 = .ok (.iaload, 1) := by decide +kernel
theorem dX3_multiply_75 : decode cX3_multiply 75 = .ok (.i2l, 1) := by decide +kernel
theorem dX3_multiply_76 : decode cX3_multiply 76 = .ok (.aload_n 0, 1) := by decide +kernel
theorem dX3_multiply_77 : decode cX3_multiply 77 = .ok (.getfield 16, 3) := by decide +kernel
theorem dX3_multiply_80 : decode cX3_multiply 80 = .ok (.bipush 16, 2) := by decide +kernel
theorem dX3_multiply_82 : decode cX3_multiply 82 = .ok (.iload_n 3, 1) := by decide +kernel
theorem dX3_multiply_83 : decode cX3_multiply 83 = .ok (.imul, 1) := by decide +kernel
theorem dX3_multiply_84 : decode cX3_multiply 84 = .ok (.iload 5, 2) := by decide +kernel
theorem dX3_multiply_86 : decode cX3_multiply 86 = .ok (.iadd, 1) := by decide +kernel
theorem dX3_multiply_87 : decode cX3_multiply 87 = .ok (.iaload, 1) := by decide +kernel
theorem dX3_multiply_88 : decode cX3_multiply 88 = .ok (.i2l, 1) := by decide +kernel
theorem dX3_multiply_89 : decode cX3_multiply 89 = .ok (.lmul, 1) := by decide +kernel
theorem dX3_multiply_90 : decode cX3_multiply 90 = .ok (.ladd, 1) := by decide +kernel
theorem dX3_multiply_91 : decode cX3_multiply 91 = .ok (.lastore, 1) := by decide +kernel
theorem dX3_multiply_92 : decode cX3_multiply 92 = .ok (.iinc 5 1, 3) := by decide +kernel
theorem dX3_multiply_95 : decode cX3_multiply 95 = .ok (.goto (-58), 3) := by decide +kernel
theorem dX3_multiply_98 : decode cX3_multiply 98 = .ok (.iinc 4 1, 3) := by decide +kernel
theorem dX3_multiply_101 : decode cX3_multiply 101 = .ok (.goto (-74), 3) := by decide +kernel
theorem dX3_multiply_104 : decode cX3_multiply 104 = .ok (.iconst 0, 1) := by decide +kernel
theorem dX3_multiply_105 : decode cX3_multiply 105 = .ok (.istore 4, 2) := by decide +kernel
theorem dX3_multiply_107 : decode cX3_multiply 107 = .ok (.iload 4, 2) := by decide +kernel
theorem dX3_multiply_109 : decode cX3_multiply 109 = .ok (.bipush 16, 2) := by decide +kernel
theorem dX3_multiply_111 : decode cX3_multiply 111 = .ok (.if_icmp .ge 38, 3) := by decide +kernel
theorem dX3_multiply_114 : decode cX3_multiply 114 = .ok (.aload_n 0, 1) := by decide +kernel
theorem dX3_multiply_115 : decode cX3_multiply 115 = .ok (.getfield 20, 3) := by decide +kernel
theorem dX3_multiply_118 : decode cX3_multiply 118 = .ok (.iload 4, 2) := by decide +kernel
theorem dX3_multiply_120 : decode cX3_multiply 120 = .ok (.aload_n 0, 1) := by decide +kernel
theorem dX3_multiply_121 : decode cX3_multiply 121 = .ok (.getfield 20, 3) := by decide +kernel
theorem dX3_multiply_124 : decode cX3_multiply 124 = .ok (.iload 4, 2) := by decide +kernel
theorem dX3_multiply_126 : decode cX3_multiply 126 = .ok (.laload, 1) := by decide +kernel
theorem dX3_multiply_127 : decode cX3_multiply 127 = .ok (.ldc2_w 51, 3) := by decide +kernel
theorem dX3_multiply_130 : decode cX3_multiply 130 = .ok (.aload_n 0, 1) := by decide +kernel
theorem dX3_multiply_131 : decode cX3_multiply 131 = .ok (.getfield 20, 3) := by decide +kernel
theorem dX3_multiply_134 : decode cX3_multiply 134 = .ok (.bipush 16, 2) := by decide +kernel
theorem dX3_multiply_136 : decode cX3_multiply 136 = .ok (.iload 4, 2) := by decide +kernel
theorem dX3_multiply_138 : decode cX3_multiply 138 = .ok (.iadd, 1) := by decide +kernel
theorem dX3_multiply_139 : decode cX3_multiply 139 = .ok (.laload, 1) := by decide +kernel
theorem dX3_multiply_140 : decode cX3_multiply 140 = .ok (.lmul, 1) := by decide +kernel
theorem dX3_multiply_141 : decode cX3_multiply 141 = .ok (.ladd, 1) := by decide +kernel
theorem dX3_multiply_142 : decode cX3_multiply 142 = .ok (.lastore, 1) := by decide +kernel
theorem dX3_multiply_143 : decode cX3_multiply 143 = .ok (.iinc 4 1, 3) := by decide +kernel
theorem dX3_multiply_146 : decode cX3_multiply 146 = .ok (.goto (-39), 3) := by decide +kernel
theorem dX3_multiply_149 : decode cX3_multiply 149 = .ok (.aload_n 0, 1) := by decide +kernel
theorem dX3_multiply_150 : decode cX3_multiply 150 = .ok (.iload_n 1, 1) := by decide +kernel
theorem dX3_multiply_151 : decode cX3_multiply 151 = .ok (.invokevirtual 45, 3) := by decide +kernel
theorem dX3_multiply_154 : decode cX3_multiply 154 = .ok (.return_, 1) := by decide +kernel
abbrev cX3_multiplySmall : ByteArray := prog_5_method_12_code
def yX3_multiplySmall : MethodName := ⟨RX3, "multiplySmall", "(III)V"⟩
theorem dX3_multiplySmall_0 : decode cX3_multiplySmall 0 = .ok (.iconst 0, 1) := by decide +kernel
theorem dX3_multiplySmall_1 : decode cX3_multiplySmall 1 = .ok (.istore 4, 2) := by decide +kernel
theorem dX3_multiplySmall_3 : decode cX3_multiplySmall 3 = .ok (.iload 4, 2) := by decide +kernel
theorem dX3_multiplySmall_5 : decode cX3_multiplySmall 5 = .ok (.bipush 16, 2) := by decide +kernel
theorem dX3_multiplySmall_7 : decode cX3_multiplySmall 7 = .ok (.if_icmp .ge 32, 3) := by decide +kernel
theorem dX3_multiplySmall_10 : decode cX3_multiplySmall 10 = .ok (.aload_n 0, 1) := by decide +kernel
theorem dX3_multiplySmall_11 : decode cX3_multiplySmall 11 = .ok (.getfield 20, 3) := by decide +kernel
theorem dX3_multiplySmall_14 : decode cX3_multiplySmall 14 = .ok (.iload 4, 2) := by decide +kernel
theorem dX3_multiplySmall_16 : decode cX3_multiplySmall 16 = .ok (.aload_n 0, 1) := by decide +kernel
theorem dX3_multiplySmall_17 : decode cX3_multiplySmall 17 = .ok (.getfield 16, 3) := by decide +kernel
theorem dX3_multiplySmall_20 : decode cX3_multiplySmall 20 = .ok (.bipush 16, 2) := by decide +kernel
theorem dX3_multiplySmall_22 : decode cX3_multiplySmall 22 = .ok (.iload_n 2, 1) := by decide +kernel
theorem dX3_multiplySmall_23 : decode cX3_multiplySmall 23 = .ok (.imul, 1) := by decide +kernel
theorem dX3_multiplySmall_24 : decode cX3_multiplySmall 24 = .ok (.iload 4, 2) := by decide +kernel
theorem dX3_multiplySmall_26 : decode cX3_multiplySmall 26 = .ok (.iadd, 1) := by decide +kernel
theorem dX3_multiplySmall_27 : decode cX3_multiplySmall 27 = .ok (.iaload, 1) := by decide +kernel
theorem dX3_multiplySmall_28 : decode cX3_multiplySmall 28 = .ok (.i2l, 1) := by decide +kernel
theorem dX3_multiplySmall_29 : decode cX3_multiplySmall 29 = .ok (.iload_n 3, 1) := by decide +kernel
theorem dX3_multiplySmall_30 : decode cX3_multiplySmall 30 = .ok (.i2l, 1) := by decide +kernel
theorem dX3_multiplySmall_31 : decode cX3_multiplySmall 31 = .ok (.lmul, 1) := by decide +kernel
theorem dX3_multiplySmall_32 : decode cX3_multiplySmall 32 = .ok (.lastore, 1) := by decide +kernel
theorem dX3_multiplySmall_33 : decode cX3_multiplySmall 33 = .ok (.iinc 4 1, 3) := by decide +kernel
theorem dX3_multiplySmall_36 : decode cX3_multiplySmall 36 = .ok (.goto (-33), 3) := by decide +kernel
theorem dX3_multiplySmall_39 : decode cX3_multiplySmall 39 = .ok (.aload_n 0, 1) := by decide +kernel
theorem dX3_multiplySmall_40 : decode cX3_multiplySmall 40 = .ok (.iload_n 1, 1) := by decide +kernel
theorem dX3_multiplySmall_41 : decode cX3_multiplySmall 41 = .ok (.invokevirtual 45, 3) := by decide +kernel
theorem dX3_multiplySmall_44 : decode cX3_multiplySmall 44 = .ok (.return_, 1) := by decide +kernel
abbrev cX3_finish : ByteArray := prog_5_method_25_code
def yX3_finish : MethodName := ⟨RX3, "finish", "()I"⟩
theorem dX3_finish_0 : decode cX3_finish 0 = .ok (.aload_n 0, 1) := by decide +kernel
theorem dX3_finish_1 : decode cX3_finish 1 = .ok (.getfield 53, 3) := by decide +kernel
theorem dX3_finish_4 : decode cX3_finish 4 = .ok (.iconst 1, 1) := by decide +kernel
theorem dX3_finish_5 : decode cX3_finish 5 = .ok (.if_icmp .ne 13, 3) := by decide +kernel
theorem dX3_finish_8 : decode cX3_finish 8 = .ok (.aload_n 0, 1) := by decide +kernel
theorem dX3_finish_9 : decode cX3_finish 9 = .ok (.getfield 61, 3) := by decide +kernel
theorem dX3_finish_12 : decode cX3_finish 12 = .ok (.sipush 255, 3) := by decide +kernel
theorem dX3_finish_15 : decode cX3_finish 15 = .ok (.if_icmp .ge 5, 3) := by decide +kernel
theorem dX3_finish_18 : decode cX3_finish 18 = .ok (.iconst 0, 1) := by decide +kernel
theorem dX3_finish_19 : decode cX3_finish 19 = .ok (.ireturn, 1) := by decide +kernel
theorem dX3_finish_20 : decode cX3_finish 20 = .ok (.aload_n 0, 1) := by decide +kernel
theorem dX3_finish_21 : decode cX3_finish 21 = .ok (.bipush 6, 2) := by decide +kernel
theorem dX3_finish_23 : decode cX3_finish 23 = .ok (.iconst 1, 1) := by decide +kernel
theorem dX3_finish_24 : decode cX3_finish 24 = .ok (.invokevirtual 67, 3) := by decide +kernel
theorem dX3_finish_27 : decode cX3_finish 27 = .ok (.sipush 254, 3) := by decide +kernel
theorem dX3_finish_30 : decode cX3_finish 30 = .ok (.istore_n 1, 1) := by decide +kernel
theorem dX3_finish_31 : decode cX3_finish 31 = .ok (.iload_n 1, 1) := by decide +kernel
theorem dX3_finish_32 : decode cX3_finish 32 = .ok (.ifCond .lt 43, 3) := by decide +kernel
theorem dX3_finish_35 : decode cX3_finish 35 = .ok (.aload_n 0, 1) := by decide +kernel
theorem dX3_finish_36 : decode cX3_finish 36 = .ok (.bipush 6, 2) := by decide +kernel
theorem dX3_finish_38 : decode cX3_finish 38 = .ok (.bipush 6, 2) := by decide +kernel
theorem dX3_finish_40 : decode cX3_finish 40 = .ok (.bipush 6, 2) := by decide +kernel
theorem dX3_finish_42 : decode cX3_finish 42 = .ok (.invokevirtual 87, 3) := by decide +kernel
theorem dX3_finish_45 : decode cX3_finish 45 = .ok (.iload_n 1, 1) := by decide +kernel
theorem dX3_finish_46 : decode cX3_finish 46 = .ok (.iconst 5, 1) := by decide +kernel
theorem dX3_finish_47 : decode cX3_finish 47 = .ok (.if_icmp .ge 13, 3) := by decide +kernel
theorem dX3_finish_50 : decode cX3_finish 50 = .ok (.iload_n 1, 1) := by decide +kernel
theorem dX3_finish_51 : decode cX3_finish 51 = .ok (.iconst 3, 1) := by decide +kernel
theorem dX3_finish_52 : decode cX3_finish 52 = .ok (.if_icmp .eq 8, 3) := by decide +kernel
theorem dX3_finish_55 : decode cX3_finish 55 = .ok (.iload_n 1, 1) := by decide +kernel
theorem dX3_finish_56 : decode cX3_finish 56 = .ok (.iconst 2, 1) := by decide +kernel
theorem dX3_finish_57 : decode cX3_finish 57 = .ok (.if_icmp .ge 12, 3) := by decide +kernel
theorem dX3_finish_60 : decode cX3_finish 60 = .ok (.aload_n 0, 1) := by decide +kernel
theorem dX3_finish_61 : decode cX3_finish 61 = .ok (.bipush 6, 2) := by decide +kernel
theorem dX3_finish_63 : decode cX3_finish 63 = .ok (.bipush 6, 2) := by decide +kernel
theorem dX3_finish_65 : decode cX3_finish 65 = .ok (.iconst 1, 1) := by decide +kernel
theorem dX3_finish_66 : decode cX3_finish 66 = .ok (.invokevirtual 87, 3) := by decide +kernel
theorem dX3_finish_69 : decode cX3_finish 69 = .ok (.iinc 1 (-1), 3) := by decide +kernel
theorem dX3_finish_72 : decode cX3_finish 72 = .ok (.goto (-41), 3) := by decide +kernel
theorem dX3_finish_75 : decode cX3_finish 75 = .ok (.aload_n 0, 1) := by decide +kernel
theorem dX3_finish_76 : decode cX3_finish 76 = .ok (.iconst 5, 1) := by decide +kernel
theorem dX3_finish_77 : decode cX3_finish 77 = .ok (.iconst 0, 1) := by decide +kernel
theorem dX3_finish_78 : decode cX3_finish 78 = .ok (.bipush 6, 2) := by decide +kernel
theorem dX3_finish_80 : decode cX3_finish 80 = .ok (.invokevirtual 87, 3) := by decide +kernel
theorem dX3_finish_83 : decode cX3_finish 83 = .ok (.aload_n 0, 1) := by decide +kernel
theorem dX3_finish_84 : decode cX3_finish 84 = .ok (.iconst 2, 1) := by decide +kernel
theorem dX3_finish_85 : decode cX3_finish 85 = .ok (.putfield 53, 3) := by decide +kernel
theorem dX3_finish_88 : decode cX3_finish 88 = .ok (.aload_n 0, 1) := by decide +kernel
theorem dX3_finish_89 : decode cX3_finish 89 = .ok (.dup, 1) := by decide +kernel
theorem dX3_finish_90 : decode cX3_finish 90 = .ok (.getfield 97, 3) := by decide +kernel
theorem dX3_finish_93 : decode cX3_finish 93 = .ok (.iconst 1, 1) := by decide +kernel
theorem dX3_finish_94 : decode cX3_finish 94 = .ok (.iadd, 1) := by decide +kernel
theorem dX3_finish_95 : decode cX3_finish 95 = .ok (.putfield 97, 3) := by decide +kernel
theorem dX3_finish_98 : decode cX3_finish 98 = .ok (.iconst 1, 1) := by decide +kernel
theorem dX3_finish_99 : decode cX3_finish 99 = .ok (.ireturn, 1) := by decide +kernel
abbrev cX3_again : ByteArray := prog_5_method_26_code
def yX3_again : MethodName := ⟨RX3, "again", "()I"⟩
theorem dX3_again_0 : decode cX3_again 0 = .ok (.aload_n 0, 1) := by decide +kernel
theorem dX3_again_1 : decode cX3_again 1 = .ok (.getfield 53, 3) := by decide +kernel
theorem dX3_again_4 : decode cX3_again 4 = .ok (.iconst 2, 1) := by decide +kernel
theorem dX3_again_5 : decode cX3_again 5 = .ok (.if_icmp .eq 5, 3) := by decide +kernel
theorem dX3_again_8 : decode cX3_again 8 = .ok (.iconst 0, 1) := by decide +kernel
theorem dX3_again_9 : decode cX3_again 9 = .ok (.ireturn, 1) := by decide +kernel
theorem dX3_again_10 : decode cX3_again 10 = .ok (.iconst 0, 1) := by decide +kernel
theorem dX3_again_11 : decode cX3_again 11 = .ok (.istore_n 1, 1) := by decide +kernel
theorem dX3_again_12 : decode cX3_again 12 = .ok (.iload_n 1, 1) := by decide +kernel
theorem dX3_again_13 : decode cX3_again 13 = .ok (.iconst 4, 1) := by decide +kernel
theorem dX3_again_14 : decode cX3_again 14 = .ok (.if_icmp .ge 21, 3) := by decide +kernel
theorem dX3_again_17 : decode cX3_again 17 = .ok (.aload_n 0, 1) := by decide +kernel
theorem dX3_again_18 : decode cX3_again 18 = .ok (.getfield 13, 3) := by decide +kernel
theorem dX3_again_21 : decode cX3_again 21 = .ok (.iload_n 1, 1) := by decide +kernel
theorem dX3_again_22 : decode cX3_again 22 = .ok (.aload_n 0, 1) := by decide +kernel
theorem dX3_again_23 : decode cX3_again 23 = .ok (.iconst 5, 1) := by decide +kernel
theorem dX3_again_24 : decode cX3_again 24 = .ok (.iload_n 1, 1) := by decide +kernel
theorem dX3_again_25 : decode cX3_again 25 = .ok (.invokevirtual 100, 3) := by decide +kernel
theorem dX3_again_28 : decode cX3_again 28 = .ok (.lastore, 1) := by decide +kernel
theorem dX3_again_29 : decode cX3_again 29 = .ok (.iinc 1 1, 3) := by decide +kernel
theorem dX3_again_32 : decode cX3_again 32 = .ok (.goto (-20), 3) := by decide +kernel
theorem dX3_again_35 : decode cX3_again 35 = .ok (.aload_n 0, 1) := by decide +kernel
theorem dX3_again_36 : decode cX3_again 36 = .ok (.iconst 0, 1) := by decide +kernel
theorem dX3_again_37 : decode cX3_again 37 = .ok (.putfield 53, 3) := by decide +kernel
theorem dX3_again_40 : decode cX3_again 40 = .ok (.iconst 1, 1) := by decide +kernel
theorem dX3_again_41 : decode cX3_again 41 = .ok (.ireturn, 1) := by decide +kernel
abbrev cX3_longOf : ByteArray := prog_5_method_15_code
def yX3_longOf : MethodName := ⟨RX3, "longOf", "(II)J"⟩
theorem dX3_longOf_0 : decode cX3_longOf 0 = .ok (.lconst 0, 1) := by decide +kernel
theorem dX3_longOf_1 : decode cX3_longOf 1 = .ok (.lstore_n 3, 1) := by decide +kernel
theorem dX3_longOf_2 : decode cX3_longOf 2 = .ok (.iconst 3, 1) := by decide +kernel
theorem dX3_longOf_3 : decode cX3_longOf 3 = .ok (.istore 5, 2) := by decide +kernel
theorem dX3_longOf_5 : decode cX3_longOf 5 = .ok (.iload 5, 2) := by decide +kernel
theorem dX3_longOf_7 : decode cX3_longOf 7 = .ok (.ifCond .lt 33, 3) := by decide +kernel
theorem dX3_longOf_10 : decode cX3_longOf 10 = .ok (.lload_n 3, 1) := by decide +kernel
theorem dX3_longOf_11 : decode cX3_longOf 11 = .ok (.ldc2_w 49, 3) := by decide +kernel
theorem dX3_longOf_14 : decode cX3_longOf 14 = .ok (.lmul, 1) := by decide +kernel
theorem dX3_longOf_15 : decode cX3_longOf 15 = .ok (.aload_n 0, 1) := by decide +kernel
theorem dX3_longOf_16 : decode cX3_longOf 16 = .ok (.getfield 16, 3) := by decide +kernel
theorem dX3_longOf_19 : decode cX3_longOf 19 = .ok (.bipush 16, 2) := by decide +kernel
theorem dX3_longOf_21 : decode cX3_longOf 21 = .ok (.iload_n 1, 1) := by decide +kernel
theorem dX3_longOf_22 : decode cX3_longOf 22 = .ok (.imul, 1) := by decide +kernel
theorem dX3_longOf_23 : decode cX3_longOf 23 = .ok (.iconst 4, 1) := by decide +kernel
theorem dX3_longOf_24 : decode cX3_longOf 24 = .ok (.iload_n 2, 1) := by decide +kernel
theorem dX3_longOf_25 : decode cX3_longOf 25 = .ok (.imul, 1) := by decide +kernel
theorem dX3_longOf_26 : decode cX3_longOf 26 = .ok (.iadd, 1) := by decide +kernel
theorem dX3_longOf_27 : decode cX3_longOf 27 = .ok (.iload 5, 2) := by decide +kernel
theorem dX3_longOf_29 : decode cX3_longOf 29 = .ok (.iadd, 1) := by decide +kernel
theorem dX3_longOf_30 : decode cX3_longOf 30 = .ok (.iaload, 1) := by decide +kernel
theorem dX3_longOf_31 : decode cX3_longOf 31 = .ok (.i2l, 1) := by decide +kernel
theorem dX3_longOf_32 : decode cX3_longOf 32 = .ok (.ladd, 1) := by decide +kernel
theorem dX3_longOf_33 : decode cX3_longOf 33 = .ok (.lstore_n 3, 1) := by decide +kernel
theorem dX3_longOf_34 : decode cX3_longOf 34 = .ok (.iinc 5 (-1), 3) := by decide +kernel
theorem dX3_longOf_37 : decode cX3_longOf 37 = .ok (.goto (-32), 3) := by decide +kernel
theorem dX3_longOf_40 : decode cX3_longOf 40 = .ok (.lload_n 3, 1) := by decide +kernel
theorem dX3_longOf_41 : decode cX3_longOf 41 = .ok (.lreturn, 1) := by decide +kernel
abbrev cX3_reset : ByteArray := prog_5_method_27_code
def yX3_reset : MethodName := ⟨RX3, "reset", "()I"⟩
theorem dX3_reset_0 : decode cX3_reset 0 = .ok (.aload_n 0, 1) := by decide +kernel
theorem dX3_reset_1 : decode cX3_reset 1 = .ok (.getfield 53, 3) := by decide +kernel
theorem dX3_reset_4 : decode cX3_reset 4 = .ok (.istore_n 1, 1) := by decide +kernel
theorem dX3_reset_5 : decode cX3_reset 5 = .ok (.aload_n 0, 1) := by decide +kernel
theorem dX3_reset_6 : decode cX3_reset 6 = .ok (.iconst 0, 1) := by decide +kernel
theorem dX3_reset_7 : decode cX3_reset 7 = .ok (.putfield 53, 3) := by decide +kernel
theorem dX3_reset_10 : decode cX3_reset 10 = .ok (.iload_n 1, 1) := by decide +kernel
theorem dX3_reset_11 : decode cX3_reset 11 = .ok (.ireturn, 1) := by decide +kernel
abbrev cX3_phase : ByteArray := prog_5_method_28_code
def yX3_phase : MethodName := ⟨RX3, "phase", "()I"⟩
theorem dX3_phase_0 : decode cX3_phase 0 = .ok (.aload_n 0, 1) := by decide +kernel
theorem dX3_phase_1 : decode cX3_phase 1 = .ok (.getfield 53, 3) := by decide +kernel
theorem dX3_phase_4 : decode cX3_phase 4 = .ok (.ireturn, 1) := by decide +kernel
abbrev cX3_out : ByteArray := prog_5_method_29_code
def yX3_out : MethodName := ⟨RX3, "out", "(I)J"⟩
theorem dX3_out_0 : decode cX3_out 0 = .ok (.aload_n 0, 1) := by decide +kernel
theorem dX3_out_1 : decode cX3_out 1 = .ok (.getfield 53, 3) := by decide +kernel
theorem dX3_out_4 : decode cX3_out 4 = .ok (.iconst 2, 1) := by decide +kernel
theorem dX3_out_5 : decode cX3_out 5 = .ok (.if_icmp .ne 19, 3) := by decide +kernel
theorem dX3_out_8 : decode cX3_out 8 = .ok (.iload_n 1, 1) := by decide +kernel
theorem dX3_out_9 : decode cX3_out 9 = .ok (.invokestatic 57, 3) := by decide +kernel
theorem dX3_out_12 : decode cX3_out 12 = .ok (.ifCond .eq 12, 3) := by decide +kernel
theorem dX3_out_15 : decode cX3_out 15 = .ok (.aload_n 0, 1) := by decide +kernel
theorem dX3_out_16 : decode cX3_out 16 = .ok (.iconst 5, 1) := by decide +kernel
theorem dX3_out_17 : decode cX3_out 17 = .ok (.iload_n 1, 1) := by decide +kernel
theorem dX3_out_18 : decode cX3_out 18 = .ok (.invokevirtual 100, 3) := by decide +kernel
theorem dX3_out_21 : decode cX3_out 21 = .ok (.goto 4, 3) := by decide +kernel
theorem dX3_out_24 : decode cX3_out 24 = .ok (.lconst 0, 1) := by decide +kernel
theorem dX3_out_25 : decode cX3_out 25 = .ok (.lreturn, 1) := by decide +kernel
abbrev cX3_part : ByteArray := prog_5_method_30_code
def yX3_part : MethodName := ⟨RX3, "part", "(II)J"⟩
theorem dX3_part_0 : decode cX3_part 0 = .ok (.aload_n 0, 1) := by decide +kernel
theorem dX3_part_1 : decode cX3_part 1 = .ok (.getfield 53, 3) := by decide +kernel
theorem dX3_part_4 : decode cX3_part 4 = .ok (.ifCond .le 28, 3) := by decide +kernel
theorem dX3_part_7 : decode cX3_part 7 = .ok (.iload_n 1, 1) := by decide +kernel
theorem dX3_part_8 : decode cX3_part 8 = .ok (.ifCond .lt 24, 3) := by decide +kernel
theorem dX3_part_11 : decode cX3_part 11 = .ok (.iload_n 1, 1) := by decide +kernel
theorem dX3_part_12 : decode cX3_part 12 = .ok (.iconst 4, 1) := by decide +kernel
theorem dX3_part_13 : decode cX3_part 13 = .ok (.if_icmp .gt 19, 3) := by decide +kernel
theorem dX3_part_16 : decode cX3_part 16 = .ok (.iload_n 2, 1) := by decide +kernel
theorem dX3_part_17 : decode cX3_part 17 = .ok (.invokestatic 57, 3) := by decide +kernel
theorem dX3_part_20 : decode cX3_part 20 = .ok (.ifCond .eq 12, 3) := by decide +kernel
theorem dX3_part_23 : decode cX3_part 23 = .ok (.aload_n 0, 1) := by decide +kernel
theorem dX3_part_24 : decode cX3_part 24 = .ok (.iload_n 1, 1) := by decide +kernel
theorem dX3_part_25 : decode cX3_part 25 = .ok (.iload_n 2, 1) := by decide +kernel
theorem dX3_part_26 : decode cX3_part 26 = .ok (.invokevirtual 100, 3) := by decide +kernel
theorem dX3_part_29 : decode cX3_part 29 = .ok (.goto 4, 3) := by decide +kernel
theorem dX3_part_32 : decode cX3_part 32 = .ok (.lconst 0, 1) := by decide +kernel
theorem dX3_part_33 : decode cX3_part 33 = .ok (.lreturn, 1) := by decide +kernel
abbrev cX3_told : ByteArray := prog_5_method_31_code
def yX3_told : MethodName := ⟨RX3, "told", "(II)J"⟩
theorem dX3_told_0 : decode cX3_told 0 = .ok (.iload_n 2, 1) := by decide +kernel
theorem dX3_told_1 : decode cX3_told 1 = .ok (.invokestatic 57, 3) := by decide +kernel
theorem dX3_told_4 : decode cX3_told 4 = .ok (.ifCond .ne 5, 3) := by decide +kernel
theorem dX3_told_7 : decode cX3_told 7 = .ok (.lconst 0, 1) := by decide +kernel
theorem dX3_told_8 : decode cX3_told 8 = .ok (.lreturn, 1) := by decide +kernel
theorem dX3_told_9 : decode cX3_told 9 = .ok (.iload_n 1, 1) := by decide +kernel
theorem dX3_told_10 : decode cX3_told 10 = .ok (.ifCond .ne 10, 3) := by decide +kernel
theorem dX3_told_13 : decode cX3_told 13 = .ok (.aload_n 0, 1) := by decide +kernel
theorem dX3_told_14 : decode cX3_told 14 = .ok (.getfield 7, 3) := by decide +kernel
theorem dX3_told_17 : decode cX3_told 17 = .ok (.iload_n 2, 1) := by decide +kernel
theorem dX3_told_18 : decode cX3_told 18 = .ok (.laload, 1) := by decide +kernel
theorem dX3_told_19 : decode cX3_told 19 = .ok (.lreturn, 1) := by decide +kernel
theorem dX3_told_20 : decode cX3_told 20 = .ok (.iload_n 1, 1) := by decide +kernel
theorem dX3_told_21 : decode cX3_told 21 = .ok (.iconst 1, 1) := by decide +kernel
theorem dX3_told_22 : decode cX3_told 22 = .ok (.if_icmp .ne 10, 3) := by decide +kernel
theorem dX3_told_25 : decode cX3_told 25 = .ok (.aload_n 0, 1) := by decide +kernel
theorem dX3_told_26 : decode cX3_told 26 = .ok (.getfield 13, 3) := by decide +kernel
theorem dX3_told_29 : decode cX3_told 29 = .ok (.iload_n 2, 1) := by decide +kernel
theorem dX3_told_30 : decode cX3_told 30 = .ok (.laload, 1) := by decide +kernel
theorem dX3_told_31 : decode cX3_told 31 = .ok (.lreturn, 1) := by decide +kernel
theorem dX3_told_32 : decode cX3_told 32 = .ok (.iload_n 1, 1) := by decide +kernel
theorem dX3_told_33 : decode cX3_told 33 = .ok (.iconst 2, 1) := by decide +kernel
theorem dX3_told_34 : decode cX3_told 34 = .ok (.if_icmp .ne 46, 3) := by decide +kernel
theorem dX3_told_37 : decode cX3_told 37 = .ok (.iload_n 2, 1) := by decide +kernel
theorem dX3_told_38 : decode cX3_told 38 = .ok (.ifCond .ne 16, 3) := by decide +kernel
theorem dX3_told_41 : decode cX3_told 41 = .ok (.aload_n 0, 1) := by decide +kernel
theorem dX3_told_42 : decode cX3_told 42 = .ok (.getfield 7, 3) := by decide +kernel
theorem dX3_told_45 : decode cX3_told 45 = .ok (.iconst 0, 1) := by decide +kernel
theorem dX3_told_46 : decode cX3_told 46 = .ok (.laload, 1) := by decide +kernel
theorem dX3_told_47 : decode cX3_told 47 = .ok (.ldc2_w 104, 3) := by decide +kernel
theorem dX3_told_50 : decode cX3_told 50 = .ok (.land, 1) := by decide +kernel
theorem dX3_told_51 : decode cX3_told 51 = .ok (.goto 9, 3) := by decide +kernel
theorem dX3_told_54 : decode cX3_told 54 = .ok (.aload_n 0, 1) := by decide +kernel
theorem dX3_told_55 : decode cX3_told 55 = .ok (.getfield 7, 3) := by decide +kernel
theorem dX3_told_58 : decode cX3_told 58 = .ok (.iload_n 2, 1) := by decide +kernel
theorem dX3_told_59 : decode cX3_told 59 = .ok (.laload, 1) := by decide +kernel
theorem dX3_told_60 : decode cX3_told 60 = .ok (.lstore_n 3, 1) := by decide +kernel
theorem dX3_told_61 : decode cX3_told 61 = .ok (.iload_n 2, 1) := by decide +kernel
theorem dX3_told_62 : decode cX3_told 62 = .ok (.iconst 3, 1) := by decide +kernel
theorem dX3_told_63 : decode cX3_told 63 = .ok (.if_icmp .ne 15, 3) := by decide +kernel
theorem dX3_told_66 : decode cX3_told 66 = .ok (.lload_n 3, 1) := by decide +kernel
theorem dX3_told_67 : decode cX3_told 67 = .ok (.ldc2_w 106, 3) := by decide +kernel
theorem dX3_told_70 : decode cX3_told 70 = .ok (.land, 1) := by decide +kernel
theorem dX3_told_71 : decode cX3_told 71 = .ok (.ldc2_w 108, 3) := by decide +kernel
theorem dX3_told_74 : decode cX3_told 74 = .ok (.lor, 1) := by decide +kernel
theorem dX3_told_75 : decode cX3_told 75 = .ok (.goto 4, 3) := by decide +kernel
theorem dX3_told_78 : decode cX3_told 78 = .ok (.lload_n 3, 1) := by decide +kernel
theorem dX3_told_79 : decode cX3_told 79 = .ok (.lreturn, 1) := by decide +kernel
theorem dX3_told_80 : decode cX3_told 80 = .ok (.iload_n 1, 1) := by decide +kernel
theorem dX3_told_81 : decode cX3_told 81 = .ok (.iconst 3, 1) := by decide +kernel
theorem dX3_told_82 : decode cX3_told 82 = .ok (.if_icmp .eq 5, 3) := by decide +kernel
theorem dX3_told_85 : decode cX3_told 85 = .ok (.lconst 0, 1) := by decide +kernel
theorem dX3_told_86 : decode cX3_told 86 = .ok (.lreturn, 1) := by decide +kernel
theorem dX3_told_87 : decode cX3_told 87 = .ok (.aload_n 0, 1) := by decide +kernel
theorem dX3_told_88 : decode cX3_told 88 = .ok (.getfield 53, 3) := by decide +kernel
theorem dX3_told_91 : decode cX3_told 91 = .ok (.ifCond .ne 7, 3) := by decide +kernel
theorem dX3_told_94 : decode cX3_told 94 = .ok (.aload_n 0, 1) := by decide +kernel
theorem dX3_told_95 : decode cX3_told 95 = .ok (.invokevirtual 64, 3) := by decide +kernel
theorem dX3_told_98 : decode cX3_told 98 = .ok (.aload_n 0, 1) := by decide +kernel
theorem dX3_told_99 : decode cX3_told 99 = .ok (.iconst 4, 1) := by decide +kernel
theorem dX3_told_100 : decode cX3_told 100 = .ok (.iload_n 2, 1) := by decide +kernel
theorem dX3_told_101 : decode cX3_told 101 = .ok (.invokevirtual 100, 3) := by decide +kernel
theorem dX3_told_104 : decode cX3_told 104 = .ok (.lreturn, 1) := by decide +kernel
abbrev cX3_count : ByteArray := prog_5_method_32_code
def yX3_count : MethodName := ⟨RX3, "count", "(I)I"⟩
theorem dX3_count_0 : decode cX3_count 0 = .ok (.iload_n 1, 1) := by decide +kernel
theorem dX3_count_1 : decode cX3_count 1 = .ok (.ifCond .ne 21, 3) := by decide +kernel
theorem dX3_count_4 : decode cX3_count 4 = .ok (.aload_n 0, 1) := by decide +kernel
theorem dX3_count_5 : decode cX3_count 5 = .ok (.getfield 53, 3) := by decide +kernel
theorem dX3_count_8 : decode cX3_count 8 = .ok (.ifCond .ne 7, 3) := by decide +kernel
theorem dX3_count_11 : decode cX3_count 11 = .ok (.iconst 0, 1) := by decide +kernel
theorem dX3_count_12 : decode cX3_count 12 = .ok (.goto 23, 3) := by decide +kernel
theorem dX3_count_15 : decode cX3_count 15 = .ok (.aload_n 0, 1) := by decide +kernel
theorem dX3_count_16 : decode cX3_count 16 = .ok (.getfield 61, 3) := by decide +kernel
theorem dX3_count_19 : decode cX3_count 19 = .ok (.goto 16, 3) := by decide +kernel
theorem dX3_count_22 : decode cX3_count 22 = .ok (.iload_n 1, 1) := by decide +kernel
theorem dX3_count_23 : decode cX3_count 23 = .ok (.iconst 1, 1) := by decide +kernel
theorem dX3_count_24 : decode cX3_count 24 = .ok (.if_icmp .ne 10, 3) := by decide +kernel
theorem dX3_count_27 : decode cX3_count 27 = .ok (.aload_n 0, 1) := by decide +kernel
theorem dX3_count_28 : decode cX3_count 28 = .ok (.getfield 97, 3) := by decide +kernel
theorem dX3_count_31 : decode cX3_count 31 = .ok (.goto 4, 3) := by decide +kernel
theorem dX3_count_34 : decode cX3_count 34 = .ok (.iconst (-1), 1) := by decide +kernel
theorem dX3_count_35 : decode cX3_count 35 = .ok (.ireturn, 1) := by decide +kernel
abbrev cX3_check : ByteArray := prog_5_method_33_code
def yX3_check : MethodName := ⟨RX3, "check", "()I"⟩
theorem dX3_check_0 : decode cX3_check 0 = .ok (.aload_n 0, 1) := by decide +kernel
theorem dX3_check_1 : decode cX3_check 1 = .ok (.getfield 53, 3) := by decide +kernel
theorem dX3_check_4 : decode cX3_check 4 = .ok (.iconst 2, 1) := by decide +kernel
theorem dX3_check_5 : decode cX3_check 5 = .ok (.if_icmp .eq 5, 3) := by decide +kernel
theorem dX3_check_8 : decode cX3_check 8 = .ok (.iconst 1, 1) := by decide +kernel
theorem dX3_check_9 : decode cX3_check 9 = .ok (.ireturn, 1) := by decide +kernel
theorem dX3_check_10 : decode cX3_check 10 = .ok (.aload_n 0, 1) := by decide +kernel
theorem dX3_check_11 : decode cX3_check 11 = .ok (.bipush 11, 2) := by decide +kernel
theorem dX3_check_13 : decode cX3_check 13 = .ok (.iconst 5, 1) := by decide +kernel
theorem dX3_check_14 : decode cX3_check 14 = .ok (.iconst 1, 1) := by decide +kernel
theorem dX3_check_15 : decode cX3_check 15 = .ok (.invokevirtual 87, 3) := by decide +kernel
theorem dX3_check_18 : decode cX3_check 18 = .ok (.aload_n 0, 1) := by decide +kernel
theorem dX3_check_19 : decode cX3_check 19 = .ok (.iconst 1, 1) := by decide +kernel
theorem dX3_check_20 : decode cX3_check 20 = .ok (.invokevirtual 110, 3) := by decide +kernel
theorem dX3_check_23 : decode cX3_check 23 = .ok (.ifCond .eq 11, 3) := by decide +kernel
theorem dX3_check_26 : decode cX3_check 26 = .ok (.aload_n 0, 1) := by decide +kernel
theorem dX3_check_27 : decode cX3_check 27 = .ok (.iconst 5, 1) := by decide +kernel
theorem dX3_check_28 : decode cX3_check 28 = .ok (.invokevirtual 110, 3) := by decide +kernel
theorem dX3_check_31 : decode cX3_check 31 = .ok (.goto 10, 3) := by decide +kernel
theorem dX3_check_34 : decode cX3_check 34 = .ok (.aload_n 0, 1) := by decide +kernel
theorem dX3_check_35 : decode cX3_check 35 = .ok (.bipush 11, 2) := by decide +kernel
theorem dX3_check_37 : decode cX3_check 37 = .ok (.iconst 0, 1) := by decide +kernel
theorem dX3_check_38 : decode cX3_check 38 = .ok (.invokevirtual 113, 3) := by decide +kernel
theorem dX3_check_41 : decode cX3_check 41 = .ok (.istore_n 1, 1) := by decide +kernel
theorem dX3_check_42 : decode cX3_check 42 = .ok (.iload_n 1, 1) := by decide +kernel
theorem dX3_check_43 : decode cX3_check 43 = .ok (.ifCond .eq 7, 3) := by decide +kernel
theorem dX3_check_46 : decode cX3_check 46 = .ok (.iconst 1, 1) := by decide +kernel
theorem dX3_check_47 : decode cX3_check 47 = .ok (.goto 4, 3) := by decide +kernel
theorem dX3_check_50 : decode cX3_check 50 = .ok (.iconst 0, 1) := by decide +kernel
theorem dX3_check_51 : decode cX3_check 51 = .ok (.ireturn, 1) := by decide +kernel
abbrev cX3_isZero : ByteArray := prog_5_method_13_code
def yX3_isZero : MethodName := ⟨RX3, "isZero", "(I)Z"⟩
theorem dX3_isZero_0 : decode cX3_isZero 0 = .ok (.iconst 1, 1) := by decide +kernel
theorem dX3_isZero_1 : decode cX3_isZero 1 = .ok (.istore_n 2, 1) := by decide +kernel
theorem dX3_isZero_2 : decode cX3_isZero 2 = .ok (.iconst 0, 1) := by decide +kernel
theorem dX3_isZero_3 : decode cX3_isZero 3 = .ok (.istore_n 3, 1) := by decide +kernel
theorem dX3_isZero_4 : decode cX3_isZero 4 = .ok (.iload_n 3, 1) := by decide +kernel
theorem dX3_isZero_5 : decode cX3_isZero 5 = .ok (.bipush 16, 2) := by decide +kernel
theorem dX3_isZero_7 : decode cX3_isZero 7 = .ok (.if_icmp .ge 33, 3) := by decide +kernel
theorem dX3_isZero_10 : decode cX3_isZero 10 = .ok (.iload_n 2, 1) := by decide +kernel
theorem dX3_isZero_11 : decode cX3_isZero 11 = .ok (.ifCond .eq 21, 3) := by decide +kernel
theorem dX3_isZero_14 : decode cX3_isZero 14 = .ok (.aload_n 0, 1) := by decide +kernel
theorem dX3_isZero_15 : decode cX3_isZero 15 = .ok (.getfield 16, 3) := by decide +kernel
theorem dX3_isZero_18 : decode cX3_isZero 18 = .ok (.bipush 16, 2) := by decide +kernel
theorem dX3_isZero_20 : decode cX3_isZero 20 = .ok (.iload_n 1, 1) := by decide +kernel
theorem dX3_isZero_21 : decode cX3_isZero 21 = .ok (.imul, 1) := by decide +kernel
theorem dX3_isZero_22 : decode cX3_isZero 22 = .ok (.iload_n 3, 1) := by decide +kernel
theorem dX3_isZero_23 : decode cX3_isZero 23 = .ok (.iadd, 1) := by decide +kernel
theorem dX3_isZero_24 : decode cX3_isZero 24 = .ok (.iaload, 1) := by decide +kernel
theorem dX3_isZero_25 : decode cX3_isZero 25 = .ok (.ifCond .ne 7, 3) := by decide +kernel
theorem dX3_isZero_28 : decode cX3_isZero 28 = .ok (.iconst 1, 1) := by decide +kernel
theorem dX3_isZero_29 : decode cX3_isZero 29 = .ok (.goto 4, 3) := by decide +kernel
theorem dX3_isZero_32 : decode cX3_isZero 32 = .ok (.iconst 0, 1) := by decide +kernel
theorem dX3_isZero_33 : decode cX3_isZero 33 = .ok (.istore_n 2, 1) := by decide +kernel
theorem dX3_isZero_34 : decode cX3_isZero 34 = .ok (.iinc 3 1, 3) := by decide +kernel
theorem dX3_isZero_37 : decode cX3_isZero 37 = .ok (.goto (-33), 3) := by decide +kernel
theorem dX3_isZero_40 : decode cX3_isZero 40 = .ok (.iload_n 2, 1) := by decide +kernel
theorem dX3_isZero_41 : decode cX3_isZero 41 = .ok (.ireturn, 1) := by decide +kernel
abbrev cX3_isSame : ByteArray := prog_5_method_14_code
def yX3_isSame : MethodName := ⟨RX3, "isSame", "(II)Z"⟩
theorem dX3_isSame_0 : decode cX3_isSame 0 = .ok (.iconst 1, 1) := by decide +kernel
theorem dX3_isSame_1 : decode cX3_isSame 1 = .ok (.istore_n 3, 1) := by decide +kernel
theorem dX3_isSame_2 : decode cX3_isSame 2 = .ok (.iconst 0, 1) := by decide +kernel
theorem dX3_isSame_3 : decode cX3_isSame 3 = .ok (.istore 4, 2) := by decide +kernel
theorem dX3_isSame_5 : decode cX3_isSame 5 = .ok (.iload 4, 2) := by decide +kernel
theorem dX3_isSame_7 : decode cX3_isSame 7 = .ok (.bipush 16, 2) := by decide +kernel
theorem dX3_isSame_9 : decode cX3_isSame 9 = .ok (.if_icmp .ge 46, 3) := by decide +kernel
theorem dX3_isSame_12 : decode cX3_isSame 12 = .ok (.iload_n 3, 1) := by decide +kernel
theorem dX3_isSame_13 : decode cX3_isSame 13 = .ok (.ifCond .eq 34, 3) := by decide +kernel
theorem dX3_isSame_16 : decode cX3_isSame 16 = .ok (.aload_n 0, 1) := by decide +kernel
theorem dX3_isSame_17 : decode cX3_isSame 17 = .ok (.getfield 16, 3) := by decide +kernel
theorem dX3_isSame_20 : decode cX3_isSame 20 = .ok (.bipush 16, 2) := by decide +kernel
theorem dX3_isSame_22 : decode cX3_isSame 22 = .ok (.iload_n 1, 1) := by decide +kernel
theorem dX3_isSame_23 : decode cX3_isSame 23 = .ok (.imul, 1) := by decide +kernel
theorem dX3_isSame_24 : decode cX3_isSame 24 = .ok (.iload 4, 2) := by decide +kernel
theorem dX3_isSame_26 : decode cX3_isSame 26 = .ok (.iadd, 1) := by decide +kernel
theorem dX3_isSame_27 : decode cX3_isSame 27 = .ok (.iaload, 1) := by decide +kernel
theorem dX3_isSame_28 : decode cX3_isSame 28 = .ok (.aload_n 0, 1) := by decide +kernel
theorem dX3_isSame_29 : decode cX3_isSame 29 = .ok (.getfield 16, 3) := by decide +kernel
theorem dX3_isSame_32 : decode cX3_isSame 32 = .ok (.bipush 16, 2) := by decide +kernel
theorem dX3_isSame_34 : decode cX3_isSame 34 = .ok (.iload_n 2, 1) := by decide +kernel
theorem dX3_isSame_35 : decode cX3_isSame 35 = .ok (.imul, 1) := by decide +kernel
theorem dX3_isSame_36 : decode cX3_isSame 36 = .ok (.iload 4, 2) := by decide +kernel
theorem dX3_isSame_38 : decode cX3_isSame 38 = .ok (.iadd, 1) := by decide +kernel
theorem dX3_isSame_39 : decode cX3_isSame 39 = .ok (.iaload, 1) := by decide +kernel
theorem dX3_isSame_40 : decode cX3_isSame 40 = .ok (.if_icmp .ne 7, 3) := by decide +kernel
theorem dX3_isSame_43 : decode cX3_isSame 43 = .ok (.iconst 1, 1) := by decide +kernel
theorem dX3_isSame_44 : decode cX3_isSame 44 = .ok (.goto 4, 3) := by decide +kernel
theorem dX3_isSame_47 : decode cX3_isSame 47 = .ok (.iconst 0, 1) := by decide +kernel
theorem dX3_isSame_48 : decode cX3_isSame 48 = .ok (.istore_n 3, 1) := by decide +kernel
theorem dX3_isSame_49 : decode cX3_isSame 49 = .ok (.iinc 4 1, 3) := by decide +kernel
theorem dX3_isSame_52 : decode cX3_isSame 52 = .ok (.goto (-47), 3) := by decide +kernel
theorem dX3_isSame_55 : decode cX3_isSame 55 = .ok (.iload_n 3, 1) := by decide +kernel
theorem dX3_isSame_56 : decode cX3_isSame 56 = .ok (.ireturn, 1) := by decide +kernel
theorem q24 : (Jvm.Cond.initialized "LadderDeskModel") ∈ lw_all := lw_g (lw_at lw_m1 4 rfl) rfl
theorem q254 : (Jvm.Cond.instantiable "LadderDeskModel" (7 : Nat)) ∈ lw_all := lw_g (lw_at lw_m1 234 rfl) rfl
theorem q256 : (Jvm.Cond.instanceMethod ({ cls := "LadderDeskModel", name := "<init>", desc := "()V" } : Jvm.MethodName)) ∈ lw_all := lw_g (lw_at lw_m1 236 rfl) rfl
theorem q257 : (Jvm.Cond.code ({ cls := "LadderDeskModel", name := "<init>", desc := "()V" } : Jvm.MethodName) prog_5_method_1_code (1 : Nat) (Option.none : Option Jvm.ClassFile.FieldType)) ∈ lw_all := lw_g (lw_at lw_m1 237 rfl) rfl
theorem q258 : (Jvm.Cond.methodLink "LadderDeskModel" (1 : Nat) ({ cls := "java/lang/Object", name := "<init>", desc := "()V" } : Jvm.MethodName)) ∈ lw_all := lw_g (lw_at lw_m1 238 rfl) rfl
theorem q259 : (Jvm.Cond.fieldLink "LadderDeskModel" (53 : Nat) "LadderDeskModel" "phase" "I") ∈ lw_all := lw_g (lw_at lw_m1 239 rfl) rfl
theorem q260 : (Jvm.Cond.fieldLink "LadderDeskModel" (61 : Nat) "LadderDeskModel" "steps" "I") ∈ lw_all := lw_g (lw_at lw_m2 0 rfl) rfl
theorem q261 : (Jvm.Cond.fieldLink "LadderDeskModel" (97 : Nat) "LadderDeskModel" "results" "I") ∈ lw_all := lw_g (lw_at lw_m2 1 rfl) rfl
theorem q262 : (Jvm.Cond.fieldLink "LadderDeskModel" (7 : Nat) "LadderDeskModel" "scalar" "[J") ∈ lw_all := lw_g (lw_at lw_m2 2 rfl) rfl
theorem q263 : (Jvm.Cond.fieldLink "LadderDeskModel" (13 : Nat) "LadderDeskModel" "point" "[J") ∈ lw_all := lw_g (lw_at lw_m2 3 rfl) rfl
theorem q264 : (Jvm.Cond.fieldLink "LadderDeskModel" (16 : Nat) "LadderDeskModel" "digits" "[I") ∈ lw_all := lw_g (lw_at lw_m2 4 rfl) rfl
theorem q265 : (Jvm.Cond.fieldLink "LadderDeskModel" (20 : Nat) "LadderDeskModel" "sums" "[J") ∈ lw_all := lw_g (lw_at lw_m2 5 rfl) rfl
theorem q266 : (Jvm.Cond.lays "LadderDeskModel" "LadderDeskModel" "phase" "I") ∈ lw_all := lw_g (lw_at lw_m2 6 rfl) rfl
theorem q267 : (Jvm.Cond.soleField "LadderDeskModel" "phase") ∈ lw_all := lw_g (lw_at lw_m2 7 rfl) rfl
theorem q268 : (Jvm.Cond.lays "LadderDeskModel" "LadderDeskModel" "steps" "I") ∈ lw_all := lw_g (lw_at lw_m2 8 rfl) rfl
theorem q269 : (Jvm.Cond.soleField "LadderDeskModel" "steps") ∈ lw_all := lw_g (lw_at lw_m2 9 rfl) rfl
theorem q270 : (Jvm.Cond.lays "LadderDeskModel" "LadderDeskModel" "results" "I") ∈ lw_all := lw_g (lw_at lw_m2 10 rfl) rfl
theorem q271 : (Jvm.Cond.soleField "LadderDeskModel" "results") ∈ lw_all := lw_g (lw_at lw_m2 11 rfl) rfl
theorem q272 : (Jvm.Cond.laysFinal "LadderDeskModel" "LadderDeskModel" "scalar" "[J") ∈ lw_all := lw_g (lw_at lw_m2 12 rfl) rfl
theorem q273 : (Jvm.Cond.soleField "LadderDeskModel" "scalar") ∈ lw_all := lw_g (lw_at lw_m2 13 rfl) rfl
theorem q274 : (Jvm.Cond.laysFinal "LadderDeskModel" "LadderDeskModel" "point" "[J") ∈ lw_all := lw_g (lw_at lw_m2 14 rfl) rfl
theorem q275 : (Jvm.Cond.soleField "LadderDeskModel" "point") ∈ lw_all := lw_g (lw_at lw_m2 15 rfl) rfl
theorem q276 : (Jvm.Cond.laysFinal "LadderDeskModel" "LadderDeskModel" "digits" "[I") ∈ lw_all := lw_g (lw_at lw_m2 16 rfl) rfl
theorem q277 : (Jvm.Cond.soleField "LadderDeskModel" "digits") ∈ lw_all := lw_g (lw_at lw_m2 17 rfl) rfl
theorem q278 : (Jvm.Cond.laysFinal "LadderDeskModel" "LadderDeskModel" "sums" "[J") ∈ lw_all := lw_g (lw_at lw_m2 18 rfl) rfl
theorem q279 : (Jvm.Cond.soleField "LadderDeskModel" "sums") ∈ lw_all := lw_g (lw_at lw_m2 19 rfl) rfl
theorem q280 : (Jvm.Cond.superclass "LadderDeskModel" "java/lang/Object") ∈ lw_all := lw_g (lw_at lw_m2 20 rfl) rfl
theorem q283 : (Jvm.Cond.instanceMethod ({ cls := "LadderDeskModel", name := "scalar", desc := "(IJ)I" } : Jvm.MethodName)) ∈ lw_all := lw_g (lw_at lw_m2 23 rfl) rfl
theorem q284 : (Jvm.Cond.selects "LadderDeskModel" ({ cls := "LadderDeskModel", name := "scalar", desc := "(IJ)I" } : Jvm.MethodName) ({ cls := "LadderDeskModel", name := "scalar", desc := "(IJ)I" } : Jvm.MethodName)) ∈ lw_all := lw_g (lw_at lw_m2 24 rfl) rfl
theorem q285 : (Jvm.Cond.code ({ cls := "LadderDeskModel", name := "scalar", desc := "(IJ)I" } : Jvm.MethodName) prog_5_method_17_code (4 : Nat) (Option.some Jvm.ClassFile.FieldType.int)) ∈ lw_all := lw_g (lw_at lw_m2 25 rfl) rfl
theorem q286 : (Jvm.Cond.methodLink "LadderDeskModel" (57 : Nat) ({ cls := "LadderDeskModel", name := "isLong", desc := "(I)Z" } : Jvm.MethodName)) ∈ lw_all := lw_g (lw_at lw_m2 26 rfl) rfl
theorem q287 : (Jvm.Cond.static ({ cls := "LadderDeskModel", name := "isLong", desc := "(I)Z" } : Jvm.MethodName)) ∈ lw_all := lw_g (lw_at lw_m2 27 rfl) rfl
theorem q288 : (Jvm.Cond.code ({ cls := "LadderDeskModel", name := "isLong", desc := "(I)Z" } : Jvm.MethodName) prog_5_method_16_code (1 : Nat) (Option.some Jvm.ClassFile.FieldType.boolean)) ∈ lw_all := lw_g (lw_at lw_m2 28 rfl) rfl
theorem q290 : (Jvm.Cond.instanceMethod ({ cls := "LadderDeskModel", name := "point", desc := "(IJ)I" } : Jvm.MethodName)) ∈ lw_all := lw_g (lw_at lw_m2 30 rfl) rfl
theorem q291 : (Jvm.Cond.selects "LadderDeskModel" ({ cls := "LadderDeskModel", name := "point", desc := "(IJ)I" } : Jvm.MethodName) ({ cls := "LadderDeskModel", name := "point", desc := "(IJ)I" } : Jvm.MethodName)) ∈ lw_all := lw_g (lw_at lw_m2 31 rfl) rfl
theorem q292 : (Jvm.Cond.code ({ cls := "LadderDeskModel", name := "point", desc := "(IJ)I" } : Jvm.MethodName) prog_5_method_18_code (4 : Nat) (Option.some Jvm.ClassFile.FieldType.int)) ∈ lw_all := lw_g (lw_at lw_m2 32 rfl) rfl
theorem q294 : (Jvm.Cond.instanceMethod ({ cls := "LadderDeskModel", name := "start", desc := "()I" } : Jvm.MethodName)) ∈ lw_all := lw_g (lw_at lw_m2 34 rfl) rfl
theorem q295 : (Jvm.Cond.selects "LadderDeskModel" ({ cls := "LadderDeskModel", name := "start", desc := "()I" } : Jvm.MethodName) ({ cls := "LadderDeskModel", name := "start", desc := "()I" } : Jvm.MethodName)) ∈ lw_all := lw_g (lw_at lw_m2 35 rfl) rfl
theorem q296 : (Jvm.Cond.code ({ cls := "LadderDeskModel", name := "start", desc := "()I" } : Jvm.MethodName) prog_5_method_21_code (1 : Nat) (Option.some Jvm.ClassFile.FieldType.int)) ∈ lw_all := lw_g (lw_at lw_m2 36 rfl) rfl
theorem q297 : (Jvm.Cond.methodLink "LadderDeskModel" (64 : Nat) ({ cls := "LadderDeskModel", name := "makeU", desc := "()V" } : Jvm.MethodName)) ∈ lw_all := lw_g (lw_at lw_m2 37 rfl) rfl
theorem q298 : (Jvm.Cond.privateMethod ({ cls := "LadderDeskModel", name := "makeU", desc := "()V" } : Jvm.MethodName)) ∈ lw_tbl := lw_at lw_m2 38 rfl
theorem q299 : (Jvm.Cond.instanceMethod ({ cls := "LadderDeskModel", name := "makeU", desc := "()V" } : Jvm.MethodName)) ∈ lw_all := lw_g (lw_at lw_m2 39 rfl) rfl
theorem q300 : (Jvm.Cond.code ({ cls := "LadderDeskModel", name := "makeU", desc := "()V" } : Jvm.MethodName) prog_5_method_20_code (2 : Nat) (Option.none : Option Jvm.ClassFile.FieldType)) ∈ lw_all := lw_g (lw_at lw_m2 40 rfl) rfl
theorem q301 : (Jvm.Cond.constantLong "LadderDeskModel" (33 : Nat) (65535 : Int64)) ∈ lw_all := lw_g (lw_at lw_m2 41 rfl) rfl
theorem q302 : (Jvm.Cond.constantLong "LadderDeskModel" (37 : Nat) (32767 : Int64)) ∈ lw_all := lw_g (lw_at lw_m2 42 rfl) rfl
theorem q303 : (Jvm.Cond.methodLink "LadderDeskModel" (45 : Nat) ({ cls := "LadderDeskModel", name := "store", desc := "(I)V" } : Jvm.MethodName)) ∈ lw_all := lw_g (lw_at lw_m2 43 rfl) rfl
theorem q304 : (Jvm.Cond.privateMethod ({ cls := "LadderDeskModel", name := "store", desc := "(I)V" } : Jvm.MethodName)) ∈ lw_tbl := lw_at lw_m2 44 rfl
theorem q305 : (Jvm.Cond.instanceMethod ({ cls := "LadderDeskModel", name := "store", desc := "(I)V" } : Jvm.MethodName)) ∈ lw_all := lw_g (lw_at lw_m2 45 rfl) rfl
theorem q306 : (Jvm.Cond.code ({ cls := "LadderDeskModel", name := "store", desc := "(I)V" } : Jvm.MethodName) prog_5_method_8_code (10 : Nat) (Option.none : Option Jvm.ClassFile.FieldType)) ∈ lw_all := lw_g (lw_at lw_m2 46 rfl) rfl
theorem q307 : (Jvm.Cond.constantLong "LadderDeskModel" (35 : Nat) (2 : Int64)) ∈ lw_all := lw_g (lw_at lw_m2 47 rfl) rfl
theorem q308 : (Jvm.Cond.constantLong "LadderDeskModel" (39 : Nat) (19 : Int64)) ∈ lw_all := lw_g (lw_at lw_m2 48 rfl) rfl
theorem q309 : (Jvm.Cond.methodLink "LadderDeskModel" (41 : Nat) ({ cls := "LadderDeskModel", name := "isGreat", desc := "()Z" } : Jvm.MethodName)) ∈ lw_all := lw_g (lw_at lw_m2 49 rfl) rfl
theorem q310 : (Jvm.Cond.privateMethod ({ cls := "LadderDeskModel", name := "isGreat", desc := "()Z" } : Jvm.MethodName)) ∈ lw_tbl := lw_at lw_m2 50 rfl
theorem q311 : (Jvm.Cond.instanceMethod ({ cls := "LadderDeskModel", name := "isGreat", desc := "()Z" } : Jvm.MethodName)) ∈ lw_all := lw_g (lw_at lw_m2 51 rfl) rfl
theorem q312 : (Jvm.Cond.code ({ cls := "LadderDeskModel", name := "isGreat", desc := "()Z" } : Jvm.MethodName) prog_5_method_7_code (2 : Nat) (Option.some Jvm.ClassFile.FieldType.boolean)) ∈ lw_all := lw_g (lw_at lw_m2 52 rfl) rfl
theorem q313 : (Jvm.Cond.methodLink "LadderDeskModel" (29 : Nat) ({ cls := "LadderDeskModel", name := "ofP", desc := "(I)I" } : Jvm.MethodName)) ∈ lw_all := lw_g (lw_at lw_m2 53 rfl) rfl
theorem q314 : (Jvm.Cond.static ({ cls := "LadderDeskModel", name := "ofP", desc := "(I)I" } : Jvm.MethodName)) ∈ lw_all := lw_g (lw_at lw_m2 54 rfl) rfl
theorem q315 : (Jvm.Cond.code ({ cls := "LadderDeskModel", name := "ofP", desc := "(I)I" } : Jvm.MethodName) prog_5_method_6_code (1 : Nat) (Option.some Jvm.ClassFile.FieldType.int)) ∈ lw_all := lw_g (lw_at lw_m2 55 rfl) rfl
theorem q316 : (Jvm.Cond.constant "LadderDeskModel" (27 : Nat) (65517 : Int32)) ∈ lw_all := lw_g (lw_at lw_m2 56 rfl) rfl
theorem q317 : (Jvm.Cond.constant "LadderDeskModel" (28 : Nat) (65535 : Int32)) ∈ lw_all := lw_g (lw_at lw_m2 57 rfl) rfl
theorem q318 : (Jvm.Cond.methodLink "LadderDeskModel" (67 : Nat) ({ cls := "LadderDeskModel", name := "setSmall", desc := "(II)V" } : Jvm.MethodName)) ∈ lw_all := lw_g (lw_at lw_m2 58 rfl) rfl
theorem q319 : (Jvm.Cond.privateMethod ({ cls := "LadderDeskModel", name := "setSmall", desc := "(II)V" } : Jvm.MethodName)) ∈ lw_tbl := lw_at lw_m2 59 rfl
theorem q320 : (Jvm.Cond.instanceMethod ({ cls := "LadderDeskModel", name := "setSmall", desc := "(II)V" } : Jvm.MethodName)) ∈ lw_all := lw_g (lw_at lw_m2 60 rfl) rfl
theorem q321 : (Jvm.Cond.code ({ cls := "LadderDeskModel", name := "setSmall", desc := "(II)V" } : Jvm.MethodName) prog_5_method_3_code (4 : Nat) (Option.none : Option Jvm.ClassFile.FieldType)) ∈ lw_all := lw_g (lw_at lw_m2 61 rfl) rfl
theorem q322 : (Jvm.Cond.methodLink "LadderDeskModel" (23 : Nat) ({ cls := "LadderDeskModel", name := "copy", desc := "(II)V" } : Jvm.MethodName)) ∈ lw_all := lw_g (lw_at lw_m2 62 rfl) rfl
theorem q323 : (Jvm.Cond.privateMethod ({ cls := "LadderDeskModel", name := "copy", desc := "(II)V" } : Jvm.MethodName)) ∈ lw_tbl := lw_at lw_m2 63 rfl
theorem q324 : (Jvm.Cond.instanceMethod ({ cls := "LadderDeskModel", name := "copy", desc := "(II)V" } : Jvm.MethodName)) ∈ lw_all := lw_g (lw_at lw_m2 64 rfl) rfl
theorem q325 : (Jvm.Cond.code ({ cls := "LadderDeskModel", name := "copy", desc := "(II)V" } : Jvm.MethodName) prog_5_method_4_code (4 : Nat) (Option.none : Option Jvm.ClassFile.FieldType)) ∈ lw_all := lw_g (lw_at lw_m2 65 rfl) rfl
theorem q327 : (Jvm.Cond.instanceMethod ({ cls := "LadderDeskModel", name := "step", desc := "(I)I" } : Jvm.MethodName)) ∈ lw_all := lw_g (lw_at lw_m2 67 rfl) rfl
theorem q328 : (Jvm.Cond.selects "LadderDeskModel" ({ cls := "LadderDeskModel", name := "step", desc := "(I)I" } : Jvm.MethodName) ({ cls := "LadderDeskModel", name := "step", desc := "(I)I" } : Jvm.MethodName)) ∈ lw_all := lw_g (lw_at lw_m2 68 rfl) rfl
theorem q329 : (Jvm.Cond.code ({ cls := "LadderDeskModel", name := "step", desc := "(I)I" } : Jvm.MethodName) prog_5_method_24_code (3 : Nat) (Option.some Jvm.ClassFile.FieldType.int)) ∈ lw_all := lw_g (lw_at lw_m2 69 rfl) rfl
theorem q330 : (Jvm.Cond.methodLink "LadderDeskModel" (94 : Nat) ({ cls := "LadderDeskModel", name := "stepOnce", desc := "()V" } : Jvm.MethodName)) ∈ lw_all := lw_g (lw_at lw_m2 70 rfl) rfl
theorem q331 : (Jvm.Cond.privateMethod ({ cls := "LadderDeskModel", name := "stepOnce", desc := "()V" } : Jvm.MethodName)) ∈ lw_tbl := lw_at lw_m2 71 rfl
theorem q332 : (Jvm.Cond.instanceMethod ({ cls := "LadderDeskModel", name := "stepOnce", desc := "()V" } : Jvm.MethodName)) ∈ lw_all := lw_g (lw_at lw_m2 72 rfl) rfl
theorem q333 : (Jvm.Cond.code ({ cls := "LadderDeskModel", name := "stepOnce", desc := "()V" } : Jvm.MethodName) prog_5_method_23_code (2 : Nat) (Option.none : Option Jvm.ClassFile.FieldType)) ∈ lw_all := lw_g (lw_at lw_m2 73 rfl) rfl
theorem q334 : (Jvm.Cond.methodLink "LadderDeskModel" (73 : Nat) ({ cls := "LadderDeskModel", name := "bit", desc := "(I)Z" } : Jvm.MethodName)) ∈ lw_all := lw_g (lw_at lw_m2 74 rfl) rfl
theorem q335 : (Jvm.Cond.privateMethod ({ cls := "LadderDeskModel", name := "bit", desc := "(I)Z" } : Jvm.MethodName)) ∈ lw_tbl := lw_at lw_m2 75 rfl
theorem q336 : (Jvm.Cond.instanceMethod ({ cls := "LadderDeskModel", name := "bit", desc := "(I)Z" } : Jvm.MethodName)) ∈ lw_all := lw_g (lw_at lw_m2 76 rfl) rfl
theorem q337 : (Jvm.Cond.code ({ cls := "LadderDeskModel", name := "bit", desc := "(I)Z" } : Jvm.MethodName) prog_5_method_19_code (2 : Nat) (Option.some Jvm.ClassFile.FieldType.boolean)) ∈ lw_all := lw_g (lw_at lw_m2 77 rfl) rfl
theorem q338 : (Jvm.Cond.methodLink "LadderDeskModel" (76 : Nat) ({ cls := "LadderDeskModel", name := "change", desc := "(Z)V" } : Jvm.MethodName)) ∈ lw_all := lw_g (lw_at lw_m2 78 rfl) rfl
theorem q339 : (Jvm.Cond.privateMethod ({ cls := "LadderDeskModel", name := "change", desc := "(Z)V" } : Jvm.MethodName)) ∈ lw_tbl := lw_at lw_m2 79 rfl
theorem q340 : (Jvm.Cond.instanceMethod ({ cls := "LadderDeskModel", name := "change", desc := "(Z)V" } : Jvm.MethodName)) ∈ lw_all := lw_g (lw_at lw_m2 80 rfl) rfl
theorem q341 : (Jvm.Cond.code ({ cls := "LadderDeskModel", name := "change", desc := "(Z)V" } : Jvm.MethodName) prog_5_method_22_code (2 : Nat) (Option.none : Option Jvm.ClassFile.FieldType)) ∈ lw_all := lw_g (lw_at lw_m2 81 rfl) rfl
theorem q342 : (Jvm.Cond.methodLink "LadderDeskModel" (70 : Nat) ({ cls := "LadderDeskModel", name := "swap", desc := "(II)V" } : Jvm.MethodName)) ∈ lw_all := lw_g (lw_at lw_m2 82 rfl) rfl
theorem q343 : (Jvm.Cond.privateMethod ({ cls := "LadderDeskModel", name := "swap", desc := "(II)V" } : Jvm.MethodName)) ∈ lw_tbl := lw_at lw_m2 83 rfl
theorem q344 : (Jvm.Cond.instanceMethod ({ cls := "LadderDeskModel", name := "swap", desc := "(II)V" } : Jvm.MethodName)) ∈ lw_all := lw_g (lw_at lw_m2 84 rfl) rfl
theorem q345 : (Jvm.Cond.code ({ cls := "LadderDeskModel", name := "swap", desc := "(II)V" } : Jvm.MethodName) prog_5_method_5_code (3 : Nat) (Option.none : Option Jvm.ClassFile.FieldType)) ∈ lw_all := lw_g (lw_at lw_m2 85 rfl) rfl
theorem q346 : (Jvm.Cond.methodLink "LadderDeskModel" (80 : Nat) ({ cls := "LadderDeskModel", name := "add", desc := "(III)V" } : Jvm.MethodName)) ∈ lw_all := lw_g (lw_at lw_m2 86 rfl) rfl
theorem q347 : (Jvm.Cond.privateMethod ({ cls := "LadderDeskModel", name := "add", desc := "(III)V" } : Jvm.MethodName)) ∈ lw_tbl := lw_at lw_m2 87 rfl
theorem q348 : (Jvm.Cond.instanceMethod ({ cls := "LadderDeskModel", name := "add", desc := "(III)V" } : Jvm.MethodName)) ∈ lw_all := lw_g (lw_at lw_m2 88 rfl) rfl
theorem q349 : (Jvm.Cond.code ({ cls := "LadderDeskModel", name := "add", desc := "(III)V" } : Jvm.MethodName) prog_5_method_9_code (5 : Nat) (Option.none : Option Jvm.ClassFile.FieldType)) ∈ lw_all := lw_g (lw_at lw_m2 89 rfl) rfl
theorem q350 : (Jvm.Cond.methodLink "LadderDeskModel" (84 : Nat) ({ cls := "LadderDeskModel", name := "subtract", desc := "(III)V" } : Jvm.MethodName)) ∈ lw_all := lw_g (lw_at lw_m2 90 rfl) rfl
theorem q351 : (Jvm.Cond.privateMethod ({ cls := "LadderDeskModel", name := "subtract", desc := "(III)V" } : Jvm.MethodName)) ∈ lw_tbl := lw_at lw_m2 91 rfl
theorem q352 : (Jvm.Cond.instanceMethod ({ cls := "LadderDeskModel", name := "subtract", desc := "(III)V" } : Jvm.MethodName)) ∈ lw_all := lw_g (lw_at lw_m2 92 rfl) rfl
theorem q353 : (Jvm.Cond.code ({ cls := "LadderDeskModel", name := "subtract", desc := "(III)V" } : Jvm.MethodName) prog_5_method_10_code (9 : Nat) (Option.none : Option Jvm.ClassFile.FieldType)) ∈ lw_all := lw_g (lw_at lw_m2 93 rfl) rfl
theorem q354 : (Jvm.Cond.constantLong "LadderDeskModel" (49 : Nat) (65536 : Int64)) ∈ lw_all := lw_g (lw_at lw_m2 94 rfl) rfl
theorem q355 : (Jvm.Cond.methodLink "LadderDeskModel" (87 : Nat) ({ cls := "LadderDeskModel", name := "multiply", desc := "(III)V" } : Jvm.MethodName)) ∈ lw_all := lw_g (lw_at lw_m2 95 rfl) rfl
theorem q356 : (Jvm.Cond.privateMethod ({ cls := "LadderDeskModel", name := "multiply", desc := "(III)V" } : Jvm.MethodName)) ∈ lw_tbl := lw_at lw_m2 96 rfl
theorem q357 : (Jvm.Cond.instanceMethod ({ cls := "LadderDeskModel", name := "multiply", desc := "(III)V" } : Jvm.MethodName)) ∈ lw_all := lw_g (lw_at lw_m2 97 rfl) rfl
theorem q358 : (Jvm.Cond.code ({ cls := "LadderDeskModel", name := "multiply", desc := "(III)V" } : Jvm.MethodName) prog_5_method_11_code (6 : Nat) (Option.none : Option Jvm.ClassFile.FieldType)) ∈ lw_all := lw_g (lw_at lw_m2 98 rfl) rfl
theorem q359 : (Jvm.Cond.constantLong "LadderDeskModel" (51 : Nat) (38 : Int64)) ∈ lw_all := lw_g (lw_at lw_m2 99 rfl) rfl
theorem q360 : (Jvm.Cond.constant "LadderDeskModel" (90 : Nat) (121665 : Int32)) ∈ lw_all := lw_g (lw_at lw_m2 100 rfl) rfl
theorem q361 : (Jvm.Cond.methodLink "LadderDeskModel" (91 : Nat) ({ cls := "LadderDeskModel", name := "multiplySmall", desc := "(III)V" } : Jvm.MethodName)) ∈ lw_all := lw_g (lw_at lw_m2 101 rfl) rfl
theorem q362 : (Jvm.Cond.privateMethod ({ cls := "LadderDeskModel", name := "multiplySmall", desc := "(III)V" } : Jvm.MethodName)) ∈ lw_tbl := lw_at lw_m2 102 rfl
theorem q363 : (Jvm.Cond.instanceMethod ({ cls := "LadderDeskModel", name := "multiplySmall", desc := "(III)V" } : Jvm.MethodName)) ∈ lw_all := lw_g (lw_at lw_m2 103 rfl) rfl
theorem q364 : (Jvm.Cond.code ({ cls := "LadderDeskModel", name := "multiplySmall", desc := "(III)V" } : Jvm.MethodName) prog_5_method_12_code (5 : Nat) (Option.none : Option Jvm.ClassFile.FieldType)) ∈ lw_all := lw_g (lw_at lw_m2 104 rfl) rfl
theorem q366 : (Jvm.Cond.instanceMethod ({ cls := "LadderDeskModel", name := "finish", desc := "()I" } : Jvm.MethodName)) ∈ lw_all := lw_g (lw_at lw_m2 106 rfl) rfl
theorem q367 : (Jvm.Cond.selects "LadderDeskModel" ({ cls := "LadderDeskModel", name := "finish", desc := "()I" } : Jvm.MethodName) ({ cls := "LadderDeskModel", name := "finish", desc := "()I" } : Jvm.MethodName)) ∈ lw_all := lw_g (lw_at lw_m2 107 rfl) rfl
theorem q368 : (Jvm.Cond.code ({ cls := "LadderDeskModel", name := "finish", desc := "()I" } : Jvm.MethodName) prog_5_method_25_code (2 : Nat) (Option.some Jvm.ClassFile.FieldType.int)) ∈ lw_all := lw_g (lw_at lw_m2 108 rfl) rfl
theorem q370 : (Jvm.Cond.instanceMethod ({ cls := "LadderDeskModel", name := "again", desc := "()I" } : Jvm.MethodName)) ∈ lw_all := lw_g (lw_at lw_m2 110 rfl) rfl
theorem q371 : (Jvm.Cond.selects "LadderDeskModel" ({ cls := "LadderDeskModel", name := "again", desc := "()I" } : Jvm.MethodName) ({ cls := "LadderDeskModel", name := "again", desc := "()I" } : Jvm.MethodName)) ∈ lw_all := lw_g (lw_at lw_m2 111 rfl) rfl
theorem q372 : (Jvm.Cond.code ({ cls := "LadderDeskModel", name := "again", desc := "()I" } : Jvm.MethodName) prog_5_method_26_code (2 : Nat) (Option.some Jvm.ClassFile.FieldType.int)) ∈ lw_all := lw_g (lw_at lw_m2 112 rfl) rfl
theorem q373 : (Jvm.Cond.methodLink "LadderDeskModel" (100 : Nat) ({ cls := "LadderDeskModel", name := "longOf", desc := "(II)J" } : Jvm.MethodName)) ∈ lw_all := lw_g (lw_at lw_m2 113 rfl) rfl
theorem q374 : (Jvm.Cond.privateMethod ({ cls := "LadderDeskModel", name := "longOf", desc := "(II)J" } : Jvm.MethodName)) ∈ lw_tbl := lw_at lw_m2 114 rfl
theorem q375 : (Jvm.Cond.instanceMethod ({ cls := "LadderDeskModel", name := "longOf", desc := "(II)J" } : Jvm.MethodName)) ∈ lw_all := lw_g (lw_at lw_m2 115 rfl) rfl
theorem q376 : (Jvm.Cond.code ({ cls := "LadderDeskModel", name := "longOf", desc := "(II)J" } : Jvm.MethodName) prog_5_method_15_code (6 : Nat) (Option.some Jvm.ClassFile.FieldType.long)) ∈ lw_all := lw_g (lw_at lw_m2 116 rfl) rfl
theorem q378 : (Jvm.Cond.instanceMethod ({ cls := "LadderDeskModel", name := "reset", desc := "()I" } : Jvm.MethodName)) ∈ lw_all := lw_g (lw_at lw_m2 118 rfl) rfl
theorem q379 : (Jvm.Cond.selects "LadderDeskModel" ({ cls := "LadderDeskModel", name := "reset", desc := "()I" } : Jvm.MethodName) ({ cls := "LadderDeskModel", name := "reset", desc := "()I" } : Jvm.MethodName)) ∈ lw_all := lw_g (lw_at lw_m2 119 rfl) rfl
theorem q380 : (Jvm.Cond.code ({ cls := "LadderDeskModel", name := "reset", desc := "()I" } : Jvm.MethodName) prog_5_method_27_code (2 : Nat) (Option.some Jvm.ClassFile.FieldType.int)) ∈ lw_all := lw_g (lw_at lw_m2 120 rfl) rfl
theorem q382 : (Jvm.Cond.instanceMethod ({ cls := "LadderDeskModel", name := "phase", desc := "()I" } : Jvm.MethodName)) ∈ lw_all := lw_g (lw_at lw_m2 122 rfl) rfl
theorem q383 : (Jvm.Cond.selects "LadderDeskModel" ({ cls := "LadderDeskModel", name := "phase", desc := "()I" } : Jvm.MethodName) ({ cls := "LadderDeskModel", name := "phase", desc := "()I" } : Jvm.MethodName)) ∈ lw_all := lw_g (lw_at lw_m2 123 rfl) rfl
theorem q384 : (Jvm.Cond.code ({ cls := "LadderDeskModel", name := "phase", desc := "()I" } : Jvm.MethodName) prog_5_method_28_code (1 : Nat) (Option.some Jvm.ClassFile.FieldType.int)) ∈ lw_all := lw_g (lw_at lw_m2 124 rfl) rfl
theorem q386 : (Jvm.Cond.instanceMethod ({ cls := "LadderDeskModel", name := "out", desc := "(I)J" } : Jvm.MethodName)) ∈ lw_all := lw_g (lw_at lw_m2 126 rfl) rfl
theorem q387 : (Jvm.Cond.selects "LadderDeskModel" ({ cls := "LadderDeskModel", name := "out", desc := "(I)J" } : Jvm.MethodName) ({ cls := "LadderDeskModel", name := "out", desc := "(I)J" } : Jvm.MethodName)) ∈ lw_all := lw_g (lw_at lw_m2 127 rfl) rfl
theorem q388 : (Jvm.Cond.code ({ cls := "LadderDeskModel", name := "out", desc := "(I)J" } : Jvm.MethodName) prog_5_method_29_code (2 : Nat) (Option.some Jvm.ClassFile.FieldType.long)) ∈ lw_all := lw_g (lw_at lw_m2 128 rfl) rfl
theorem q390 : (Jvm.Cond.instanceMethod ({ cls := "LadderDeskModel", name := "part", desc := "(II)J" } : Jvm.MethodName)) ∈ lw_all := lw_g (lw_at lw_m2 130 rfl) rfl
theorem q391 : (Jvm.Cond.selects "LadderDeskModel" ({ cls := "LadderDeskModel", name := "part", desc := "(II)J" } : Jvm.MethodName) ({ cls := "LadderDeskModel", name := "part", desc := "(II)J" } : Jvm.MethodName)) ∈ lw_all := lw_g (lw_at lw_m2 131 rfl) rfl
theorem q392 : (Jvm.Cond.code ({ cls := "LadderDeskModel", name := "part", desc := "(II)J" } : Jvm.MethodName) prog_5_method_30_code (3 : Nat) (Option.some Jvm.ClassFile.FieldType.long)) ∈ lw_all := lw_g (lw_at lw_m2 132 rfl) rfl
theorem q394 : (Jvm.Cond.instanceMethod ({ cls := "LadderDeskModel", name := "told", desc := "(II)J" } : Jvm.MethodName)) ∈ lw_all := lw_g (lw_at lw_m2 134 rfl) rfl
theorem q395 : (Jvm.Cond.selects "LadderDeskModel" ({ cls := "LadderDeskModel", name := "told", desc := "(II)J" } : Jvm.MethodName) ({ cls := "LadderDeskModel", name := "told", desc := "(II)J" } : Jvm.MethodName)) ∈ lw_all := lw_g (lw_at lw_m2 135 rfl) rfl
theorem q396 : (Jvm.Cond.code ({ cls := "LadderDeskModel", name := "told", desc := "(II)J" } : Jvm.MethodName) prog_5_method_31_code (5 : Nat) (Option.some Jvm.ClassFile.FieldType.long)) ∈ lw_all := lw_g (lw_at lw_m2 136 rfl) rfl
theorem q397 : (Jvm.Cond.constantLong "LadderDeskModel" (104 : Nat) (-8 : Int64)) ∈ lw_all := lw_g (lw_at lw_m2 137 rfl) rfl
theorem q398 : (Jvm.Cond.constantLong "LadderDeskModel" (106 : Nat) (4611686018427387903 : Int64)) ∈ lw_all := lw_g (lw_at lw_m2 138 rfl) rfl
theorem q399 : (Jvm.Cond.constantLong "LadderDeskModel" (108 : Nat) (4611686018427387904 : Int64)) ∈ lw_all := lw_g (lw_at lw_m2 139 rfl) rfl
theorem q401 : (Jvm.Cond.instanceMethod ({ cls := "LadderDeskModel", name := "count", desc := "(I)I" } : Jvm.MethodName)) ∈ lw_all := lw_g (lw_at lw_m2 141 rfl) rfl
theorem q402 : (Jvm.Cond.selects "LadderDeskModel" ({ cls := "LadderDeskModel", name := "count", desc := "(I)I" } : Jvm.MethodName) ({ cls := "LadderDeskModel", name := "count", desc := "(I)I" } : Jvm.MethodName)) ∈ lw_all := lw_g (lw_at lw_m2 142 rfl) rfl
theorem q403 : (Jvm.Cond.code ({ cls := "LadderDeskModel", name := "count", desc := "(I)I" } : Jvm.MethodName) prog_5_method_32_code (2 : Nat) (Option.some Jvm.ClassFile.FieldType.int)) ∈ lw_all := lw_g (lw_at lw_m2 143 rfl) rfl
theorem q405 : (Jvm.Cond.instanceMethod ({ cls := "LadderDeskModel", name := "check", desc := "()I" } : Jvm.MethodName)) ∈ lw_all := lw_g (lw_at lw_m2 145 rfl) rfl
theorem q406 : (Jvm.Cond.selects "LadderDeskModel" ({ cls := "LadderDeskModel", name := "check", desc := "()I" } : Jvm.MethodName) ({ cls := "LadderDeskModel", name := "check", desc := "()I" } : Jvm.MethodName)) ∈ lw_all := lw_g (lw_at lw_m2 146 rfl) rfl
theorem q407 : (Jvm.Cond.code ({ cls := "LadderDeskModel", name := "check", desc := "()I" } : Jvm.MethodName) prog_5_method_33_code (2 : Nat) (Option.some Jvm.ClassFile.FieldType.int)) ∈ lw_all := lw_g (lw_at lw_m2 147 rfl) rfl
theorem q408 : (Jvm.Cond.methodLink "LadderDeskModel" (110 : Nat) ({ cls := "LadderDeskModel", name := "isZero", desc := "(I)Z" } : Jvm.MethodName)) ∈ lw_all := lw_g (lw_at lw_m2 148 rfl) rfl
theorem q409 : (Jvm.Cond.privateMethod ({ cls := "LadderDeskModel", name := "isZero", desc := "(I)Z" } : Jvm.MethodName)) ∈ lw_tbl := lw_at lw_m2 149 rfl
theorem q410 : (Jvm.Cond.instanceMethod ({ cls := "LadderDeskModel", name := "isZero", desc := "(I)Z" } : Jvm.MethodName)) ∈ lw_all := lw_g (lw_at lw_m2 150 rfl) rfl
theorem q411 : (Jvm.Cond.code ({ cls := "LadderDeskModel", name := "isZero", desc := "(I)Z" } : Jvm.MethodName) prog_5_method_13_code (4 : Nat) (Option.some Jvm.ClassFile.FieldType.boolean)) ∈ lw_all := lw_g (lw_at lw_m2 151 rfl) rfl
theorem q412 : (Jvm.Cond.methodLink "LadderDeskModel" (113 : Nat) ({ cls := "LadderDeskModel", name := "isSame", desc := "(II)Z" } : Jvm.MethodName)) ∈ lw_all := lw_g (lw_at lw_m2 152 rfl) rfl
theorem q413 : (Jvm.Cond.privateMethod ({ cls := "LadderDeskModel", name := "isSame", desc := "(II)Z" } : Jvm.MethodName)) ∈ lw_tbl := lw_at lw_m2 153 rfl
theorem q414 : (Jvm.Cond.instanceMethod ({ cls := "LadderDeskModel", name := "isSame", desc := "(II)Z" } : Jvm.MethodName)) ∈ lw_all := lw_g (lw_at lw_m2 154 rfl) rfl
theorem q415 : (Jvm.Cond.code ({ cls := "LadderDeskModel", name := "isSame", desc := "(II)Z" } : Jvm.MethodName) prog_5_method_14_code (5 : Nat) (Option.some Jvm.ClassFile.FieldType.boolean)) ∈ lw_all := lw_g (lw_at lw_m2 155 rfl) rfl
theorem in_X3 : ∀ w ∈ wsX30, w ∈ lw_all := lw_in wsX30 [266, 268, 270, 272, 274, 276, 278] (by decide +kernel) (by decide +kernel)
end
section
theorem q20 : (Jvm.Cond.initialized "LadderDeskLaw") ∈ lw_all := lw_g (lw_at lw_m1 0 rfl) rfl
set_option maxRecDepth 100000
theorem q26 : (Jvm.Cond.classLink "LadderDeskLaw" (7 : Nat) "LadderDesk") ∈ lw_all := lw_g (lw_at lw_m1 6 rfl) rfl
theorem q28 : (Jvm.Cond.methodLink "LadderDeskLaw" (9 : Nat) ({ cls := "LadderDesk", name := "<init>", desc := "()V" } : Jvm.MethodName)) ∈ lw_all := lw_g (lw_at lw_m1 8 rfl) rfl
theorem q123 : (Jvm.Cond.methodLink "LadderDeskLaw" (15 : Nat) ({ cls := "LadderDesk", name := "scalar", desc := "(IJ)I" } : Jvm.MethodName)) ∈ lw_all := lw_g (lw_at lw_m1 103 rfl) rfl
theorem q130 : (Jvm.Cond.methodLink "LadderDeskLaw" (20 : Nat) ({ cls := "LadderDesk", name := "point", desc := "(IJ)I" } : Jvm.MethodName)) ∈ lw_all := lw_g (lw_at lw_m1 110 rfl) rfl
theorem q134 : (Jvm.Cond.methodLink "LadderDeskLaw" (24 : Nat) ({ cls := "LadderDesk", name := "start", desc := "()I" } : Jvm.MethodName)) ∈ lw_all := lw_g (lw_at lw_m1 114 rfl) rfl
theorem q151 : (Jvm.Cond.methodLink "LadderDeskLaw" (29 : Nat) ({ cls := "LadderDesk", name := "step", desc := "(I)I" } : Jvm.MethodName)) ∈ lw_all := lw_g (lw_at lw_m1 131 rfl) rfl
theorem q189 : (Jvm.Cond.methodLink "LadderDeskLaw" (34 : Nat) ({ cls := "LadderDesk", name := "finish", desc := "()I" } : Jvm.MethodName)) ∈ lw_all := lw_g (lw_at lw_m1 169 rfl) rfl
theorem q209 : (Jvm.Cond.methodLink "LadderDeskLaw" (38 : Nat) ({ cls := "LadderDesk", name := "again", desc := "()I" } : Jvm.MethodName)) ∈ lw_all := lw_g (lw_at lw_m1 189 rfl) rfl
theorem q217 : (Jvm.Cond.methodLink "LadderDeskLaw" (42 : Nat) ({ cls := "LadderDesk", name := "reset", desc := "()I" } : Jvm.MethodName)) ∈ lw_all := lw_g (lw_at lw_m1 197 rfl) rfl
theorem q221 : (Jvm.Cond.methodLink "LadderDeskLaw" (46 : Nat) ({ cls := "LadderDesk", name := "phase", desc := "()I" } : Jvm.MethodName)) ∈ lw_all := lw_g (lw_at lw_m1 201 rfl) rfl
theorem q225 : (Jvm.Cond.methodLink "LadderDeskLaw" (50 : Nat) ({ cls := "LadderDesk", name := "out", desc := "(I)J" } : Jvm.MethodName)) ∈ lw_all := lw_g (lw_at lw_m1 205 rfl) rfl
theorem q229 : (Jvm.Cond.methodLink "LadderDeskLaw" (55 : Nat) ({ cls := "LadderDesk", name := "part", desc := "(II)J" } : Jvm.MethodName)) ∈ lw_all := lw_g (lw_at lw_m1 209 rfl) rfl
theorem q237 : (Jvm.Cond.methodLink "LadderDeskLaw" (60 : Nat) ({ cls := "LadderDesk", name := "told", desc := "(II)J" } : Jvm.MethodName)) ∈ lw_all := lw_g (lw_at lw_m1 217 rfl) rfl
theorem q241 : (Jvm.Cond.methodLink "LadderDeskLaw" (64 : Nat) ({ cls := "LadderDesk", name := "count", desc := "(I)I" } : Jvm.MethodName)) ∈ lw_all := lw_g (lw_at lw_m1 221 rfl) rfl
theorem q245 : (Jvm.Cond.methodLink "LadderDeskLaw" (68 : Nat) ({ cls := "LadderDesk", name := "check", desc := "()I" } : Jvm.MethodName)) ∈ lw_all := lw_g (lw_at lw_m1 225 rfl) rfl
theorem q253 : (Jvm.Cond.classLink "LadderDeskLaw" (10 : Nat) "LadderDeskModel") ∈ lw_all := lw_g (lw_at lw_m1 233 rfl) rfl
theorem q255 : (Jvm.Cond.methodLink "LadderDeskLaw" (12 : Nat) ({ cls := "LadderDeskModel", name := "<init>", desc := "()V" } : Jvm.MethodName)) ∈ lw_all := lw_g (lw_at lw_m1 235 rfl) rfl
theorem q282 : (Jvm.Cond.methodLink "LadderDeskLaw" (19 : Nat) ({ cls := "LadderDeskModel", name := "scalar", desc := "(IJ)I" } : Jvm.MethodName)) ∈ lw_all := lw_g (lw_at lw_m2 22 rfl) rfl
theorem q289 : (Jvm.Cond.methodLink "LadderDeskLaw" (23 : Nat) ({ cls := "LadderDeskModel", name := "point", desc := "(IJ)I" } : Jvm.MethodName)) ∈ lw_all := lw_g (lw_at lw_m2 29 rfl) rfl
theorem q293 : (Jvm.Cond.methodLink "LadderDeskLaw" (28 : Nat) ({ cls := "LadderDeskModel", name := "start", desc := "()I" } : Jvm.MethodName)) ∈ lw_all := lw_g (lw_at lw_m2 33 rfl) rfl
theorem q326 : (Jvm.Cond.methodLink "LadderDeskLaw" (33 : Nat) ({ cls := "LadderDeskModel", name := "step", desc := "(I)I" } : Jvm.MethodName)) ∈ lw_all := lw_g (lw_at lw_m2 66 rfl) rfl
theorem q365 : (Jvm.Cond.methodLink "LadderDeskLaw" (37 : Nat) ({ cls := "LadderDeskModel", name := "finish", desc := "()I" } : Jvm.MethodName)) ∈ lw_all := lw_g (lw_at lw_m2 105 rfl) rfl
theorem q369 : (Jvm.Cond.methodLink "LadderDeskLaw" (41 : Nat) ({ cls := "LadderDeskModel", name := "again", desc := "()I" } : Jvm.MethodName)) ∈ lw_all := lw_g (lw_at lw_m2 109 rfl) rfl
theorem q377 : (Jvm.Cond.methodLink "LadderDeskLaw" (45 : Nat) ({ cls := "LadderDeskModel", name := "reset", desc := "()I" } : Jvm.MethodName)) ∈ lw_all := lw_g (lw_at lw_m2 117 rfl) rfl
theorem q381 : (Jvm.Cond.methodLink "LadderDeskLaw" (49 : Nat) ({ cls := "LadderDeskModel", name := "phase", desc := "()I" } : Jvm.MethodName)) ∈ lw_all := lw_g (lw_at lw_m2 121 rfl) rfl
theorem q385 : (Jvm.Cond.methodLink "LadderDeskLaw" (54 : Nat) ({ cls := "LadderDeskModel", name := "out", desc := "(I)J" } : Jvm.MethodName)) ∈ lw_all := lw_g (lw_at lw_m2 125 rfl) rfl
theorem q389 : (Jvm.Cond.methodLink "LadderDeskLaw" (59 : Nat) ({ cls := "LadderDeskModel", name := "part", desc := "(II)J" } : Jvm.MethodName)) ∈ lw_all := lw_g (lw_at lw_m2 129 rfl) rfl
theorem q393 : (Jvm.Cond.methodLink "LadderDeskLaw" (63 : Nat) ({ cls := "LadderDeskModel", name := "told", desc := "(II)J" } : Jvm.MethodName)) ∈ lw_all := lw_g (lw_at lw_m2 133 rfl) rfl
theorem q400 : (Jvm.Cond.methodLink "LadderDeskLaw" (67 : Nat) ({ cls := "LadderDeskModel", name := "count", desc := "(I)I" } : Jvm.MethodName)) ∈ lw_all := lw_g (lw_at lw_m2 140 rfl) rfl
theorem q404 : (Jvm.Cond.methodLink "LadderDeskLaw" (71 : Nat) ({ cls := "LadderDeskModel", name := "check", desc := "()I" } : Jvm.MethodName)) ∈ lw_all := lw_g (lw_at lw_m2 144 rfl) rfl
theorem q416 : (Jvm.Cond.constantLong "LadderDeskLaw" (13 : Nat) (4294967295 : Int64)) ∈ lw_all := lw_g (lw_at lw_m2 156 rfl) rfl
/-! the law's own entry -/
set_option maxRecDepth 100000
abbrev cL_law : ByteArray := code
theorem dL_law_0 : decode cL_law 0 = .ok (.new 7, 3) := by decide +kernel
theorem dL_law_3 : decode cL_law 3 = .ok (.dup, 1) := by decide +kernel
theorem dL_law_4 : decode cL_law 4 = .ok (.invokespecial 9, 3) := by decide +kernel
theorem dL_law_7 : decode cL_law 7 = .ok (.astore_n 1, 1) := by decide +kernel
theorem dL_law_8 : decode cL_law 8 = .ok (.new 10, 3) := by decide +kernel
theorem dL_law_11 : decode cL_law 11 = .ok (.dup, 1) := by decide +kernel
theorem dL_law_12 : decode cL_law 12 = .ok (.invokespecial 12, 3) := by decide +kernel
theorem dL_law_15 : decode cL_law 15 = .ok (.astore_n 2, 1) := by decide +kernel
theorem dL_law_16 : decode cL_law 16 = .ok (.iconst 0, 1) := by decide +kernel
theorem dL_law_17 : decode cL_law 17 = .ok (.istore_n 3, 1) := by decide +kernel
theorem dL_law_18 : decode cL_law 18 = .ok (.iload_n 3, 1) := by decide +kernel
theorem dL_law_19 : decode cL_law 19 = .ok (.aload_n 0, 1) := by decide +kernel
theorem dL_law_20 : decode cL_law 20 = .ok (.arraylength, 1) := by decide +kernel
theorem dL_law_21 : decode cL_law 21 = .ok (.iconst 4, 1) := by decide +kernel
theorem dL_law_22 : decode cL_law 22 = .ok (.isub, 1) := by decide +kernel
theorem dL_law_23 : decode cL_law 23 = .ok (.if_icmp .gt 425, 3) := by decide +kernel
theorem dL_law_26 : decode cL_law 26 = .ok (.aload_n 0, 1) := by decide +kernel
theorem dL_law_27 : decode cL_law 27 = .ok (.iload_n 3, 1) := by decide +kernel
theorem dL_law_28 : decode cL_law 28 = .ok (.iaload, 1) := by decide +kernel
theorem dL_law_29 : decode cL_law 29 = .ok (.bipush 15, 2) := by decide +kernel
theorem dL_law_31 : decode cL_law 31 = .ok (.iand, 1) := by decide +kernel
theorem dL_law_32 : decode cL_law 32 = .ok (.tableswitch 410 0 12 #[68, 131, 194, 207, 230, 243, 256, 269, 282, 306, 340, 374, 397], 68) := by decide +kernel
theorem dL_law_100 : decode cL_law 100 = .ok (.aload_n 1, 1) := by decide +kernel
theorem dL_law_101 : decode cL_law 101 = .ok (.aload_n 0, 1) := by decide +kernel
theorem dL_law_102 : decode cL_law 102 = .ok (.iload_n 3, 1) := by decide +kernel
theorem dL_law_103 : decode cL_law 103 = .ok (.iconst 1, 1) := by decide +kernel
theorem dL_law_104 : decode cL_law 104 = .ok (.iadd, 1) := by decide +kernel
theorem dL_law_105 : decode cL_law 105 = .ok (.iaload, 1) := by decide +kernel
theorem dL_law_106 : decode cL_law 106 = .ok (.aload_n 0, 1) := by decide +kernel
theorem dL_law_107 : decode cL_law 107 = .ok (.iload_n 3, 1) := by decide +kernel
theorem dL_law_108 : decode cL_law 108 = .ok (.iconst 2, 1) := by decide +kernel
theorem dL_law_109 : decode cL_law 109 = .ok (.iadd, 1) := by decide +kernel
theorem dL_law_110 : decode cL_law 110 = .ok (.iaload, 1) := by decide +kernel
theorem dL_law_111 : decode cL_law 111 = .ok (.i2l, 1) := by decide +kernel
theorem dL_law_112 : decode cL_law 112 = .ok (.bipush 32, 2) := by decide +kernel
theorem dL_law_114 : decode cL_law 114 = .ok (.lshl, 1) := by decide +kernel
theorem dL_law_115 : decode cL_law 115 = .ok (.aload_n 0, 1) := by decide +kernel
theorem dL_law_116 : decode cL_law 116 = .ok (.iload_n 3, 1) := by decide +kernel
theorem dL_law_117 : decode cL_law 117 = .ok (.iconst 3, 1) := by decide +kernel
theorem dL_law_118 : decode cL_law 118 = .ok (.iadd, 1) := by decide +kernel
theorem dL_law_119 : decode cL_law 119 = .ok (.iaload, 1) := by decide +kernel
theorem dL_law_120 : decode cL_law 120 = .ok (.i2l, 1) := by decide +kernel
theorem dL_law_121 : decode cL_law 121 = .ok (.ldc2_w 13, 3) := by decide +kernel
theorem dL_law_124 : decode cL_law 124 = .ok (.land, 1) := by decide +kernel
theorem dL_law_125 : decode cL_law 125 = .ok (.lor, 1) := by decide +kernel
theorem dL_law_126 : decode cL_law 126 = .ok (.invokevirtual 15, 3) := by decide +kernel
theorem dL_law_129 : decode cL_law 129 = .ok (.aload_n 2, 1) := by decide +kernel
theorem dL_law_130 : decode cL_law 130 = .ok (.aload_n 0, 1) := by decide +kernel
theorem dL_law_131 : decode cL_law 131 = .ok (.iload_n 3, 1) := by decide +kernel
theorem dL_law_132 : decode cL_law 132 = .ok (.iconst 1, 1) := by decide +kernel
theorem dL_law_133 : decode cL_law 133 = .ok (.iadd, 1) := by decide +kernel
theorem dL_law_134 : decode cL_law 134 = .ok (.iaload, 1) := by decide +kernel
theorem dL_law_135 : decode cL_law 135 = .ok (.aload_n 0, 1) := by decide +kernel
theorem dL_law_136 : decode cL_law 136 = .ok (.iload_n 3, 1) := by decide +kernel
theorem dL_law_137 : decode cL_law 137 = .ok (.iconst 2, 1) := by decide +kernel
theorem dL_law_138 : decode cL_law 138 = .ok (.iadd, 1) := by decide +kernel
theorem dL_law_139 : decode cL_law 139 = .ok (.iaload, 1) := by decide +kernel
theorem dL_law_140 : decode cL_law 140 = .ok (.i2l, 1) := by decide +kernel
theorem dL_law_141 : decode cL_law 141 = .ok (.bipush 32, 2) := by decide +kernel
theorem dL_law_143 : decode cL_law 143 = .ok (.lshl, 1) := by decide +kernel
theorem dL_law_144 : decode cL_law 144 = .ok (.aload_n 0, 1) := by decide +kernel
theorem dL_law_145 : decode cL_law 145 = .ok (.iload_n 3, 1) := by decide +kernel
theorem dL_law_146 : decode cL_law 146 = .ok (.iconst 3, 1) := by decide +kernel
theorem dL_law_147 : decode cL_law 147 = .ok (.iadd, 1) := by decide +kernel
theorem dL_law_148 : decode cL_law 148 = .ok (.iaload, 1) := by decide +kernel
theorem dL_law_149 : decode cL_law 149 = .ok (.i2l, 1) := by decide +kernel
theorem dL_law_150 : decode cL_law 150 = .ok (.ldc2_w 13, 3) := by decide +kernel
theorem dL_law_153 : decode cL_law 153 = .ok (.land, 1) := by decide +kernel
theorem dL_law_154 : decode cL_law 154 = .ok (.lor, 1) := by decide +kernel
theorem dL_law_155 : decode cL_law 155 = .ok (.invokevirtual 19, 3) := by decide +kernel
theorem dL_law_158 : decode cL_law 158 = .ok (.if_icmp .eq 284, 3) := by decide +kernel
theorem dL_law_161 : decode cL_law 161 = .ok (.iconst 0, 1) := by decide +kernel
theorem dL_law_162 : decode cL_law 162 = .ok (.ireturn, 1) := by decide +kernel
theorem dL_law_163 : decode cL_law 163 = .ok (.aload_n 1, 1) := by decide +kernel
theorem dL_law_164 : decode cL_law 164 = .ok (.aload_n 0, 1) := by decide +kernel
theorem dL_law_165 : decode cL_law 165 = .ok (.iload_n 3, 1) := by decide +kernel
theorem dL_law_166 : decode cL_law 166 = .ok (.iconst 1, 1) := by decide +kernel
theorem dL_law_167 : decode cL_law 167 = .ok (.iadd, 1) := by decide +kernel
theorem dL_law_168 : decode cL_law 168 = .ok (.iaload, 1) := by decide +kernel
theorem dL_law_169 : decode cL_law 169 = .ok (.aload_n 0, 1) := by decide +kernel
theorem dL_law_170 : decode cL_law 170 = .ok (.iload_n 3, 1) := by decide +kernel
theorem dL_law_171 : decode cL_law 171 = .ok (.iconst 2, 1) := by decide +kernel
theorem dL_law_172 : decode cL_law 172 = .ok (.iadd, 1) := by decide +kernel
theorem dL_law_173 : decode cL_law 173 = .ok (.iaload, 1) := by decide +kernel
theorem dL_law_174 : decode cL_law 174 = .ok (.i2l, 1) := by decide +kernel
theorem dL_law_175 : decode cL_law 175 = .ok (.bipush 32, 2) := by decide +kernel
theorem dL_law_177 : decode cL_law 177 = .ok (.lshl, 1) := by decide +kernel
theorem dL_law_178 : decode cL_law 178 = .ok (.aload_n 0, 1) := by decide +kernel
theorem dL_law_179 : decode cL_law 179 = .ok (.iload_n 3, 1) := by decide +kernel
theorem dL_law_180 : decode cL_law 180 = .ok (.iconst 3, 1) := by decide +kernel
theorem dL_law_181 : decode cL_law 181 = .ok (.iadd, 1) := by decide +kernel
theorem dL_law_182 : decode cL_law 182 = .ok (.iaload, 1) := by decide +kernel
theorem dL_law_183 : decode cL_law 183 = .ok (.i2l, 1) := by decide +kernel
theorem dL_law_184 : decode cL_law 184 = .ok (.ldc2_w 13, 3) := by decide +kernel
theorem dL_law_187 : decode cL_law 187 = .ok (.land, 1) := by decide +kernel
theorem dL_law_188 : decode cL_law 188 = .ok (.lor, 1) := by decide +kernel
theorem dL_law_189 : decode cL_law 189 = .ok (.invokevirtual 20, 3) := by decide +kernel
theorem dL_law_192 : decode cL_law 192 = .ok (.aload_n 2, 1) := by decide +kernel
theorem dL_law_193 : decode cL_law 193 = .ok (.aload_n 0, 1) := by decide +kernel
theorem dL_law_194 : decode cL_law 194 = .ok (.iload_n 3, 1) := by decide +kernel
theorem dL_law_195 : decode cL_law 195 = .ok (.iconst 1, 1) := by decide +kernel
theorem dL_law_196 : decode cL_law 196 = .ok (.iadd, 1) := by decide +kernel
theorem dL_law_197 : decode cL_law 197 = .ok (.iaload, 1) := by decide +kernel
theorem dL_law_198 : decode cL_law 198 = .ok (.aload_n 0, 1) := by decide +kernel
theorem dL_law_199 : decode cL_law 199 = .ok (.iload_n 3, 1) := by decide +kernel
theorem dL_law_200 : decode cL_law 200 = .ok (.iconst 2, 1) := by decide +kernel
theorem dL_law_201 : decode cL_law 201 = .ok (.iadd, 1) := by decide +kernel
theorem dL_law_202 : decode cL_law 202 = .ok (.iaload, 1) := by decide +kernel
theorem dL_law_203 : decode cL_law 203 = .ok (.i2l, 1) := by decide +kernel
theorem dL_law_204 : decode cL_law 204 = .ok (.bipush 32, 2) := by decide +kernel
theorem dL_law_206 : decode cL_law 206 = .ok (.lshl, 1) := by decide +kernel
theorem dL_law_207 : decode cL_law 207 = .ok (.aload_n 0, 1) := by decide +kernel
theorem dL_law_208 : decode cL_law 208 = .ok (.iload_n 3, 1) := by decide +kernel
theorem dL_law_209 : decode cL_law 209 = .ok (.iconst 3, 1) := by decide +kernel
theorem dL_law_210 : decode cL_law 210 = .ok (.iadd, 1) := by decide +kernel
theorem dL_law_211 : decode cL_law 211 = .ok (.iaload, 1) := by decide +kernel
theorem dL_law_212 : decode cL_law 212 = .ok (.i2l, 1) := by decide +kernel
theorem dL_law_213 : decode cL_law 213 = .ok (.ldc2_w 13, 3) := by decide +kernel
theorem dL_law_216 : decode cL_law 216 = .ok (.land, 1) := by decide +kernel
theorem dL_law_217 : decode cL_law 217 = .ok (.lor, 1) := by decide +kernel
theorem dL_law_218 : decode cL_law 218 = .ok (.invokevirtual 23, 3) := by decide +kernel
theorem dL_law_221 : decode cL_law 221 = .ok (.if_icmp .eq 221, 3) := by decide +kernel
theorem dL_law_224 : decode cL_law 224 = .ok (.iconst 0, 1) := by decide +kernel
theorem dL_law_225 : decode cL_law 225 = .ok (.ireturn, 1) := by decide +kernel
theorem dL_law_226 : decode cL_law 226 = .ok (.aload_n 1, 1) := by decide +kernel
theorem dL_law_227 : decode cL_law 227 = .ok (.invokevirtual 24, 3) := by decide +kernel
theorem dL_law_230 : decode cL_law 230 = .ok (.aload_n 2, 1) := by decide +kernel
theorem dL_law_231 : decode cL_law 231 = .ok (.invokevirtual 28, 3) := by decide +kernel
theorem dL_law_234 : decode cL_law 234 = .ok (.if_icmp .eq 208, 3) := by decide +kernel
theorem dL_law_237 : decode cL_law 237 = .ok (.iconst 0, 1) := by decide +kernel
theorem dL_law_238 : decode cL_law 238 = .ok (.ireturn, 1) := by decide +kernel
theorem dL_law_239 : decode cL_law 239 = .ok (.aload_n 1, 1) := by decide +kernel
theorem dL_law_240 : decode cL_law 240 = .ok (.aload_n 0, 1) := by decide +kernel
theorem dL_law_241 : decode cL_law 241 = .ok (.iload_n 3, 1) := by decide +kernel
theorem dL_law_242 : decode cL_law 242 = .ok (.iconst 1, 1) := by decide +kernel
theorem dL_law_243 : decode cL_law 243 = .ok (.iadd, 1) := by decide +kernel
theorem dL_law_244 : decode cL_law 244 = .ok (.iaload, 1) := by decide +kernel
theorem dL_law_245 : decode cL_law 245 = .ok (.invokevirtual 29, 3) := by decide +kernel
theorem dL_law_248 : decode cL_law 248 = .ok (.aload_n 2, 1) := by decide +kernel
theorem dL_law_249 : decode cL_law 249 = .ok (.aload_n 0, 1) := by decide +kernel
theorem dL_law_250 : decode cL_law 250 = .ok (.iload_n 3, 1) := by decide +kernel
theorem dL_law_251 : decode cL_law 251 = .ok (.iconst 1, 1) := by decide +kernel
theorem dL_law_252 : decode cL_law 252 = .ok (.iadd, 1) := by decide +kernel
theorem dL_law_253 : decode cL_law 253 = .ok (.iaload, 1) := by decide +kernel
theorem dL_law_254 : decode cL_law 254 = .ok (.invokevirtual 33, 3) := by decide +kernel
theorem dL_law_257 : decode cL_law 257 = .ok (.if_icmp .eq 185, 3) := by decide +kernel
theorem dL_law_260 : decode cL_law 260 = .ok (.iconst 0, 1) := by decide +kernel
theorem dL_law_261 : decode cL_law 261 = .ok (.ireturn, 1) := by decide +kernel
theorem dL_law_262 : decode cL_law 262 = .ok (.aload_n 1, 1) := by decide +kernel
theorem dL_law_263 : decode cL_law 263 = .ok (.invokevirtual 34, 3) := by decide +kernel
theorem dL_law_266 : decode cL_law 266 = .ok (.aload_n 2, 1) := by decide +kernel
theorem dL_law_267 : decode cL_law 267 = .ok (.invokevirtual 37, 3) := by decide +kernel
theorem dL_law_270 : decode cL_law 270 = .ok (.if_icmp .eq 172, 3) := by decide +kernel
theorem dL_law_273 : decode cL_law 273 = .ok (.iconst 0, 1) := by decide +kernel
theorem dL_law_274 : decode cL_law 274 = .ok (.ireturn, 1) := by decide +kernel
theorem dL_law_275 : decode cL_law 275 = .ok (.aload_n 1, 1) := by decide +kernel
theorem dL_law_276 : decode cL_law 276 = .ok (.invokevirtual 38, 3) := by decide +kernel
theorem dL_law_279 : decode cL_law 279 = .ok (.aload_n 2, 1) := by decide +kernel
theorem dL_law_280 : decode cL_law 280 = .ok (.invokevirtual 41, 3) := by decide +kernel
theorem dL_law_283 : decode cL_law 283 = .ok (.if_icmp .eq 159, 3) := by decide +kernel
theorem dL_law_286 : decode cL_law 286 = .ok (.iconst 0, 1) := by decide +kernel
theorem dL_law_287 : decode cL_law 287 = .ok (.ireturn, 1) := by decide +kernel
theorem dL_law_288 : decode cL_law 288 = .ok (.aload_n 1, 1) := by decide +kernel
theorem dL_law_289 : decode cL_law 289 = .ok (.invokevirtual 42, 3) := by decide +kernel
theorem dL_law_292 : decode cL_law 292 = .ok (.aload_n 2, 1) := by decide +kernel
theorem dL_law_293 : decode cL_law 293 = .ok (.invokevirtual 45, 3) := by decide +kernel
theorem dL_law_296 : decode cL_law 296 = .ok (.if_icmp .eq 146, 3) := by decide +kernel
theorem dL_law_299 : decode cL_law 299 = .ok (.iconst 0, 1) := by decide +kernel
theorem dL_law_300 : decode cL_law 300 = .ok (.ireturn, 1) := by decide +kernel
theorem dL_law_301 : decode cL_law 301 = .ok (.aload_n 1, 1) := by decide +kernel
theorem dL_law_302 : decode cL_law 302 = .ok (.invokevirtual 46, 3) := by decide +kernel
theorem dL_law_305 : decode cL_law 305 = .ok (.aload_n 2, 1) := by decide +kernel
theorem dL_law_306 : decode cL_law 306 = .ok (.invokevirtual 49, 3) := by decide +kernel
theorem dL_law_309 : decode cL_law 309 = .ok (.if_icmp .eq 133, 3) := by decide +kernel
theorem dL_law_312 : decode cL_law 312 = .ok (.iconst 0, 1) := by decide +kernel
theorem dL_law_313 : decode cL_law 313 = .ok (.ireturn, 1) := by decide +kernel
theorem dL_law_314 : decode cL_law 314 = .ok (.aload_n 1, 1) := by decide +kernel
theorem dL_law_315 : decode cL_law 315 = .ok (.aload_n 0, 1) := by decide +kernel
theorem dL_law_316 : decode cL_law 316 = .ok (.iload_n 3, 1) := by decide +kernel
theorem dL_law_317 : decode cL_law 317 = .ok (.iconst 1, 1) := by decide +kernel
theorem dL_law_318 : decode cL_law 318 = .ok (.iadd, 1) := by decide +kernel
theorem dL_law_319 : decode cL_law 319 = .ok (.iaload, 1) := by decide +kernel
theorem dL_law_320 : decode cL_law 320 = .ok (.invokevirtual 50, 3) := by decide +kernel
theorem dL_law_323 : decode cL_law 323 = .ok (.aload_n 2, 1) := by decide +kernel
theorem dL_law_324 : decode cL_law 324 = .ok (.aload_n 0, 1) := by decide +kernel
theorem dL_law_325 : decode cL_law 325 = .ok (.iload_n 3, 1) := by decide +kernel
theorem dL_law_326 : decode cL_law 326 = .ok (.iconst 1, 1) := by decide +kernel
theorem dL_law_327 : decode cL_law 327 = .ok (.iadd, 1) := by decide +kernel
theorem dL_law_328 : decode cL_law 328 = .ok (.iaload, 1) := by decide +kernel
theorem dL_law_329 : decode cL_law 329 = .ok (.invokevirtual 54, 3) := by decide +kernel
theorem dL_law_332 : decode cL_law 332 = .ok (.lcmp, 1) := by decide +kernel
theorem dL_law_333 : decode cL_law 333 = .ok (.ifCond .eq 109, 3) := by decide +kernel
theorem dL_law_336 : decode cL_law 336 = .ok (.iconst 0, 1) := by decide +kernel
theorem dL_law_337 : decode cL_law 337 = .ok (.ireturn, 1) := by decide +kernel
theorem dL_law_338 : decode cL_law 338 = .ok (.aload_n 1, 1) := by decide +kernel
theorem dL_law_339 : decode cL_law 339 = .ok (.aload_n 0, 1) := by decide +kernel
theorem dL_law_340 : decode cL_law 340 = .ok (.iload_n 3, 1) := by decide +kernel
theorem dL_law_341 : decode cL_law 341 = .ok (.iconst 1, 1) := by decide +kernel
theorem dL_law_342 : decode cL_law 342 = .ok (.iadd, 1) := by decide +kernel
theorem dL_law_343 : decode cL_law 343 = .ok (.iaload, 1) := by decide +kernel
theorem dL_law_344 : decode cL_law 344 = .ok (.aload_n 0, 1) := by decide +kernel
theorem dL_law_345 : decode cL_law 345 = .ok (.iload_n 3, 1) := by decide +kernel
theorem dL_law_346 : decode cL_law 346 = .ok (.iconst 2, 1) := by decide +kernel
theorem dL_law_347 : decode cL_law 347 = .ok (.iadd, 1) := by decide +kernel
theorem dL_law_348 : decode cL_law 348 = .ok (.iaload, 1) := by decide +kernel
theorem dL_law_349 : decode cL_law 349 = .ok (.invokevirtual 55, 3) := by decide +kernel
theorem dL_law_352 : decode cL_law 352 = .ok (.aload_n 2, 1) := by decide +kernel
theorem dL_law_353 : decode cL_law 353 = .ok (.aload_n 0, 1) := by decide +kernel
theorem dL_law_354 : decode cL_law 354 = .ok (.iload_n 3, 1) := by decide +kernel
theorem dL_law_355 : decode cL_law 355 = .ok (.iconst 1, 1) := by decide +kernel
theorem dL_law_356 : decode cL_law 356 = .ok (.iadd, 1) := by decide +kernel
theorem dL_law_357 : decode cL_law 357 = .ok (.iaload, 1) := by decide +kernel
theorem dL_law_358 : decode cL_law 358 = .ok (.aload_n 0, 1) := by decide +kernel
theorem dL_law_359 : decode cL_law 359 = .ok (.iload_n 3, 1) := by decide +kernel
theorem dL_law_360 : decode cL_law 360 = .ok (.iconst 2, 1) := by decide +kernel
theorem dL_law_361 : decode cL_law 361 = .ok (.iadd, 1) := by decide +kernel
theorem dL_law_362 : decode cL_law 362 = .ok (.iaload, 1) := by decide +kernel
theorem dL_law_363 : decode cL_law 363 = .ok (.invokevirtual 59, 3) := by decide +kernel
theorem dL_law_366 : decode cL_law 366 = .ok (.lcmp, 1) := by decide +kernel
theorem dL_law_367 : decode cL_law 367 = .ok (.ifCond .eq 75, 3) := by decide +kernel
theorem dL_law_370 : decode cL_law 370 = .ok (.iconst 0, 1) := by decide +kernel
theorem dL_law_371 : decode cL_law 371 = .ok (.ireturn, 1) := by decide +kernel
theorem dL_law_372 : decode cL_law 372 = .ok (.aload_n 1, 1) := by decide +kernel
theorem dL_law_373 : decode cL_law 373 = .ok (.aload_n 0, 1) := by decide +kernel
theorem dL_law_374 : decode cL_law 374 = .ok (.iload_n 3, 1) := by decide +kernel
theorem dL_law_375 : decode cL_law 375 = .ok (.iconst 1, 1) := by decide +kernel
theorem dL_law_376 : decode cL_law 376 = .ok (.iadd, 1) := by decide +kernel
theorem dL_law_377 : decode cL_law 377 = .ok (.iaload, 1) := by decide +kernel
theorem dL_law_378 : decode cL_law 378 = .ok (.aload_n 0, 1) := by decide +kernel
theorem dL_law_379 : decode cL_law 379 = .ok (.iload_n 3, 1) := by decide +kernel
theorem dL_law_380 : decode cL_law 380 = .ok (.iconst 2, 1) := by decide +kernel
theorem dL_law_381 : decode cL_law 381 = .ok (.iadd, 1) := by decide +kernel
theorem dL_law_382 : decode cL_law 382 = .ok (.iaload, 1) := by decide +kernel
theorem dL_law_383 : decode cL_law 383 = .ok (.invokevirtual 60, 3) := by decide +kernel
theorem dL_law_386 : decode cL_law 386 = .ok (.aload_n 2, 1) := by decide +kernel
theorem dL_law_387 : decode cL_law 387 = .ok (.aload_n 0, 1) := by decide +kernel
theorem dL_law_388 : decode cL_law 388 = .ok (.iload_n 3, 1) := by decide +kernel
theorem dL_law_389 : decode cL_law 389 = .ok (.iconst 1, 1) := by decide +kernel
theorem dL_law_390 : decode cL_law 390 = .ok (.iadd, 1) := by decide +kernel
theorem dL_law_391 : decode cL_law 391 = .ok (.iaload, 1) := by decide +kernel
theorem dL_law_392 : decode cL_law 392 = .ok (.aload_n 0, 1) := by decide +kernel
theorem dL_law_393 : decode cL_law 393 = .ok (.iload_n 3, 1) := by decide +kernel
theorem dL_law_394 : decode cL_law 394 = .ok (.iconst 2, 1) := by decide +kernel
theorem dL_law_395 : decode cL_law 395 = .ok (.iadd, 1) := by decide +kernel
theorem dL_law_396 : decode cL_law 396 = .ok (.iaload, 1) := by decide +kernel
theorem dL_law_397 : decode cL_law 397 = .ok (.invokevirtual 63, 3) := by decide +kernel
theorem dL_law_400 : decode cL_law 400 = .ok (.lcmp, 1) := by decide +kernel
theorem dL_law_401 : decode cL_law 401 = .ok (.ifCond .eq 41, 3) := by decide +kernel
theorem dL_law_404 : decode cL_law 404 = .ok (.iconst 0, 1) := by decide +kernel
theorem dL_law_405 : decode cL_law 405 = .ok (.ireturn, 1) := by decide +kernel
theorem dL_law_406 : decode cL_law 406 = .ok (.aload_n 1, 1) := by decide +kernel
theorem dL_law_407 : decode cL_law 407 = .ok (.aload_n 0, 1) := by decide +kernel
theorem dL_law_408 : decode cL_law 408 = .ok (.iload_n 3, 1) := by decide +kernel
theorem dL_law_409 : decode cL_law 409 = .ok (.iconst 1, 1) := by decide +kernel
theorem dL_law_410 : decode cL_law 410 = .ok (.iadd, 1) := by decide +kernel
theorem dL_law_411 : decode cL_law 411 = .ok (.iaload, 1) := by decide +kernel
theorem dL_law_412 : decode cL_law 412 = .ok (.invokevirtual 64, 3) := by decide +kernel
theorem dL_law_415 : decode cL_law 415 = .ok (.aload_n 2, 1) := by decide +kernel
theorem dL_law_416 : decode cL_law 416 = .ok (.aload_n 0, 1) := by decide +kernel
theorem dL_law_417 : decode cL_law 417 = .ok (.iload_n 3, 1) := by decide +kernel
theorem dL_law_418 : decode cL_law 418 = .ok (.iconst 1, 1) := by decide +kernel
theorem dL_law_419 : decode cL_law 419 = .ok (.iadd, 1) := by decide +kernel
theorem dL_law_420 : decode cL_law 420 = .ok (.iaload, 1) := by decide +kernel
theorem dL_law_421 : decode cL_law 421 = .ok (.invokevirtual 67, 3) := by decide +kernel
theorem dL_law_424 : decode cL_law 424 = .ok (.if_icmp .eq 18, 3) := by decide +kernel
theorem dL_law_427 : decode cL_law 427 = .ok (.iconst 0, 1) := by decide +kernel
theorem dL_law_428 : decode cL_law 428 = .ok (.ireturn, 1) := by decide +kernel
theorem dL_law_429 : decode cL_law 429 = .ok (.aload_n 1, 1) := by decide +kernel
theorem dL_law_430 : decode cL_law 430 = .ok (.invokevirtual 68, 3) := by decide +kernel
theorem dL_law_433 : decode cL_law 433 = .ok (.aload_n 2, 1) := by decide +kernel
theorem dL_law_434 : decode cL_law 434 = .ok (.invokevirtual 71, 3) := by decide +kernel
theorem dL_law_437 : decode cL_law 437 = .ok (.if_icmp .eq 5, 3) := by decide +kernel
theorem dL_law_440 : decode cL_law 440 = .ok (.iconst 0, 1) := by decide +kernel
theorem dL_law_441 : decode cL_law 441 = .ok (.ireturn, 1) := by decide +kernel
theorem dL_law_442 : decode cL_law 442 = .ok (.iinc 3 4, 3) := by decide +kernel
theorem dL_law_445 : decode cL_law 445 = .ok (.goto (-427), 3) := by decide +kernel
theorem dL_law_448 : decode cL_law 448 = .ok (.iconst 1, 1) := by decide +kernel
theorem dL_law_449 : decode cL_law 449 = .ok (.ireturn, 1) := by decide +kernel
end
section
/-! ===== BASE: worlds as maps over a range, contracts with one world, calls without cutting ===== -/
set_option maxRecDepth 100000
abbrev kCl : List vw_C := [(RX0, TX0, 19), (RX1, TX1, 1), (RX2, TX2, 2), (RX3, TX3, 7)]
/-- the words of the nest, which do not ride in the lists -/
def kNst (U : State) : Prop := va_Nw (.methodLinkNest "LadderDesk" 18 yX1_init "LadderDesk") U ∧ va_Nw (.methodLinkNest "LadderDesk" 25 yX2_init "LadderDesk") U ∧ va_Nw (.fieldLinkNest "LadderDesk" 71 "LadderDesk$Number" "parts" "[J" "LadderDesk") U ∧ va_Nw (.fieldLinkNest "LadderDesk$Products" 15 "LadderDesk$Number" "parts" "[J" "LadderDesk") U
theorem kNst.warm {s U : State} (hW : s.WarmedH U.vm) (h : kNst s) : kNst U := ⟨va_Nw.warmM hW h.1, va_Nw.warmM hW h.2.1, va_Nw.warmF hW h.2.2.1, va_Nw.warmF hW h.2.2.2⟩
theorem kNst.same {u U : State} (hv : u.vm = U.vm) (h : kNst u) : kNst U := ⟨va_Nw.same rfl hv h.1, va_Nw.same rfl hv h.2.1, va_Nw.same rfl hv h.2.2.1, va_Nw.same rfl hv h.2.2.2⟩
abbrev kT (cJ cI : ClassId) : List (ClassId × FieldType) := [(cJ, .long), (cI, .int)]
def kK (G : va_G) (cJ cI : ClassId) (U : State) : Prop := va_K G kCl (kT cJ cI) U ∧ kNst U
theorem kK.warm {G : va_G} {cJ cI : ClassId} {s U : State} (hW : s.WarmedH U.vm) (h : kK G cJ cI s) : kK G cJ cI U := ⟨va_K.moved hW.alike h.1, h.2.warm hW⟩
theorem kK.call {G : va_G} {cJ cI : ClassId} {U : State} {g : JFrame} {mk : MethodId} {a : Array Value} (h : kK G cJ cI U) : kK G cJ cI (U.calling g mk a) := ⟨va_K.moved (u := U) (U := U.calling g mk a) (Vm.Alike.refl U.vm) h.1, h.2.same (u := U) (U := U.calling g mk a) rfl⟩
/-- a contract's start: one world w, all of it the callee's -/
def kPre (G : va_G) (cJ cI : ClassId) (av : List Value) (w : va_W) (sz : Nat) : Array Value → State → Prop := va_Pc av (fun U => U.heap.size = sz ∧ va_P G kCl w U.heap ∧ kK G cJ cI U ∧ va_D (fun _ => True) w)
def kB {S : Type} (G : va_G) (w2 : S → va_W) (A : Nat → Prop) (u : S) (t : State) : Prop := va_P G kCl (w2 u) t.heap ∧ va_D A (w2 u)
theorem kPre.blind {G : va_G} {cJ cI : ClassId} {av : List Value} {w : va_W} {sz : Nat} : FrameBlind (kPre G cJ cI av w sz) := by
  intro a U g mk q
  obtain ⟨q0, q1, qP, qK, qD⟩ := q
  exact ⟨q0, q1, qP, qK.call, qD⟩
abbrev kMv (l : Launch) (y : MethodName) (cc : ByteArray) (nL : Nat) (rm : Room) (G : va_G) (cJ cI : ClassId) (av : List Value) (w : va_W) (sz : Nat) {S : Type} (post : S → Prop) (w2 : S → va_W) : Prop := Met l y (ws_ y cc nL none) rm (kPre G cJ cI av w sz) (va_Qv post (kB G w2 (va_A w sz)) (va_A w sz)) 0 0 (va_A w sz)
abbrev kMi (l : Launch) (y : MethodName) (cc : ByteArray) (nL : Nat) (ty : FieldType) (rm : Room) (G : va_G) (cJ cI : ClassId) (av : List Value) (w : va_W) (sz : Nat) {S : Type} (post : Int32 → S → Prop) (w2 : S → va_W) : Prop := Met l y (ws_ y cc nL (some ty)) rm (kPre G cJ cI av w sz) (va_Qi post (kB G w2 (va_A w sz)) (va_A w sz)) 0 0 (va_A w sz)
abbrev kMl (l : Launch) (y : MethodName) (cc : ByteArray) (nL : Nat) (rm : Room) (G : va_G) (cJ cI : ClassId) (av : List Value) (w : va_W) (sz : Nat) {S : Type} (post : Int64 → S → Prop) (w2 : S → va_W) : Prop := Met l y (ws_ y cc nL (some .long)) rm (kPre G cJ cI av w sz) (va_Ql post (kB G w2 (va_A w sz)) (va_A w sz)) 0 0 (va_A w sz)
/-- an answer that is a cell of the world: where it is, r says -/
abbrev kMr (l : Launch) (y : MethodName) (cc : ByteArray) (nL : Nat) (ty : FieldType) (rm : Room) (G : va_G) (cJ cI : ClassId) (av : List Value) (w : va_W) (sz : Nat) (r : Nat) : Prop := Met l y (ws_ y cc nL (some ty)) rm (kPre G cJ cI av w sz) (va_Qr (fun _ : Unit => True) (fun _ a t => a = r ∧ kB G (fun _ : Unit => w) (va_A w sz) () t) (va_A w sz)) 0 0 (va_A w sz)
/-- what stands still in a method -/
def kF (p : Program) (m : MethodId) (c : Code) (cc : ByteArray) (nL : Nat) (s : State) (args : Array Value) (own : String) (G : va_G) (cJ cI : ClassId) : Prop := CallFix p m c cc nL s args lw_all own ∧ kK G cJ cI s
/-- what moves -/
def kW (G : va_G) (A : Nat → Prop) (s : State) (H : Heap) (locs : List Loc) (w : va_W) : Prop := va_P G kCl w H ∧ va_D A w ∧ va_S A s.heap H locs
theorem kStart {l : Launch} {y : MethodName} {cc : ByteArray} {nL : Nat} {ret : Option FieldType} {rm : Room} {G : va_G} {cJ cI : ClassId} {av : List Value} {w : va_W} {sz : Nat} {Qc : Array Value → State → Outcome → State → Prop} {mc ms : Nat} (hy : plainName y.cls = true) (hlen : (lg_sl av).length ≤ nL)
    (body : ∀ (p : Program) (e : Env) (s : State) (m : MethodId) (below : List Frame) (meth : Method) (c : Code) (ls : Array Slot), kF p m c cc nL s av.toArray y.cls G cJ cI → meth.sig.returnType = ret → meth.locks = false → meth.name = y.name → s.heap.size = sz → (∀ q : Nat, s.heap.size ≤ q → va_A w sz q) → kW G (va_A w sz) s s.heap [] w → lv_has ls nL (lv_args 0 av) → W p l e rm s m av.toArray below meth c s.heap [] 0 0 (MQ below Qc av.toArray s mc ms (va_A w sz)) (F0 m 0 ls [])) :
    Met l y (ws_ y cc nL ret) rm (kPre G cJ cI av w sz) Qc mc ms (va_A w sz) := by
  refine Met.ofW (cc := cc) (maxL := nL) (ret := ret) hy rfl ?_
  intro p e s m args below meth c s₁ B hml hv
  obtain ⟨rfl, hsz, hP, hK, hD0⟩ := hv
  have hts := atoms_spec (ws := ws_ y cc nL ret) B.pre
  have hts : ∀ w ∈ lw_all, w.before _ s = true := fun w h => hts w (List.mem_cons_of_mem _ h)
  have hown : s.vm.findClass y.cls = some m.cls := findClass_of_methodNamed B.named
  have hl := lv_entry av (n := nL) hlen
  rw [lg_entry_eq]
  exact body p e s m below meth c _ ⟨⟨B.exec, B.bytes, hml, hown, hts⟩, hK⟩ B.returns B.notSynchronized (name_of_methodNamed B.named B.method).1 hsz (fun q h => Or.inr (by rw [← hsz]; exact h)) ⟨hP, hD0.self, va_S.rf⟩ hl
section KR
variable {p : Program} {l : Launch} {e : Env} {R : Room} {s : State} {m : MethodId} {args : Array Value} {below : List Frame} {meth : Method} {c : Code} {H : Heap} {locs : List Loc} {cells slots : Nat} {Q : State → Prop}
variable {cc : ByteArray} {nL : Nat} {pc : Nat} {ls : Array Slot} {rest : List Value} {G : va_G} {cJ cI : ClassId} {A : Nat → Prop} {own : String} {w : va_W}
theorem kVret {S : Type} {post : S → Prop} {w2 : S → va_W} (F : kF p m c cc nL s args own G cJ cI) (hr : meth.sig.returnType = none) (hlocks : meth.locks = false) (u : S) (hw : kW G A s H locs (w2 u)) (hp : post u) (hdg : decode cc pc = .ok (.return_, 1)) : W p l e R s m args below meth c H locs cells slots (MQ below (va_Qv post (kB G w2 A) A) args s cells slots A) (F0 m pc ls []) :=
  W.vret F.1.1 F.1.2.1 hr (fun t ht hW => ⟨⟨u, rfl, hp, by rw [ht]; exact hw.1, hw.2.1⟩, hw.2.2.F ht⟩) hw.2.2.2.2 hdg hlocks
theorem kIret {S : Type} {post : Int32 → S → Prop} {w2 : S → va_W} {v : Int32} (F : kF p m c cc nL s args own G cJ cI) (hr : meth.sig.returnType = some .int) (hlocks : meth.locks = false) (u : S) (hw : kW G A s H locs (w2 u)) (hp : post v u) (hdg : decode cc pc = .ok (.ireturn, 1)) : W p l e R s m args below meth c H locs cells slots (MQ below (va_Qi post (kB G w2 A) A) args s cells slots A) (F0 m pc ls [.int v]) :=
  W.iret F.1.1 F.1.2.1 hr (fun t ht hW => ⟨⟨v, u, rfl, hp, by rw [ht]; exact hw.1, hw.2.1⟩, hw.2.2.F ht⟩) hw.2.2.2.2 hdg hlocks
theorem kZret {S : Type} {post : Int32 → S → Prop} {w2 : S → va_W} {v : Int32} (F : kF p m c cc nL s args own G cJ cI) (hr : meth.sig.returnType = some .boolean) (hlocks : meth.locks = false) (hn : narrow .boolean (.int v) = .int v) (u : S) (hw : kW G A s H locs (w2 u)) (hp : post v u) (hdg : decode cc pc = .ok (.ireturn, 1)) : W p l e R s m args below meth c H locs cells slots (MQ below (va_Qi post (kB G w2 A) A) args s cells slots A) (F0 m pc ls [.int v]) :=
  W.zret F.1.1 F.1.2.1 hr hn (fun t ht hW => ⟨⟨v, u, rfl, hp, by rw [ht]; exact hw.1, hw.2.1⟩, hw.2.2.F ht⟩) hw.2.2.2.2 hdg hlocks
theorem kLret {S : Type} {post : Int64 → S → Prop} {w2 : S → va_W} {v : Int64} (F : kF p m c cc nL s args own G cJ cI) (hr : meth.sig.returnType = some .long) (hlocks : meth.locks = false) (u : S) (hw : kW G A s H locs (w2 u)) (hp : post v u) (hdg : decode cc pc = .ok (.lreturn, 1)) : W p l e R s m args below meth c H locs cells slots (MQ below (va_Ql post (kB G w2 A) A) args s cells slots A) (F0 m pc ls [.long v]) :=
  W.lret F.1.1 F.1.2.1 hr (fun t ht hW => ⟨⟨v, u, rfl, hp, by rw [ht]; exact hw.1, hw.2.1⟩, hw.2.2.F ht⟩) hw.2.2.2.2 hdg hlocks
theorem kRret {r : Nat} {w : va_W} {nm : String} (F : kF p m c cc nL s args own G cJ cI) (hr : meth.sig.returnType = some (.object nm)) (hlocks : meth.locks = false) (hw : kW G A s H locs w) (hdg : decode cc pc = .ok (.areturn, 1)) : W p l e R s m args below meth c H locs cells slots (MQ below (va_Qr (fun _ : Unit => True) (fun _ a t => a = r ∧ kB G (fun _ : Unit => w) A () t) A) args s cells slots A) (F0 m pc ls [.ref r]) :=
  W.aret F.1.1 F.1.2.1 hr (Or.inl ⟨nm, rfl⟩) (Or.inr ⟨r, rfl⟩) (fun t ht hW => ⟨⟨(), r, rfl, trivial, rfl, by rw [ht]; exact hw.1, hw.2.1⟩, hw.2.2.F ht⟩) hw.2.2.2.2 hdg hlocks
/-- the callee's cells are the caller's -/
theorem kW.free (hA : ∀ q : Nat, s.heap.size ≤ q → A q) (hw : kW G A s H locs w) : ∀ q, va_A w H.size q → A q := by
  intro q h
  rcases h with ⟨k, e, h⟩ | h
  · exact hw.2.1.2 k (q, e) h
  · exact hA q (Nat.le_trans hw.2.2.1 h)
theorem kW.pre (F : kF p m c cc nL s args own G cJ cI) (hw : kW G A s H locs w) (av : List Value) : ∀ U : State, U.heap = H → s.WarmedH U.vm → kPre G cJ cI av w H.size av.toArray U := fun U hU hW => ⟨rfl, by rw [hU], by rw [hU]; exact hw.1, F.2.warm hW, hw.2.1.weaken (fun _ _ _ _ => trivial)⟩
/-- the receiver: a cell of the world, of the class C -/
def kRc (w : va_W) (b : Nat) (C : String) : Prop := ∃ (q0 ci : Nat) (fs : List Value) (q : vw_C), w[q0]? = some (b, .inr (ci, fs)) ∧ kCl[ci]? = some q ∧ q.1 = C
theorem kW.recv {b : Nat} {C : String} (F : kF p m c cc nL s args own G cJ cI) (hw : kW G A s H locs w) (h : kRc w b C) : ∃ cell : Cell, H[b]? = some cell ∧ cell.vm.isStatics = false ∧ s.vm.findClass C = some cell.cls := by
  obtain ⟨q0, ci, fs, q, h1, h2, rfl⟩ := h
  exact va_recv F.2.1 hw.1 h2 h1
variable {y : MethodName} {cy : ByteArray} {ny n index : Nat} {rm : Room} {C : String} {b : Nat} {As st0 : List Value}
theorem kCv {S : Type} {post : S → Prop} {w2 : S → va_W} (F : kF p m c cc nL s args own G cJ cI) (hw : kW G A s H locs w) (hA : ∀ q : Nat, s.heap.size ≤ q → A q) (hM : kMv l y cy ny rm G cJ cI (.ref b :: As) w H.size post w2) (cw : CallW R s args own C index y cy ny none (ws_ y cy ny none) rm 0 0 n) (hrc : kRc w b C) (hn : As.length = n) (hls : ls.size = nL) (hst : st0 = As.reverse ++ .ref b :: rest) (hroom : (rest.map fun v => v.category).sum ≤ 8) (hdg : decode cc pc = .ok (.invokevirtual index, 3)) (hf : cells ≤ R.cells ∧ slots ≤ R.slots)
    (kk : ∀ (u : S) (H1 : Heap) (locs1 : List Loc), post u → kW G A s H1 locs1 (w2 u) → W p l e R s m args below meth c H1 locs1 cells slots Q (F0 m (pc + 3) ls rest)) : W p l e R s m args below meth c H locs cells slots Q (F0 m pc ls st0) := by
  refine va_callv (va_runV (As := As) (rest := rest) F.1 hM cw ⟨kPre.blind, hw.recv F hrc, hw.pre F _⟩ rfl hn hls hst (lv_room (m := m) (pc := pc) (ls := ls) (rest := st0) hroom) hdg hf) hw.2.2 (fun q _ h => hw.free hA q h) (hw.free hA) (fun u t H1 locs1 ht hvm hp hB hz hk hS => ?_)
  refine kk u H1 locs1 hp ⟨by rw [← ht]; exact hB.1, hB.2.weaken (fun _ q _ h => hw.free hA q.1 h), hS⟩
theorem kCi {S : Type} {ty : FieldType} {post : Int32 → S → Prop} {w2 : S → va_W} (F : kF p m c cc nL s args own G cJ cI) (hw : kW G A s H locs w) (hA : ∀ q : Nat, s.heap.size ≤ q → A q) (hM : kMi l y cy ny ty rm G cJ cI (.ref b :: As) w H.size post w2) (cw : CallW R s args own C index y cy ny (some ty) (ws_ y cy ny (some ty)) rm 0 0 n) (hrc : kRc w b C) (hn : As.length = n) (hls : ls.size = nL) (hst : st0 = As.reverse ++ .ref b :: rest) (hroom : (rest.map fun v => v.category).sum ≤ 8) (hdg : decode cc pc = .ok (.invokevirtual index, 3)) (hf : cells ≤ R.cells ∧ slots ≤ R.slots)
    (kk : ∀ (r : Int32) (u : S) (H1 : Heap) (locs1 : List Loc), post r u → kW G A s H1 locs1 (w2 u) → W p l e R s m args below meth c H1 locs1 cells slots Q (F0 m (pc + 3) ls (.int r :: rest))) : W p l e R s m args below meth c H locs cells slots Q (F0 m pc ls st0) := by
  refine va_calli (va_runV (As := As) (rest := rest) F.1 hM cw ⟨kPre.blind, hw.recv F hrc, hw.pre F _⟩ rfl hn hls hst (lv_room (m := m) (pc := pc) (ls := ls) (rest := st0) hroom) hdg hf) hw.2.2 (fun q _ h => hw.free hA q h) (hw.free hA) (fun r u t H1 locs1 ht hvm hp hB hz hk hS => ?_)
  refine kk r u H1 locs1 hp ⟨by rw [← ht]; exact hB.1, hB.2.weaken (fun _ q _ h => hw.free hA q.1 h), hS⟩
theorem kCl_ {S : Type} {post : Int64 → S → Prop} {w2 : S → va_W} (F : kF p m c cc nL s args own G cJ cI) (hw : kW G A s H locs w) (hA : ∀ q : Nat, s.heap.size ≤ q → A q) (hM : kMl l y cy ny rm G cJ cI (.ref b :: As) w H.size post w2) (cw : CallW R s args own C index y cy ny (some .long) (ws_ y cy ny (some .long)) rm 0 0 n) (hrc : kRc w b C) (hn : As.length = n) (hls : ls.size = nL) (hst : st0 = As.reverse ++ .ref b :: rest) (hroom : (rest.map fun v => v.category).sum ≤ 8) (hdg : decode cc pc = .ok (.invokevirtual index, 3)) (hf : cells ≤ R.cells ∧ slots ≤ R.slots)
    (kk : ∀ (r : Int64) (u : S) (H1 : Heap) (locs1 : List Loc), post r u → kW G A s H1 locs1 (w2 u) → W p l e R s m args below meth c H1 locs1 cells slots Q (F0 m (pc + 3) ls (.long r :: rest))) : W p l e R s m args below meth c H locs cells slots Q (F0 m pc ls st0) := by
  refine va_calll (va_runV (As := As) (rest := rest) F.1 hM cw ⟨kPre.blind, hw.recv F hrc, hw.pre F _⟩ rfl hn hls hst (lv_room (m := m) (pc := pc) (ls := ls) (rest := st0) hroom) hdg hf) hw.2.2 (fun q _ h => hw.free hA q h) (hw.free hA) (fun r u t H1 locs1 ht hvm hp hB hz hk hS => ?_)
  refine kk r u H1 locs1 hp ⟨by rw [← ht]; exact hB.1, hB.2.weaken (fun _ q _ h => hw.free hA q.1 h), hS⟩
theorem kCr {ty : FieldType} {r : Nat} (F : kF p m c cc nL s args own G cJ cI) (hw : kW G A s H locs w) (hA : ∀ q : Nat, s.heap.size ≤ q → A q) (hM : kMr l y cy ny ty rm G cJ cI (.ref b :: As) w H.size r) (cw : CallW R s args own C index y cy ny (some ty) (ws_ y cy ny (some ty)) rm 0 0 n) (hrc : kRc w b C) (hn : As.length = n) (hls : ls.size = nL) (hst : st0 = As.reverse ++ .ref b :: rest) (hroom : (rest.map fun v => v.category).sum ≤ 8) (hdg : decode cc pc = .ok (.invokevirtual index, 3)) (hf : cells ≤ R.cells ∧ slots ≤ R.slots)
    (kk : ∀ (H1 : Heap) (locs1 : List Loc), kW G A s H1 locs1 w → W p l e R s m args below meth c H1 locs1 cells slots Q (F0 m (pc + 3) ls (.ref r :: rest))) : W p l e R s m args below meth c H locs cells slots Q (F0 m pc ls st0) := by
  refine va_callr (va_runV (As := As) (rest := rest) F.1 hM cw ⟨kPre.blind, hw.recv F hrc, hw.pre F _⟩ rfl hn hls hst (lv_room (m := m) (pc := pc) (ls := ls) (rest := st0) hroom) hdg hf) hw.2.2 (fun q _ h => hw.free hA q h) (hw.free hA) (fun u a t H1 locs1 ht hvm hp hB hz hk hS => ?_)
  obtain ⟨rfl, hB⟩ := hB
  refine kk H1 locs1 ⟨by rw [← ht]; exact hB.1, hB.2.weaken (fun _ q _ h => hw.free hA q.1 h), hS⟩
/-- a static call that answers an int (or a boolean) -/
theorem kCSi {S : Type} {ty : FieldType} {post : Int32 → S → Prop} {w2 : S → va_W} (F : kF p m c cc nL s args own G cJ cI) (hw : kW G A s H locs w) (hA : ∀ q : Nat, s.heap.size ≤ q → A q) (hM : kMi l y cy ny ty rm G cJ cI As w H.size post w2) (cw : CallB R s args own index y cy ny (some ty) (ws_ y cy ny (some ty)) rm 0 0 n ∧ (Cond.static y).before args s = true) (hn : As.length = n) (hls : ls.size = nL) (hst : st0 = As.reverse ++ rest) (hroom : (rest.map fun v => v.category).sum ≤ 8) (hdg : decode cc pc = .ok (.invokestatic index, 3)) (hf : cells ≤ R.cells ∧ slots ≤ R.slots)
    (kk : ∀ (r : Int32) (u : S) (H1 : Heap) (locs1 : List Loc), post r u → kW G A s H1 locs1 (w2 u) → W p l e R s m args below meth c H1 locs1 cells slots Q (F0 m (pc + 3) ls (.int r :: rest))) : W p l e R s m args below meth c H locs cells slots Q (F0 m pc ls st0) := by
  refine va_calli (va_runS (As := As) (rest := rest) F.1 hM cw ⟨kPre.blind, hw.pre F _⟩ rfl hn hls hst (lv_room (m := m) (pc := pc) (ls := ls) (rest := st0) hroom) hdg hf) hw.2.2 (fun q _ h => hw.free hA q h) (hw.free hA) (fun r u t H1 locs1 ht hvm hp hB hz hk hS => ?_)
  refine kk r u H1 locs1 hp ⟨by rw [← ht]; exact hB.1, hB.2.weaken (fun _ q _ h => hw.free hA q.1 h), hS⟩
/-- the top of the stack, written otherwise -/
theorem kTi {x y : Int32} (h : x = y) (k : W p l e R s m args below meth c H locs cells slots Q (F0 m pc ls (.int y :: rest))) : W p l e R s m args below meth c H locs cells slots Q (F0 m pc ls (.int x :: rest)) := by rw [h]; exact k
theorem kTl {x y : Int64} (h : x = y) (k : W p l e R s m args below meth c H locs cells slots Q (F0 m pc ls (.long y :: rest))) : W p l e R s m args below meth c H locs cells slots Q (F0 m pc ls (.long x :: rest)) := by rw [h]; exact k
end KR
/-! ===== worlds over a range ===== -/
def wl (n : Nat) (f : Nat → Nat × va_E) : va_W := (List.range n).map f
theorem wl_at {n k : Nat} {f : Nat → Nat × va_E} (h : k < n) : (wl n f)[k]? = some (f k) := by
  unfold wl
  rw [List.getElem?_map, List.getElem?_range h]
  rfl
theorem wl_set {n k : Nat} {f : Nat → Nat × va_E} {v : Nat × va_E} : (wl n f).set k v = wl n (va_up f k v) := by
  unfold wl
  apply List.ext_getElem?
  intro j
  by_cases hj : j < n
  · by_cases hk : j = k
    · subst hk
      rw [List.getElem?_set_self (by simpa using hj), List.getElem?_map, List.getElem?_range hj]
      simp [va_up]
    · rw [List.getElem?_set_ne (Ne.symm hk), List.getElem?_map, List.getElem?_map, List.getElem?_range hj]
      simp [va_up, hk]
  · rw [List.getElem?_eq_none (by simpa using hj), List.getElem?_eq_none (by simpa using hj)]
section KA
variable {p : Program} {l : Launch} {e : Env} {R : Room} {s : State} {m : MethodId} {args : Array Value} {below : List Frame} {meth : Method} {c : Code} {H : Heap} {locs : List Loc} {cells slots : Nat} {Q : State → Prop}
variable {cc : ByteArray} {nL : Nat} {pc : Nat} {ls : Array Slot} {rest : List Value} {G : va_G} {cJ cI : ClassId} {A : Nat → Prop} {own : String} {n : Nat} {f : Nat → Nat × va_E}
theorem kLdJ (F : kF p m c cc nL s args own G cJ cI) (hw : kW G A s H locs (wl n f)) (k : Nat) (hk : k < n) {a N : Nat} {g : Nat → Int64} (hf : f k = (a, .inl (cJ, N, .inr (.inl g)))) {x : Int32} {j : Nat} (hx : x = nI j) (hj : j < N) (hN : N < 2 ^ 31) (hdg : decode cc pc = .ok (.laload, 1))
    (kk : W p l e R s m args below meth c H locs cells slots Q (F0 m (pc + 1) ls (.long (g j) :: rest))) : W p l e R s m args below meth c H locs cells slots Q (F0 m pc ls (.int x :: .ref a :: rest)) := by
  subst hx
  refine va_lald F.1.1 F.1.2.1 F.2.1 hw.1 k 0 (by rw [wl_at hk, hf]) rfl (vp_in_nI hj hN) hdg ?_
  rw [nI_clamp (Nat.lt_trans hj hN)]
  exact kk
theorem kStJ (F : kF p m c cc nL s args own G cJ cI) (hw : kW G A s H locs (wl n f)) (k : Nat) (hk : k < n) {a N : Nat} {g : Nat → Int64} (hf : f k = (a, .inl (cJ, N, .inr (.inl g)))) {x : Int32} {j : Nat} {v : Int64} (hx : x = nI j) (hj : j < N) (hN : N < 2 ^ 31) (hdg : decode cc pc = .ok (.lastore, 1))
    (kk : ∀ (H1 : Heap) (locs1 : List Loc), kW G A s H1 locs1 (wl n (va_up f k (a, .inl (cJ, N, .inr (.inl (vp_updL g j v)))))) → W p l e R s m args below meth c H1 locs1 cells slots Q (F0 m (pc + 1) ls rest)) : W p l e R s m args below meth c H locs cells slots Q (F0 m pc ls (.long v :: .int x :: .ref a :: rest)) := by
  subst hx
  refine va_last F.1.1 F.1.2.1 F.2.1 hw.1 hw.2.1 hw.2.2 k 0 (by rw [wl_at hk, hf]) rfl (vp_in_nI hj hN) hdg (fun H1 locs1 hP hD hS => ?_)
  rw [nI_clamp (Nat.lt_trans hj hN), wl_set] at hP hD
  exact kk H1 locs1 ⟨hP, hD, hS⟩
theorem kLdI (F : kF p m c cc nL s args own G cJ cI) (hw : kW G A s H locs (wl n f)) (k : Nat) (hk : k < n) {a N : Nat} {g : Nat → Int32} (hf : f k = (a, .inl (cI, N, .inl g))) {x : Int32} {j : Nat} (hx : x = nI j) (hj : j < N) (hN : N < 2 ^ 31) (hdg : decode cc pc = .ok (.iaload, 1))
    (kk : W p l e R s m args below meth c H locs cells slots Q (F0 m (pc + 1) ls (.int (g j) :: rest))) : W p l e R s m args below meth c H locs cells slots Q (F0 m pc ls (.int x :: .ref a :: rest)) := by
  subst hx
  refine va_iald F.1.1 F.1.2.1 F.2.1 hw.1 k 1 (by rw [wl_at hk, hf]) rfl (vp_in_nI hj hN) hdg ?_
  rw [nI_clamp (Nat.lt_trans hj hN)]
  exact kk
theorem kStI (F : kF p m c cc nL s args own G cJ cI) (hw : kW G A s H locs (wl n f)) (k : Nat) (hk : k < n) {a N : Nat} {g : Nat → Int32} (hf : f k = (a, .inl (cI, N, .inl g))) {x : Int32} {j : Nat} {v : Int32} (hx : x = nI j) (hj : j < N) (hN : N < 2 ^ 31) (hdg : decode cc pc = .ok (.iastore, 1))
    (kk : ∀ (H1 : Heap) (locs1 : List Loc), kW G A s H1 locs1 (wl n (va_up f k (a, .inl (cI, N, .inl (upd g j v))))) → W p l e R s m args below meth c H1 locs1 cells slots Q (F0 m (pc + 1) ls rest)) : W p l e R s m args below meth c H locs cells slots Q (F0 m pc ls (.int v :: .int x :: .ref a :: rest)) := by
  subst hx
  refine va_iast F.1.1 F.1.2.1 F.2.1 hw.1 hw.2.1 hw.2.2 k 1 (by rw [wl_at hk, hf]) rfl (vp_in_nI hj hN) hdg (fun H1 locs1 hP hD hS => ?_)
  rw [nI_clamp (Nat.lt_trans hj hN), wl_set] at hP hD
  exact kk H1 locs1 ⟨hP, hD, hS⟩
/-- arraycopy of n longs from the beginning of one to the beginning of another -/
theorem kCpJ (F : kF p m c cc nL s args own G cJ cI) (hls : ls.size = nL) (hw : kW G A s H locs (wl n f)) (k0 k1 : Nat) (hk0 : k0 < n) (hk1 : k1 < n) {a0 a1 N0 N1 : Nat} {g0 g1 : Nat → Int64} (hf0 : f k0 = (a0, .inl (cJ, N0, .inr (.inl g0)))) (hf1 : f k1 = (a1, .inl (cJ, N1, .inr (.inl g1)))) {j : Nat} {idx : Nat} (hl : Cond.methodLink own idx arraycopyName ∈ lw_all) (h0 : j ≤ N0) (h1 : j ≤ N1) (hj : j < 2 ^ 31)
    (hframes : 1 ≤ R.frames) (hlocals : (rest.map fun v => v.category).sum + (nativeFrameWords "java/lang/System" "arraycopy" 5 + 11) ≤ R.locals) (hdg : decode cc pc = .ok (.invokestatic idx, 3))
    (kk : ∀ (H1 : Heap) (locs1 : List Loc), kW G A s H1 locs1 (wl n (va_up f k1 (a1, .inl (cJ, N1, .inr (.inl (va_cpy g0 g1 0 0 j)))))) → W p l e R s m args below meth c H1 locs1 cells slots Q (F0 m (pc + 3) ls rest)) : W p l e R s m args below meth c H locs cells slots Q (F0 m pc ls (.int (nI j) :: .int (nI 0) :: .ref a1 :: .int (nI 0) :: .ref a0 :: rest)) := by
  refine va_copyl F.1.1 F.1.2.1 (F.1.2.2.1.trans hls.symm) F.1.2.2.2.1 (F.1.2.2.2.2 _ hl) (F.1.2.2.2.2 _ q150) (F.1.2.2.2.2 _ q149) (F.1.2.2.2.2 _ q25) F.2.1 hw.1 hw.2.1 hw.2.2 k0 k1 0 0 (by rw [wl_at hk0, hf0]) (by rw [wl_at hk1, hf1]) rfl rfl rfl (nI_pos (by decide)) (nI_pos (by decide)) (nI_pos hj) (by rw [nI_clamp (by decide), nI_clamp hj]; omega) (by rw [nI_clamp (by decide), nI_clamp hj]; omega) (fun i _ => rfl) hframes hlocals hdg (fun H1 locs1 hP hD hS => ?_)
  rw [nI_clamp hj, nI_clamp (by decide), wl_set] at hP hD
  exact kk H1 locs1 ⟨hP, hD, hS⟩
end KA
end
section
/-! ===== the component's world: 44 cells ===== -/
set_option maxRecDepth 100000
/-- the desk's fields -/
def cD (ad : Nat → Nat → Nat) (ph md rs : Int32) : List Value := [.ref (ad 0 1), .ref (ad 0 2), .int ph, .int md, .int rs, .ref (ad 0 3), .ref (ad 1 0), .ref (ad 1 1), .ref (ad 1 2), .ref (ad 1 3), .ref (ad 1 4), .ref (ad 1 5), .ref (ad 1 6), .ref (ad 1 7), .ref (ad 1 8), .ref (ad 1 9), .ref (ad 1 10), .ref (ad 1 11), .ref (ad 1 12)]
/-- cell k: 0 the desk, 1 scalar, 2 point, 3 products, 4 its rows, then object, parts and spare of each number -/
def cF (cJ : ClassId) (ad : Nat → Nat → Nat) (fs : List Value) (P S : Nat → Nat → Int64) (rw sc pt : Nat → Int64) (k : Nat) : Nat × va_E :=
  if k = 0 then (ad 0 0, .inr (0, fs))
  else if k = 1 then (ad 0 1, .inl (cJ, 4, .inr (.inl sc)))
  else if k = 2 then (ad 0 2, .inl (cJ, 4, .inr (.inl pt)))
  else if k = 3 then (ad 0 3, .inr (1, [.ref (ad 0 4)]))
  else if k = 4 then (ad 0 4, .inl (cJ, 31, .inr (.inl rw)))
  else if k % 3 = 2 then (ad 1 ((k - 5) / 3), .inr (2, [.ref (ad 2 ((k - 5) / 3)), .ref (ad 3 ((k - 5) / 3))]))
  else if k % 3 = 0 then (ad 2 ((k - 5) / 3), .inl (cJ, 16, .inr (.inl (P ((k - 5) / 3)))))
  else (ad 3 ((k - 5) / 3), .inl (cJ, 16, .inr (.inl (S ((k - 5) / 3)))))
/-- what is no number: scalar, point, phase, made, results -/
abbrev CX : Type := (Nat → Int64) × (Nat → Int64) × Int32 × Int32 × Int32
abbrev cW (cJ : ClassId) (ad : Nat → Nat → Nat) (P S : Nat → Nat → Int64) (rw : Nat → Int64) (X : CX) : va_W := wl 44 (cF cJ ad (cD ad X.2.2.1 X.2.2.2.1 X.2.2.2.2) P S rw X.1 X.2.1)
section CF
variable {cJ : ClassId} {ad : Nat → Nat → Nat} {fs : List Value} {P S : Nat → Nat → Int64} {rw sc pt : Nat → Int64}
theorem cF_o (i : Nat) : cF cJ ad fs P S rw sc pt (3 * i + 5) = (ad 1 i, .inr (2, [.ref (ad 2 i), .ref (ad 3 i)])) := by
  unfold cF
  rw [if_neg (by omega), if_neg (by omega), if_neg (by omega), if_neg (by omega), if_neg (by omega), if_pos (by omega)]
  rw [show (3 * i + 5 - 5) / 3 = i by omega]
theorem cF_p (i : Nat) : cF cJ ad fs P S rw sc pt (3 * i + 6) = (ad 2 i, .inl (cJ, 16, .inr (.inl (P i)))) := by
  unfold cF
  rw [if_neg (by omega), if_neg (by omega), if_neg (by omega), if_neg (by omega), if_neg (by omega), if_neg (by omega), if_pos (by omega)]
  rw [show (3 * i + 6 - 5) / 3 = i by omega]
theorem cF_s (i : Nat) : cF cJ ad fs P S rw sc pt (3 * i + 7) = (ad 3 i, .inl (cJ, 16, .inr (.inl (S i)))) := by
  unfold cF
  rw [if_neg (by omega), if_neg (by omega), if_neg (by omega), if_neg (by omega), if_neg (by omega), if_neg (by omega), if_neg (by omega)]
  rw [show (3 * i + 7 - 5) / 3 = i by omega]
theorem cF_up_p (i : Nat) (g : Nat → Int64) : va_up (cF cJ ad fs P S rw sc pt) (3 * i + 6) (ad 2 i, .inl (cJ, 16, .inr (.inl g))) = cF cJ ad fs (va_up P i g) S rw sc pt := by
  funext k
  by_cases hk : k = 3 * i + 6
  · subst hk
    rw [va_up_self, cF_p, va_up_self]
  · rw [va_up_ne _ _ hk]
    unfold cF
    by_cases h0 : k = 0
    · rw [if_pos h0, if_pos h0]
    by_cases h1 : k = 1
    · rw [if_neg h0, if_pos h1, if_neg h0, if_pos h1]
    by_cases h2 : k = 2
    · rw [if_neg h0, if_neg h1, if_pos h2, if_neg h0, if_neg h1, if_pos h2]
    by_cases h3 : k = 3
    · rw [if_neg h0, if_neg h1, if_neg h2, if_pos h3, if_neg h0, if_neg h1, if_neg h2, if_pos h3]
    by_cases h4 : k = 4
    · rw [if_neg h0, if_neg h1, if_neg h2, if_neg h3, if_pos h4, if_neg h0, if_neg h1, if_neg h2, if_neg h3, if_pos h4]
    rw [if_neg h0, if_neg h1, if_neg h2, if_neg h3, if_neg h4, if_neg h0, if_neg h1, if_neg h2, if_neg h3, if_neg h4]
    by_cases h5 : k % 3 = 2
    · rw [if_pos h5, if_pos h5]
    by_cases h6 : k % 3 = 0
    · rw [if_neg h5, if_pos h6, if_neg h5, if_pos h6, va_up_ne P g (show (k - 5) / 3 ≠ i by omega)]
    · rw [if_neg h5, if_neg h6, if_neg h5, if_neg h6]
theorem cF_up_s (i : Nat) (g : Nat → Int64) : va_up (cF cJ ad fs P S rw sc pt) (3 * i + 7) (ad 3 i, .inl (cJ, 16, .inr (.inl g))) = cF cJ ad fs P (va_up S i g) rw sc pt := by
  funext k
  by_cases hk : k = 3 * i + 7
  · subst hk
    rw [va_up_self, cF_s, va_up_self]
  · rw [va_up_ne _ _ hk]
    unfold cF
    by_cases h0 : k = 0
    · rw [if_pos h0, if_pos h0]
    by_cases h1 : k = 1
    · rw [if_neg h0, if_pos h1, if_neg h0, if_pos h1]
    by_cases h2 : k = 2
    · rw [if_neg h0, if_neg h1, if_pos h2, if_neg h0, if_neg h1, if_pos h2]
    by_cases h3 : k = 3
    · rw [if_neg h0, if_neg h1, if_neg h2, if_pos h3, if_neg h0, if_neg h1, if_neg h2, if_pos h3]
    by_cases h4 : k = 4
    · rw [if_neg h0, if_neg h1, if_neg h2, if_neg h3, if_pos h4, if_neg h0, if_neg h1, if_neg h2, if_neg h3, if_pos h4]
    rw [if_neg h0, if_neg h1, if_neg h2, if_neg h3, if_neg h4, if_neg h0, if_neg h1, if_neg h2, if_neg h3, if_neg h4]
    by_cases h5 : k % 3 = 2
    · rw [if_pos h5, if_pos h5]
    by_cases h6 : k % 3 = 0
    · rw [if_neg h5, if_pos h6, if_neg h5, if_pos h6]
    · rw [if_neg h5, if_neg h6, if_neg h5, if_neg h6, va_up_ne S g (show (k - 5) / 3 ≠ i by omega)]
theorem cF_up_r (g : Nat → Int64) : va_up (cF cJ ad fs P S rw sc pt) 4 (ad 0 4, .inl (cJ, 31, .inr (.inl g))) = cF cJ ad fs P S g sc pt := by
  funext k
  by_cases hk : k = 4
  · subst hk
    rw [va_up_self]; rfl
  · rw [va_up_ne _ _ hk]
    unfold cF
    simp only [hk, if_false]
theorem cF_up_sc (g : Nat → Int64) : va_up (cF cJ ad fs P S rw sc pt) 1 (ad 0 1, .inl (cJ, 4, .inr (.inl g))) = cF cJ ad fs P S rw g pt := by
  funext k
  by_cases hk : k = 1
  · subst hk
    rw [va_up_self]; rfl
  · rw [va_up_ne _ _ hk]
    unfold cF
    simp only [hk, if_false]
theorem cF_up_pt (g : Nat → Int64) : va_up (cF cJ ad fs P S rw sc pt) 2 (ad 0 2, .inl (cJ, 4, .inr (.inl g))) = cF cJ ad fs P S rw sc g := by
  funext k
  by_cases hk : k = 2
  · subst hk
    rw [va_up_self]; rfl
  · rw [va_up_ne _ _ hk]
    unfold cF
    simp only [hk, if_false]
theorem cF_up_d (fs' : List Value) : va_up (cF cJ ad fs P S rw sc pt) 0 (ad 0 0, .inr (0, fs')) = cF cJ ad fs' P S rw sc pt := by
  funext k
  by_cases hk : k = 0
  · subst hk
    rw [va_up_self]; rfl
  · rw [va_up_ne _ _ hk]
    unfold cF
    simp only [hk, if_false]
end CF
/-! receivers -/
section CR
variable {cJ : ClassId} {ad : Nat → Nat → Nat} {P S : Nat → Nat → Int64} {rw : Nat → Int64} {X : CX}
theorem cRcN (i : Nat) (hi : i < 13) : kRc (cW cJ ad P S rw X) (ad 1 i) RX2 := ⟨3 * i + 5, 2, _, _, by rw [wl_at (by omega), cF_o], rfl, rfl⟩
theorem cRcP : kRc (cW cJ ad P S rw X) (ad 0 3) RX1 := ⟨3, 1, _, _, by rw [wl_at (by omega)]; rfl, rfl, rfl⟩
theorem cRcD : kRc (cW cJ ad P S rw X) (ad 0 0) RX0 := ⟨0, 0, _, _, by rw [wl_at (by omega)]; rfl, rfl, rfl⟩
end CR
/-! rows of the component's world -/
section CG
variable {p : Program} {l : Launch} {e : Env} {R : Room} {s : State} {m : MethodId} {args : Array Value} {below : List Frame} {meth : Method} {c : Code} {H : Heap} {locs : List Loc} {cells slots : Nat} {Q : State → Prop}
variable {cc : ByteArray} {nL : Nat} {pc : Nat} {ls : Array Slot} {rest : List Value} {G : va_G} {cJ cI : ClassId} {A : Nat → Prop} {own : String}
variable {ad : Nat → Nat → Nat} {P S : Nat → Nat → Int64} {rw : Nat → Int64} {X : CX}
theorem kGp (F : kF p m c cc nL s args own G cJ cI) (hw : kW G A s H locs (cW cJ ad P S rw X)) (i : Nat) (hi : i < 13) {idx : Nat} (hl : Cond.fieldLink own idx "LadderDesk$Number" "parts" "[J" ∈ lw_all) (hdg : decode cc pc = .ok (.getfield idx, 3))
    (kk : W p l e R s m args below meth c H locs cells slots Q (F0 m (pc + 3) ls (.ref (ad 2 i) :: rest))) : W p l e R s m args below meth c H locs cells slots Q (F0 m pc ls (.ref (ad 1 i) :: rest)) :=
  va_get (D := G) (ci := 2) (v := .ref (ad 2 i)) (C := RX2) (T := TX2) (N := 2) F.1.1 F.1.2.1 F.1.2.2.2.2 in_X2 F.1.2.2.2.1 F.2.1 hw.1 (3 * i + 5) (by rw [wl_at (by omega), cF_o]) rfl 0 (by decide) (F.1.2.2.2.2 _ hl) (fun _ h9 => h9) rfl hdg kk
theorem kGs (F : kF p m c cc nL s args own G cJ cI) (hw : kW G A s H locs (cW cJ ad P S rw X)) (i : Nat) (hi : i < 13) {idx : Nat} (hl : Cond.fieldLink own idx "LadderDesk$Number" "spare" "[J" ∈ lw_all) (hdg : decode cc pc = .ok (.getfield idx, 3))
    (kk : W p l e R s m args below meth c H locs cells slots Q (F0 m (pc + 3) ls (.ref (ad 3 i) :: rest))) : W p l e R s m args below meth c H locs cells slots Q (F0 m pc ls (.ref (ad 1 i) :: rest)) :=
  va_get (D := G) (ci := 2) (v := .ref (ad 3 i)) (C := RX2) (T := TX2) (N := 2) F.1.1 F.1.2.1 F.1.2.2.2.2 in_X2 F.1.2.2.2.1 F.2.1 hw.1 (3 * i + 5) (by rw [wl_at (by omega), cF_o]) rfl 1 (by decide) (F.1.2.2.2.2 _ hl) (fun _ h9 => h9) rfl hdg kk
/-- the parts, read by a nest mate -/
theorem kGpN (F : kF p m c cc nL s args own G cJ cI) (hw : kW G A s H locs (cW cJ ad P S rw X)) (i : Nat) (hi : i < 13) {idx : Nat} (hl : va_Nw (.fieldLinkNest own idx "LadderDesk$Number" "parts" "[J" "LadderDesk") s) (hdg : decode cc pc = .ok (.getfield idx, 3))
    (kk : W p l e R s m args below meth c H locs cells slots Q (F0 m (pc + 3) ls (.ref (ad 2 i) :: rest))) : W p l e R s m args below meth c H locs cells slots Q (F0 m pc ls (.ref (ad 1 i) :: rest)) :=
  va_getN (D := G) (ci := 2) (v := .ref (ad 2 i)) (C := RX2) (T := TX2) (N := 2) F.1.1 F.1.2.1 F.1.2.2.2.2 in_X2 F.1.2.2.2.1 F.2.1 hw.1 (3 * i + 5) (by rw [wl_at (by omega), cF_o]) rfl 0 (by decide) (va_Nw.use rfl hl) (fun _ h9 => h9) rfl hdg kk
theorem kGr (F : kF p m c cc nL s args own G cJ cI) (hw : kW G A s H locs (cW cJ ad P S rw X)) {idx : Nat} (hl : Cond.fieldLink own idx "LadderDesk$Products" "rows" "[J" ∈ lw_all) (hdg : decode cc pc = .ok (.getfield idx, 3))
    (kk : W p l e R s m args below meth c H locs cells slots Q (F0 m (pc + 3) ls (.ref (ad 0 4) :: rest))) : W p l e R s m args below meth c H locs cells slots Q (F0 m pc ls (.ref (ad 0 3) :: rest)) :=
  va_get (D := G) (ci := 1) (v := .ref (ad 0 4)) (C := RX1) (T := TX1) (N := 1) F.1.1 F.1.2.1 F.1.2.2.2.2 in_X1 F.1.2.2.2.1 F.2.1 hw.1 3 (by rw [wl_at (by omega)]; rfl) rfl 0 (by decide) (F.1.2.2.2.2 _ hl) (fun _ h9 => h9) rfl hdg kk
theorem kGd (F : kF p m c cc nL s args own G cJ cI) (hw : kW G A s H locs (cW cJ ad P S rw X)) (k : Nat) (hk : k < 19) {v : Value} (hv : (cD ad X.2.2.1 X.2.2.2.1 X.2.2.2.2)[k]? = some v) {idx : Nat} (hl : Cond.fieldLink own idx "LadderDesk" (TX0 k).2.1 (TX0 k).2.2.1 ∈ lw_all) (hsame : ∀ x, s.fieldFound? (TX0 k).1 (TX0 k).2.1 (TX0 k).2.2.1 = some x → s.fieldFound? "LadderDesk" (TX0 k).2.1 (TX0 k).2.2.1 = some x) (hdg : decode cc pc = .ok (.getfield idx, 3))
    (kk : W p l e R s m args below meth c H locs cells slots Q (F0 m (pc + 3) ls (v :: rest))) : W p l e R s m args below meth c H locs cells slots Q (F0 m pc ls (.ref (ad 0 0) :: rest)) :=
  va_get (D := G) (ci := 0) (v := v) (C := RX0) (T := TX0) (N := 19) F.1.1 F.1.2.1 F.1.2.2.2.2 in_X0 F.1.2.2.2.1 F.2.1 hw.1 0 (by rw [wl_at (by omega)]; rfl) rfl k hk (F.1.2.2.2.2 _ hl) hsame hv hdg kk
theorem kLp (F : kF p m c cc nL s args own G cJ cI) (hw : kW G A s H locs (cW cJ ad P S rw X)) (i : Nat) (hi : i < 13) {x : Int32} (j : Nat) (hx : x = nI j) (hj : j < 16) (hdg : decode cc pc = .ok (.laload, 1))
    (kk : W p l e R s m args below meth c H locs cells slots Q (F0 m (pc + 1) ls (.long (P i j) :: rest))) : W p l e R s m args below meth c H locs cells slots Q (F0 m pc ls (.int x :: .ref (ad 2 i) :: rest)) :=
  kLdJ F hw (3 * i + 6) (by omega) (cF_p i) hx hj (by decide) hdg kk
/-- parts j of number i of P is x -/
abbrev cS (P : Nat → Nat → Int64) (i j : Nat) (v : Int64) : Nat → Nat → Int64 := va_up P i (vp_updL (P i) j v)
theorem kSp (F : kF p m c cc nL s args own G cJ cI) (hw : kW G A s H locs (cW cJ ad P S rw X)) (i : Nat) (hi : i < 13) {x : Int32} (j : Nat) {v : Int64} (hx : x = nI j) (hj : j < 16) (hdg : decode cc pc = .ok (.lastore, 1))
    (kk : ∀ (H1 : Heap) (locs1 : List Loc), kW G A s H1 locs1 (cW cJ ad (cS P i j v) S rw X) → W p l e R s m args below meth c H1 locs1 cells slots Q (F0 m (pc + 1) ls rest)) : W p l e R s m args below meth c H locs cells slots Q (F0 m pc ls (.long v :: .int x :: .ref (ad 2 i) :: rest)) :=
  kStJ F hw (3 * i + 6) (by omega) (cF_p i) hx hj (by decide) hdg (fun H1 locs1 h => kk H1 locs1 (by rw [cF_up_p] at h; exact h))
theorem kSs (F : kF p m c cc nL s args own G cJ cI) (hw : kW G A s H locs (cW cJ ad P S rw X)) (i : Nat) (hi : i < 13) {x : Int32} (j : Nat) {v : Int64} (hx : x = nI j) (hj : j < 16) (hdg : decode cc pc = .ok (.lastore, 1))
    (kk : ∀ (H1 : Heap) (locs1 : List Loc), kW G A s H1 locs1 (cW cJ ad P (cS S i j v) rw X) → W p l e R s m args below meth c H1 locs1 cells slots Q (F0 m (pc + 1) ls rest)) : W p l e R s m args below meth c H locs cells slots Q (F0 m pc ls (.long v :: .int x :: .ref (ad 3 i) :: rest)) :=
  kStJ F hw (3 * i + 7) (by omega) (cF_s i) hx hj (by decide) hdg (fun H1 locs1 h => kk H1 locs1 (by rw [cF_up_s] at h; exact h))
theorem kLr (F : kF p m c cc nL s args own G cJ cI) (hw : kW G A s H locs (cW cJ ad P S rw X)) {x : Int32} (j : Nat) (hx : x = nI j) (hj : j < 31) (hdg : decode cc pc = .ok (.laload, 1))
    (kk : W p l e R s m args below meth c H locs cells slots Q (F0 m (pc + 1) ls (.long (rw j) :: rest))) : W p l e R s m args below meth c H locs cells slots Q (F0 m pc ls (.int x :: .ref (ad 0 4) :: rest)) :=
  kLdJ F hw 4 (by omega) (N := 31) (g := rw) rfl hx hj (by decide) hdg kk
theorem kSr (F : kF p m c cc nL s args own G cJ cI) (hw : kW G A s H locs (cW cJ ad P S rw X)) {x : Int32} (j : Nat) {v : Int64} (hx : x = nI j) (hj : j < 31) (hdg : decode cc pc = .ok (.lastore, 1))
    (kk : ∀ (H1 : Heap) (locs1 : List Loc), kW G A s H1 locs1 (cW cJ ad P S (vp_updL rw j v) X) → W p l e R s m args below meth c H1 locs1 cells slots Q (F0 m (pc + 1) ls rest)) : W p l e R s m args below meth c H locs cells slots Q (F0 m pc ls (.long v :: .int x :: .ref (ad 0 4) :: rest)) :=
  kStJ F hw 4 (by omega) (N := 31) (g := rw) rfl hx hj (by decide) hdg (fun H1 locs1 h => kk H1 locs1 (by rw [cF_up_r] at h; exact h))
theorem kLc (F : kF p m c cc nL s args own G cJ cI) (hw : kW G A s H locs (cW cJ ad P S rw X)) {x : Int32} (j : Nat) (hx : x = nI j) (hj : j < 4) (hdg : decode cc pc = .ok (.laload, 1))
    (kk : W p l e R s m args below meth c H locs cells slots Q (F0 m (pc + 1) ls (.long (X.1 j) :: rest))) : W p l e R s m args below meth c H locs cells slots Q (F0 m pc ls (.int x :: .ref (ad 0 1) :: rest)) :=
  kLdJ F hw 1 (by omega) (N := 4) (g := X.1) rfl hx hj (by decide) hdg kk
theorem kLt (F : kF p m c cc nL s args own G cJ cI) (hw : kW G A s H locs (cW cJ ad P S rw X)) {x : Int32} (j : Nat) (hx : x = nI j) (hj : j < 4) (hdg : decode cc pc = .ok (.laload, 1))
    (kk : W p l e R s m args below meth c H locs cells slots Q (F0 m (pc + 1) ls (.long (X.2.1 j) :: rest))) : W p l e R s m args below meth c H locs cells slots Q (F0 m pc ls (.int x :: .ref (ad 0 2) :: rest)) :=
  kLdJ F hw 2 (by omega) (N := 4) (g := X.2.1) rfl hx hj (by decide) hdg kk
theorem kSc (F : kF p m c cc nL s args own G cJ cI) (hw : kW G A s H locs (cW cJ ad P S rw X)) {x : Int32} (j : Nat) {v : Int64} (hx : x = nI j) (hj : j < 4) (hdg : decode cc pc = .ok (.lastore, 1))
    (kk : ∀ (H1 : Heap) (locs1 : List Loc), kW G A s H1 locs1 (cW cJ ad P S rw (vp_updL X.1 j v, X.2)) → W p l e R s m args below meth c H1 locs1 cells slots Q (F0 m (pc + 1) ls rest)) : W p l e R s m args below meth c H locs cells slots Q (F0 m pc ls (.long v :: .int x :: .ref (ad 0 1) :: rest)) :=
  kStJ F hw 1 (by omega) (N := 4) (g := X.1) rfl hx hj (by decide) hdg (fun H1 locs1 h => kk H1 locs1 (by rw [cF_up_sc] at h; exact h))
theorem kSt (F : kF p m c cc nL s args own G cJ cI) (hw : kW G A s H locs (cW cJ ad P S rw X)) {x : Int32} (j : Nat) {v : Int64} (hx : x = nI j) (hj : j < 4) (hdg : decode cc pc = .ok (.lastore, 1))
    (kk : ∀ (H1 : Heap) (locs1 : List Loc), kW G A s H1 locs1 (cW cJ ad P S rw (X.1, vp_updL X.2.1 j v, X.2.2)) → W p l e R s m args below meth c H1 locs1 cells slots Q (F0 m (pc + 1) ls rest)) : W p l e R s m args below meth c H locs cells slots Q (F0 m pc ls (.long v :: .int x :: .ref (ad 0 2) :: rest)) :=
  kStJ F hw 2 (by omega) (N := 4) (g := X.2.1) rfl hx hj (by decide) hdg (fun H1 locs1 h => kk H1 locs1 (by rw [cF_up_pt] at h; exact h))
/-- an int field of the desk is put: what the fields become, fs' says -/
theorem kPd (F : kF p m c cc nL s args own G cJ cI) (hw : kW G A s H locs (cW cJ ad P S rw X)) (k : Nat) (hk : k < 19) (hfin : (TX0 k).2.2.2 = false) (hd : parseFieldDescriptor (TX0 k).2.2.1 = some .int) {v : Int32} {idx : Nat} (hl : Cond.fieldLink own idx "LadderDesk" (TX0 k).2.1 (TX0 k).2.2.1 ∈ lw_all) (hsame : ∀ x, s.fieldFound? (TX0 k).1 (TX0 k).2.1 (TX0 k).2.2.1 = some x → s.fieldFound? "LadderDesk" (TX0 k).2.1 (TX0 k).2.2.1 = some x) (hdg : decode cc pc = .ok (.putfield idx, 3)) (X' : CX) (hX1 : X'.1 = X.1) (hX2 : X'.2.1 = X.2.1) (hX : (cD ad X.2.2.1 X.2.2.2.1 X.2.2.2.2).set k (.int v) = cD ad X'.2.2.1 X'.2.2.2.1 X'.2.2.2.2)
    (kk : ∀ (H1 : Heap) (locs1 : List Loc), kW G A s H1 locs1 (cW cJ ad P S rw X') → W p l e R s m args below meth c H1 locs1 cells slots Q (F0 m (pc + 3) ls rest)) : W p l e R s m args below meth c H locs cells slots Q (F0 m pc ls (.int v :: .ref (ad 0 0) :: rest)) :=
  va_put (D := G) (ci := 0) (v := .int v) (ty := .int) (C := RX0) (T := TX0) (N := 19) (fs := cD ad X.2.2.1 X.2.2.2.1 X.2.2.2.2) F.1.1 F.1.2.1 F.1.2.2.2.2 in_X0 tyX0 tyX0_ok nmX0 F.1.2.2.2.1 F.2.1 hw.1 hw.2.1 hw.2.2 0 (by rw [wl_at (by omega)]; rfl) rfl k hk (F.1.2.2.2.2 _ hl) hsame hfin hd rfl rfl hk hdg (fun H1 locs1 hP hD hS => kk H1 locs1 (by
    rw [wl_set, hX, cF_up_d] at hP hD
    rw [← hX1, ← hX2] at hP hD
    exact ⟨hP, hD, hS⟩))
end CG
end
section
/-! ===== pure transformers: what the component's and the model's loops compute, in the machine's own numbers ===== -/
set_option maxRecDepth 100000
def it {α : Type} (st : Nat → α → α) : Nat → α → α
  | 0, x => x
  | n + 1, x => st n (it st n x)
theorem it_0 {α : Type} (st : Nat → α → α) (x : α) : it st 0 x = x := rfl
theorem it_s {α : Type} (st : Nat → α → α) (n : Nat) (x : α) : it st (n + 1) x = st n (it st n x) := rfl
theorem k_lshr16 (x : Int64) : x >>> ((nI 16).toInt64 &&& 63) = x >>> (16 : Int64) := by rw [show (nI 16).toInt64 &&& 63 = (16 : Int64) by decide]
theorem k_lshl16 (x : Int64) : x <<< ((nI 16).toInt64 &&& 63) = x <<< (16 : Int64) := by rw [show (nI 16).toInt64 &&& 63 = (16 : Int64) by decide]
theorem k_lshr15 (x : Int64) : x >>> ((nI 15).toInt64 &&& 63) = x >>> (15 : Int64) := by rw [show (nI 15).toInt64 &&& 63 = (15 : Int64) by decide]
/-- g with its first k places from f -/
def fl {α : Type} (g : Nat → α) (k : Nat) (f : Nat → α) : Nat → α := fun j => if j < k then f j else g j
theorem fl_0 {α : Type} (g f : Nat → α) : fl g 0 f = g := by
  funext j
  simp [fl]
theorem fl_lt {α : Type} {g f : Nat → α} {k j : Nat} (h : j < k) : fl g k f j = f j := by simp [fl, h]
theorem fl_ge {α : Type} {g f : Nat → α} {k j : Nat} (h : ¬ j < k) : fl g k f j = g j := by simp [fl, h]
theorem fl_s (g f : Nat → Int64) (k : Nat) : vp_updL (fl g k f) k (f k) = fl g (k + 1) f := by
  funext j
  by_cases h : j = k
  · subst h
    simp [vp_updL, fl]
  · have e : j < k + 1 ↔ j < k := by omega
    simp [vp_updL, fl, h, e]
theorem fl_cpy (f g : Nat → Int64) (n : Nat) : va_cpy f g 0 0 n = fl g n f := by
  funext j
  by_cases h : j < n <;> simp [va_cpy, fl, h]
theorem fl_congr {g f f' : Nat → Int64} {n : Nat} (h : ∀ j, j < n → f j = f' j) : fl g n f = fl g n f' := by
  funext j
  by_cases hj : j < n
  · rw [fl_lt hj, fl_lt hj, h j hj]
  · rw [fl_ge hj, fl_ge hj]
/-- reading from number a while number i is being filled -/
theorem fl_rd (P : Nat → Nat → Int64) (i k a : Nat) (f : Nat → Int64) : va_up P i (fl (P i) k f) a k = P a k := by
  by_cases h : a = i
  · subst h
    rw [va_up_self, fl_ge (by omega)]
  · rw [va_up_ne _ _ h]
theorem cS_up (P : Nat → Nat → Int64) (i j : Nat) (f : Nat → Int64) (v : Int64) : cS (va_up P i f) i j v = va_up P i (vp_updL f j v) := by
  show va_up (va_up P i f) i (vp_updL ((va_up P i f) i) j v) = _
  rw [va_up_self, bx_uu]
theorem cS_fl (P : Nat → Nat → Int64) (i k : Nat) (f : Nat → Int64) : cS (va_up P i (fl (P i) k f)) i k (f k) = va_up P i (fl (P i) (k + 1) f) := by
  rw [cS_up, fl_s]
theorem va_up_id {α : Type} (f : Nat → α) (i : Nat) : va_up f i (f i) = f := by
  funext j
  by_cases h : j = i
  · subst h; rw [va_up_self]
  · rw [va_up_ne _ _ h]
theorem va_up_eta {α : Type} (f : Nat → α) (i : Nat) (v : α) (h : v = f i) : va_up f i v = f := by rw [h, va_up_id]
/-! numbers of the component -/
/-- Number.set -/
def setF (g : Nat → Int64) (v : Int64) : Nat → Int64 := vp_updL (fl g 16 (fun _ => 0)) 0 v
/-- 16 bits of four longs, at place j -/
def tkL (Ls : Nat → Int64) (j : Nat) : Int64 := ((Ls (j / 2 ^ 2)).toUInt64 >>> ((nI (16 * (j % 2 ^ 2))).toInt64.toUInt64 &&& Int64.toUInt64 63)).toInt64 &&& 65535
/-- Number.take(long[]) -/
def tlF (g Ls : Nat → Int64) : Nat → Int64 := vp_updL (fl g 16 (tkL Ls)) 15 (fl g 16 (tkL Ls) 15 &&& 32767)
/-- one turn of Number.carry -/
def carSt (k : Nat) (f : Nat → Int64) : Nat → Int64 :=
  if k < 15 then vp_updL (vp_updL f k (f k - (f k >>> (16 : Int64)) <<< (16 : Int64))) (k + 1) (vp_updL f k (f k - (f k >>> (16 : Int64)) <<< (16 : Int64)) (k + 1) + (f k >>> (16 : Int64)))
  else vp_updL (vp_updL f k (f k - (f k >>> (16 : Int64)) <<< (16 : Int64))) 0 (vp_updL f k (f k - (f k >>> (16 : Int64)) <<< (16 : Int64)) 0 + (38 : Int64) * (f k >>> (16 : Int64)))
def carF (f : Nat → Int64) : Nat → Int64 := it carSt 16 f
/-- Number.change: what is exchanged at place j -/
def xch (f g : Nat → Int64) (mask : Int64) (j : Nat) : Int64 := mask &&& (f j ^^^ g j)
/-- part k of P -/
def pK (k : Nat) : Int64 := if k = 0 then 65517 else if k = 15 then 32767 else 65535
/-- Number.takeAway: the borrow into place k -/
def bwF (f : Nat → Int64) : Nat → Int64
  | 0 => 0
  | k + 1 => if f k - pK k - bwF f k < 0 then 1 else 0
def trF (f : Nat → Int64) (k : Nat) : Int64 := (f k - pK k - bwF f k) &&& 65535
def taF (f : Nat → Int64) : Nat → Int64 := if bwF f 16 = 1 then f else fl f 16 (trF f)
def clF (f : Nat → Int64) : Nat → Int64 := taF (taF (carF (carF (carF f))))
/-- Number.at -/
def atF (f : Nat → Int64) (k : Nat) (n : Nat) : Int64 := it (fun m v => v <<< (16 : Int64) ||| f (4 * k + (3 - m))) n 0
/-- Number.isZero: all parts together -/
def orF (f : Nat → Int64) (n : Nat) : Int64 := it (fun k v => v ||| f k) n 0
theorem kz0 {n : Nat} (h : n = 0) : nI n = 0 := by rw [h]; rfl
theorem keq {a b : Nat} (h : a = b) : nI a = nI b := by rw [h]
theorem kne {a b : Nat} (h : a ≠ b) (ha : a < 2 ^ 31) (hb : b < 2 ^ 31) : ¬ nI a = nI b := fun e => h ((nI_eq ha hb).mp e)
end
section
/-! ===== LadderDesk$Number: loops and contracts ===== -/
set_option maxRecDepth 100000

section XB
variable {p : Program} {l : Launch} {e : Env} {R : Room} {s : State} {m : MethodId} {args : Array Value} {below : List Frame} {meth : Method} {c : Code} {cells slots : Nat} {Q : State → Prop}
variable {G : va_G} {cJ cI : ClassId} {A : Nat → Prop} {ad : Nat → Nat → Nat} {P S : Nat → Nat → Int64} {rw : Nat → Int64} {X : CX}

theorem lp_set (F : kF p m c cX2_set 3 s args RX2 G cJ cI) (i : Nat) (hi : i < 13) (v : Int32)
    (kk : ∀  (H : Heap) (locs : List Loc) (ls : Array Slot), kW G A s H locs (cW cJ ad (va_up P i (fl (P i) 16 (fun _ => 0))) S rw X) → lv_has ls 3 [(0, .ref (ad 1 i)), (1, .int v), (2, .int (nI 16))] → W p l e R s m args below meth c H locs cells slots Q (F0 m 21 ls [])) :
    ∀ (n k : Nat), n + k = 16 → ∀  (H : Heap) (locs : List Loc) (ls : Array Slot), kW G A s H locs (cW cJ ad (va_up P i (fl (P i) k (fun _ => 0))) S rw X) → lv_has ls 3 [(0, .ref (ad 1 i)), (1, .int v), (2, .int (nI k))] → W p l e R s m args below meth c H locs cells slots Q (F0 m 2 ls []) := by
  intro n
  induction n with
  | zero =>
    intro k hk  H locs ls hw hl
    obtain rfl : k = 16 := by omega
    refine lv_iload_n F.1.1 F.1.2.1 dX2_set_2 rfl (lv_at hl 2 rfl) ?_
    refine lv_bipush (v := nI 16) F.1.1 F.1.2.1 dX2_set_3 (by decide) ?_
    refine lv_icmp_ge (tgt := 21) F.1.1 F.1.2.1 dX2_set_5 (by decide) (fun _ => ?_) (fun c9 => absurd (nI_le (by omega) (by omega)) c9)
    exact kk  H locs ls hw (lv_sub hl [0, 1, 2] rfl)
  | succ n ih =>
    intro k hk  H locs ls hw hl
    refine lv_iload_n F.1.1 F.1.2.1 dX2_set_2 rfl (lv_at hl 2 rfl) ?_
    refine lv_bipush (v := nI 16) F.1.1 F.1.2.1 dX2_set_3 (by decide) ?_
    refine lv_icmp_ge (tgt := 21) F.1.1 F.1.2.1 dX2_set_5 (by decide) (fun c9 => absurd c9 (nI_ge (by omega) (by omega))) (fun _ => ?_)
    refine lv_aload_n F.1.1 F.1.2.1 dX2_set_8 rfl (lv_at hl 0 rfl) ?_
    refine kGp F hw i hi q51 dX2_set_9 ?_
    refine lv_iload_n F.1.1 F.1.2.1 dX2_set_12 rfl (lv_at hl 2 rfl) ?_
    refine lv_lconst (v := 0) F.1.1 F.1.2.1 dX2_set_13 (by decide) ?_
    refine kSp F hw i hi k rfl (by omega) dX2_set_14 (fun H locs hw => ?_)
    refine lv_iinc (v := nI (k + 1)) (lv' := [(2, .int (nI (k + 1))), (0, .ref (ad 1 i)), (1, .int v)]) F.1.1 F.1.2.1 dX2_set_15 hl (k := 2) rfl (nI_1 _) (by decide) rfl (fun ls hl => ?_)
    refine lv_goto (tgt := 2) F.1.1 F.1.2.1 dX2_set_18 (by decide) ?_
    exact ih (k + 1) (by omega)  _ _ _ (by rw [← cS_fl]; exact hw) (lv_sub hl [1, 2, 0] rfl)

theorem lp_take (F : kF p m c cX2_take 3 s args RX2 G cJ cI) (i : Nat) (hi : i < 13)
    (kk : ∀  (H : Heap) (locs : List Loc) (ls : Array Slot), kW G A s H locs (cW cJ ad (va_up P i (fl (P i) 16 (tkL X.2.1))) S rw X) → lv_has ls 3 [(0, .ref (ad 1 i)), (1, .ref (ad 0 2)), (2, .int (nI 16))] → W p l e R s m args below meth c H locs cells slots Q (F0 m 36 ls [])) :
    ∀ (n k : Nat), n + k = 16 → ∀  (H : Heap) (locs : List Loc) (ls : Array Slot), kW G A s H locs (cW cJ ad (va_up P i (fl (P i) k (tkL X.2.1))) S rw X) → lv_has ls 3 [(0, .ref (ad 1 i)), (1, .ref (ad 0 2)), (2, .int (nI k))] → W p l e R s m args below meth c H locs cells slots Q (F0 m 2 ls []) := by
  intro n
  induction n with
  | zero =>
    intro k hk  H locs ls hw hl
    obtain rfl : k = 16 := by omega
    refine lv_iload_n F.1.1 F.1.2.1 dX2_take_2 rfl (lv_at hl 2 rfl) ?_
    refine lv_bipush (v := nI 16) F.1.1 F.1.2.1 dX2_take_3 (by decide) ?_
    refine lv_icmp_ge (tgt := 36) F.1.1 F.1.2.1 dX2_take_5 (by decide) (fun _ => ?_) (fun c9 => absurd (nI_le (by omega) (by omega)) c9)
    exact kk  H locs ls hw (lv_sub hl [0, 1, 2] rfl)
  | succ n ih =>
    intro k hk  H locs ls hw hl
    refine lv_iload_n F.1.1 F.1.2.1 dX2_take_2 rfl (lv_at hl 2 rfl) ?_
    refine lv_bipush (v := nI 16) F.1.1 F.1.2.1 dX2_take_3 (by decide) ?_
    refine lv_icmp_ge (tgt := 36) F.1.1 F.1.2.1 dX2_take_5 (by decide) (fun c9 => absurd c9 (nI_ge (by omega) (by omega))) (fun _ => ?_)
    refine lv_aload_n F.1.1 F.1.2.1 dX2_take_8 rfl (lv_at hl 0 rfl) ?_
    refine kGp F hw i hi q51 dX2_take_9 ?_
    refine lv_iload_n F.1.1 F.1.2.1 dX2_take_12 rfl (lv_at hl 2 rfl) ?_
    refine lv_aload_n F.1.1 F.1.2.1 dX2_take_13 rfl (lv_at hl 1 rfl) ?_
    refine lv_iload_n F.1.1 F.1.2.1 dX2_take_14 rfl (lv_at hl 2 rfl) ?_
    refine lv_iconst (v := nI 2) F.1.1 F.1.2.1 dX2_take_15 (by decide) ?_
    refine lv_ishr F.1.1 F.1.2.1 dX2_take_16 ?_
    refine kTi (pk_shrN (by omega) _ 2 (by decide)) ?_
    refine kLt F hw (k / 2 ^ 2) rfl (by omega) dX2_take_17 ?_
    refine lv_bipush (v := nI 16) F.1.1 F.1.2.1 dX2_take_18 (by decide) ?_
    refine lv_iload_n F.1.1 F.1.2.1 dX2_take_20 rfl (lv_at hl 2 rfl) ?_
    refine lv_iconst (v := nI 3) F.1.1 F.1.2.1 dX2_take_21 (by decide) ?_
    refine lv_iand F.1.1 F.1.2.1 dX2_take_22 ?_
    refine kTi (pk_andN (by omega) 2 (by decide)) ?_
    refine lv_imul F.1.1 F.1.2.1 dX2_take_23 ?_
    refine kTi (pk_mul _ _) ?_
    refine lv_lushr F.1.1 F.1.2.1 dX2_take_24 rfl ?_
    refine lv_ldc2 (v := 65535) F.1.1 F.1.2.1 F.1.2.2.2.1 (F.1.2.2.2.2 _ q142) dX2_take_25 ?_
    refine lv_land F.1.1 F.1.2.1 dX2_take_28 ?_
    refine kSp F hw i hi k rfl (by omega) dX2_take_29 (fun H locs hw => ?_)
    refine lv_iinc (v := nI (k + 1)) (lv' := [(2, .int (nI (k + 1))), (0, .ref (ad 1 i)), (1, .ref (ad 0 2))]) F.1.1 F.1.2.1 dX2_take_30 hl (k := 2) rfl (nI_1 _) (by decide) rfl (fun ls hl => ?_)
    refine lv_goto (tgt := 2) F.1.1 F.1.2.1 dX2_take_33 (by decide) ?_
    exact ih (k + 1) (by omega)  _ _ _ (by rw [← cS_fl]; exact hw) (lv_sub hl [1, 2, 0] rfl)

theorem lp_add (F : kF p m c cX2_add 4 s args RX2 G cJ cI) (i a b : Nat) (hi : i < 13) (ha : a < 13) (hb : b < 13)
    (kk : ∀  (H : Heap) (locs : List Loc) (ls : Array Slot), kW G A s H locs (cW cJ ad (va_up P i (fl (P i) 16 (fun j => P a j + P b j))) S rw X) → lv_has ls 4 [(0, .ref (ad 1 i)), (1, .ref (ad 1 a)), (2, .ref (ad 1 b)), (3, .int (nI 16))] → W p l e R s m args below meth c H locs cells slots Q (F0 m 33 ls [])) :
    ∀ (n k : Nat), n + k = 16 → ∀  (H : Heap) (locs : List Loc) (ls : Array Slot), kW G A s H locs (cW cJ ad (va_up P i (fl (P i) k (fun j => P a j + P b j))) S rw X) → lv_has ls 4 [(0, .ref (ad 1 i)), (1, .ref (ad 1 a)), (2, .ref (ad 1 b)), (3, .int (nI k))] → W p l e R s m args below meth c H locs cells slots Q (F0 m 2 ls []) := by
  intro n
  induction n with
  | zero =>
    intro k hk  H locs ls hw hl
    obtain rfl : k = 16 := by omega
    refine lv_iload_n F.1.1 F.1.2.1 dX2_add_2 rfl (lv_at hl 3 rfl) ?_
    refine lv_bipush (v := nI 16) F.1.1 F.1.2.1 dX2_add_3 (by decide) ?_
    refine lv_icmp_ge (tgt := 33) F.1.1 F.1.2.1 dX2_add_5 (by decide) (fun _ => ?_) (fun c9 => absurd (nI_le (by omega) (by omega)) c9)
    exact kk  H locs ls hw (lv_sub hl [0, 1, 2, 3] rfl)
  | succ n ih =>
    intro k hk  H locs ls hw hl
    refine lv_iload_n F.1.1 F.1.2.1 dX2_add_2 rfl (lv_at hl 3 rfl) ?_
    refine lv_bipush (v := nI 16) F.1.1 F.1.2.1 dX2_add_3 (by decide) ?_
    refine lv_icmp_ge (tgt := 33) F.1.1 F.1.2.1 dX2_add_5 (by decide) (fun c9 => absurd c9 (nI_ge (by omega) (by omega))) (fun _ => ?_)
    refine lv_aload_n F.1.1 F.1.2.1 dX2_add_8 rfl (lv_at hl 0 rfl) ?_
    refine kGp F hw i hi q51 dX2_add_9 ?_
    refine lv_iload_n F.1.1 F.1.2.1 dX2_add_12 rfl (lv_at hl 3 rfl) ?_
    refine lv_aload_n F.1.1 F.1.2.1 dX2_add_13 rfl (lv_at hl 1 rfl) ?_
    refine kGp F hw a ha q51 dX2_add_14 ?_
    refine lv_iload_n F.1.1 F.1.2.1 dX2_add_17 rfl (lv_at hl 3 rfl) ?_
    refine kLp F hw a ha k rfl (by omega) dX2_add_18 ?_
    refine lv_aload_n F.1.1 F.1.2.1 dX2_add_19 rfl (lv_at hl 2 rfl) ?_
    refine kGp F hw b hb q51 dX2_add_20 ?_
    refine lv_iload_n F.1.1 F.1.2.1 dX2_add_23 rfl (lv_at hl 3 rfl) ?_
    refine kLp F hw b hb k rfl (by omega) dX2_add_24 ?_
    refine lv_ladd F.1.1 F.1.2.1 dX2_add_25 ?_
    refine kSp F hw i hi k rfl (by omega) dX2_add_26 (fun H locs hw => ?_)
    refine lv_iinc (v := nI (k + 1)) (lv' := [(3, .int (nI (k + 1))), (0, .ref (ad 1 i)), (1, .ref (ad 1 a)), (2, .ref (ad 1 b))]) F.1.1 F.1.2.1 dX2_add_27 hl (k := 3) rfl (nI_1 _) (by decide) rfl (fun ls hl => ?_)
    refine lv_goto (tgt := 2) F.1.1 F.1.2.1 dX2_add_30 (by decide) ?_
    exact ih (k + 1) (by omega)  _ _ _ (by rw [← cS_fl]; simp only [fl_rd] at hw; exact hw) (lv_sub hl [1, 2, 3, 0] rfl)

theorem lp_subtract (F : kF p m c cX2_subtract 4 s args RX2 G cJ cI) (i a b : Nat) (hi : i < 13) (ha : a < 13) (hb : b < 13)
    (kk : ∀  (H : Heap) (locs : List Loc) (ls : Array Slot), kW G A s H locs (cW cJ ad (va_up P i (fl (P i) 16 (fun j => P a j - P b j))) S rw X) → lv_has ls 4 [(0, .ref (ad 1 i)), (1, .ref (ad 1 a)), (2, .ref (ad 1 b)), (3, .int (nI 16))] → W p l e R s m args below meth c H locs cells slots Q (F0 m 33 ls [])) :
    ∀ (n k : Nat), n + k = 16 → ∀  (H : Heap) (locs : List Loc) (ls : Array Slot), kW G A s H locs (cW cJ ad (va_up P i (fl (P i) k (fun j => P a j - P b j))) S rw X) → lv_has ls 4 [(0, .ref (ad 1 i)), (1, .ref (ad 1 a)), (2, .ref (ad 1 b)), (3, .int (nI k))] → W p l e R s m args below meth c H locs cells slots Q (F0 m 2 ls []) := by
  intro n
  induction n with
  | zero =>
    intro k hk  H locs ls hw hl
    obtain rfl : k = 16 := by omega
    refine lv_iload_n F.1.1 F.1.2.1 dX2_subtract_2 rfl (lv_at hl 3 rfl) ?_
    refine lv_bipush (v := nI 16) F.1.1 F.1.2.1 dX2_subtract_3 (by decide) ?_
    refine lv_icmp_ge (tgt := 33) F.1.1 F.1.2.1 dX2_subtract_5 (by decide) (fun _ => ?_) (fun c9 => absurd (nI_le (by omega) (by omega)) c9)
    exact kk  H locs ls hw (lv_sub hl [0, 1, 2, 3] rfl)
  | succ n ih =>
    intro k hk  H locs ls hw hl
    refine lv_iload_n F.1.1 F.1.2.1 dX2_subtract_2 rfl (lv_at hl 3 rfl) ?_
    refine lv_bipush (v := nI 16) F.1.1 F.1.2.1 dX2_subtract_3 (by decide) ?_
    refine lv_icmp_ge (tgt := 33) F.1.1 F.1.2.1 dX2_subtract_5 (by decide) (fun c9 => absurd c9 (nI_ge (by omega) (by omega))) (fun _ => ?_)
    refine lv_aload_n F.1.1 F.1.2.1 dX2_subtract_8 rfl (lv_at hl 0 rfl) ?_
    refine kGp F hw i hi q51 dX2_subtract_9 ?_
    refine lv_iload_n F.1.1 F.1.2.1 dX2_subtract_12 rfl (lv_at hl 3 rfl) ?_
    refine lv_aload_n F.1.1 F.1.2.1 dX2_subtract_13 rfl (lv_at hl 1 rfl) ?_
    refine kGp F hw a ha q51 dX2_subtract_14 ?_
    refine lv_iload_n F.1.1 F.1.2.1 dX2_subtract_17 rfl (lv_at hl 3 rfl) ?_
    refine kLp F hw a ha k rfl (by omega) dX2_subtract_18 ?_
    refine lv_aload_n F.1.1 F.1.2.1 dX2_subtract_19 rfl (lv_at hl 2 rfl) ?_
    refine kGp F hw b hb q51 dX2_subtract_20 ?_
    refine lv_iload_n F.1.1 F.1.2.1 dX2_subtract_23 rfl (lv_at hl 3 rfl) ?_
    refine kLp F hw b hb k rfl (by omega) dX2_subtract_24 ?_
    refine lv_lsub F.1.1 F.1.2.1 dX2_subtract_25 ?_
    refine kSp F hw i hi k rfl (by omega) dX2_subtract_26 (fun H locs hw => ?_)
    refine lv_iinc (v := nI (k + 1)) (lv' := [(3, .int (nI (k + 1))), (0, .ref (ad 1 i)), (1, .ref (ad 1 a)), (2, .ref (ad 1 b))]) F.1.1 F.1.2.1 dX2_subtract_27 hl (k := 3) rfl (nI_1 _) (by decide) rfl (fun ls hl => ?_)
    refine lv_goto (tgt := 2) F.1.1 F.1.2.1 dX2_subtract_30 (by decide) ?_
    exact ih (k + 1) (by omega)  _ _ _ (by rw [← cS_fl]; simp only [fl_rd] at hw; exact hw) (lv_sub hl [1, 2, 3, 0] rfl)

theorem carSt_lt {k : Nat} {f : Nat → Int64} (h : k < 15) : carSt k f = vp_updL (vp_updL f k (f k - (f k >>> (16 : Int64)) <<< (16 : Int64))) (k + 1) (vp_updL f k (f k - (f k >>> (16 : Int64)) <<< (16 : Int64)) (k + 1) + (f k >>> (16 : Int64))) := if_pos h
theorem carSt_ge {k : Nat} {f : Nat → Int64} (h : ¬ k < 15) : carSt k f = vp_updL (vp_updL f k (f k - (f k >>> (16 : Int64)) <<< (16 : Int64))) 0 (vp_updL f k (f k - (f k >>> (16 : Int64)) <<< (16 : Int64)) 0 + (38 : Int64) * (f k >>> (16 : Int64))) := if_neg h

theorem lp_carry (F : kF p m c cX2_carry 4 s args RX2 G cJ cI) (i : Nat) (hi : i < 13)
    (kk : ∀  (H : Heap) (locs : List Loc) (ls : Array Slot), kW G A s H locs (cW cJ ad (va_up P i (it carSt 16 (P i))) S rw X) → lv_has ls 4 [(0, .ref (ad 1 i)), (1, .int (nI 16))] → W p l e R s m args below meth c H locs cells slots Q (F0 m 72 ls [])) :
    ∀ (n k : Nat), n + k = 16 → ∀  (H : Heap) (locs : List Loc) (ls : Array Slot), kW G A s H locs (cW cJ ad (va_up P i (it carSt k (P i))) S rw X) → lv_has ls 4 [(0, .ref (ad 1 i)), (1, .int (nI k))] → W p l e R s m args below meth c H locs cells slots Q (F0 m 2 ls []) := by
  intro n
  induction n with
  | zero =>
    intro k hk  H locs ls hw hl
    obtain rfl : k = 16 := by omega
    refine lv_iload_n F.1.1 F.1.2.1 dX2_carry_2 rfl (lv_at hl 1 rfl) ?_
    refine lv_bipush (v := nI 16) F.1.1 F.1.2.1 dX2_carry_3 (by decide) ?_
    refine lv_icmp_ge (tgt := 72) F.1.1 F.1.2.1 dX2_carry_5 (by decide) (fun _ => ?_) (fun c9 => absurd (nI_le (by omega) (by omega)) c9)
    exact kk  H locs ls hw (lv_sub hl [0, 1] rfl)
  | succ n ih =>
    intro k hk  H locs ls hw hl
    refine lv_iload_n F.1.1 F.1.2.1 dX2_carry_2 rfl (lv_at hl 1 rfl) ?_
    refine lv_bipush (v := nI 16) F.1.1 F.1.2.1 dX2_carry_3 (by decide) ?_
    refine lv_icmp_ge (tgt := 72) F.1.1 F.1.2.1 dX2_carry_5 (by decide) (fun c9 => absurd c9 (nI_ge (by omega) (by omega))) (fun _ => ?_)
    refine lv_aload_n F.1.1 F.1.2.1 dX2_carry_8 rfl (lv_at hl 0 rfl) ?_
    refine kGp F hw i hi q51 dX2_carry_9 ?_
    refine lv_iload_n F.1.1 F.1.2.1 dX2_carry_12 rfl (lv_at hl 1 rfl) ?_
    refine kLp F hw i hi k rfl (by omega) dX2_carry_13 ?_
    refine lv_bipush (v := nI 16) F.1.1 F.1.2.1 dX2_carry_14 (by decide) ?_
    refine lv_lshr F.1.1 F.1.2.1 dX2_carry_16 (k_lshr16 _) ?_
    refine lv_topl (fun t1 et1 => ?_)
    refine lv_lstore_n (lv' := [(2, .long t1), (0, .ref (ad 1 i)), (1, .int (nI k))]) F.1.1 F.1.2.1 dX2_carry_17 rfl hl (by decide) rfl (fun ls hl => ?_)
    refine lv_aload_n F.1.1 F.1.2.1 dX2_carry_18 rfl (lv_at hl 1 rfl) ?_
    refine kGp F hw i hi q51 dX2_carry_19 ?_
    refine lv_iload_n F.1.1 F.1.2.1 dX2_carry_22 rfl (lv_at hl 2 rfl) ?_
    refine lv_dup2_11 F.1.1 F.1.2.1 dX2_carry_23 rfl rfl ?_
    refine kLp F hw i hi k rfl (by omega) dX2_carry_24 ?_
    refine lv_lload_n F.1.1 F.1.2.1 dX2_carry_25 rfl (lv_at hl 0 rfl) ?_
    refine lv_bipush (v := nI 16) F.1.1 F.1.2.1 dX2_carry_26 (by decide) ?_
    refine lv_lshl F.1.1 F.1.2.1 dX2_carry_28 (k_lshl16 _) ?_
    refine lv_lsub F.1.1 F.1.2.1 dX2_carry_29 ?_
    refine kSp F hw i hi k rfl (by omega) dX2_carry_30 (fun H locs hw => ?_)
    refine lv_iload_n F.1.1 F.1.2.1 dX2_carry_31 rfl (lv_at hl 2 rfl) ?_
    refine lv_bipush (v := nI 15) F.1.1 F.1.2.1 dX2_carry_32 (by decide) ?_
    refine lv_icmp_ge (tgt := 52) F.1.1 F.1.2.1 dX2_carry_34 (by decide) (fun c34 => ?_) (fun c34 => ?_)
    · have c34 : ¬ k < 15 := Nat.not_lt.mpr ((nI_leI (by omega) (by omega)).mp c34)
      refine lv_aload_n F.1.1 F.1.2.1 dX2_carry_52 rfl (lv_at hl 1 rfl) ?_
      refine kGp F hw i hi q51 dX2_carry_53 ?_
      refine lv_iconst (v := nI 0) F.1.1 F.1.2.1 dX2_carry_56 (by decide) ?_
      refine lv_dup2_11 F.1.1 F.1.2.1 dX2_carry_57 rfl rfl ?_
      refine kLp F hw i hi 0 rfl (by omega) dX2_carry_58 ?_
      refine lv_ldc2 (v := 38) F.1.1 F.1.2.1 F.1.2.2.2.1 (F.1.2.2.2.2 _ q188) dX2_carry_59 ?_
      refine lv_lload_n F.1.1 F.1.2.1 dX2_carry_62 rfl (lv_at hl 0 rfl) ?_
      refine lv_lmul F.1.1 F.1.2.1 dX2_carry_63 ?_
      refine lv_ladd F.1.1 F.1.2.1 dX2_carry_64 ?_
      refine kSp F hw i hi 0 rfl (by omega) dX2_carry_65 (fun H locs hw => ?_)
      refine lv_iinc (v := nI (k + 1)) (lv' := [(1, .int (nI (k + 1))), (2, .long t1), (0, .ref (ad 1 i))]) F.1.1 F.1.2.1 dX2_carry_66 hl (k := 2) rfl (nI_1 _) (by decide) rfl (fun ls hl => ?_)
      refine lv_goto (tgt := 2) F.1.1 F.1.2.1 dX2_carry_69 (by decide) ?_
      subst et1
      exact ih (k + 1) (by omega)  _ _ _ (by
        rw [it_s]
        simp only [cS_up, va_up_self] at hw
        first
        | (rw [carSt_lt (by omega)]; exact hw)
        | (rw [carSt_ge (by omega)]; exact hw)) (lv_sub hl [2, 0] rfl)
    · have c34 : k < 15 := Nat.lt_of_not_le (fun h9 => c34 (nI_le h9 (by omega)))
      refine lv_aload_n F.1.1 F.1.2.1 dX2_carry_37 rfl (lv_at hl 1 rfl) ?_
      refine kGp F hw i hi q51 dX2_carry_38 ?_
      refine lv_iload_n F.1.1 F.1.2.1 dX2_carry_41 rfl (lv_at hl 2 rfl) ?_
      refine lv_iconst (v := nI 1) F.1.1 F.1.2.1 dX2_carry_42 (by decide) ?_
      refine lv_iadd F.1.1 F.1.2.1 dX2_carry_43 ?_
      refine kTi (nI_add _ _) ?_
      refine lv_dup2_11 F.1.1 F.1.2.1 dX2_carry_44 rfl rfl ?_
      refine kLp F hw i hi (k + 1) rfl (by omega) dX2_carry_45 ?_
      refine lv_lload_n F.1.1 F.1.2.1 dX2_carry_46 rfl (lv_at hl 0 rfl) ?_
      refine lv_ladd F.1.1 F.1.2.1 dX2_carry_47 ?_
      refine kSp F hw i hi (k + 1) rfl (by omega) dX2_carry_48 (fun H locs hw => ?_)
      refine lv_goto (tgt := 66) F.1.1 F.1.2.1 dX2_carry_49 (by decide) ?_
      refine lv_iinc (v := nI (k + 1)) (lv' := [(1, .int (nI (k + 1))), (2, .long t1), (0, .ref (ad 1 i))]) F.1.1 F.1.2.1 dX2_carry_66 hl (k := 2) rfl (nI_1 _) (by decide) rfl (fun ls hl => ?_)
      refine lv_goto (tgt := 2) F.1.1 F.1.2.1 dX2_carry_69 (by decide) ?_
      subst et1
      exact ih (k + 1) (by omega)  _ _ _ (by
        rw [it_s]
        simp only [cS_up, va_up_self] at hw
        first
        | (rw [carSt_lt (by omega)]; exact hw)
        | (rw [carSt_ge (by omega)]; exact hw)) (lv_sub hl [2, 0] rfl)

end XB

abbrev rX2_set : Room := { frames := 0, cells := 0, slots := 0, locals := 0 }
/-- Number.set -/
theorem met_X2_set {l : Launch} {G : va_G} {cJ cI : ClassId} {ad : Nat → Nat → Nat} {P S : Nat → Nat → Int64} {rw : Nat → Int64} {X : CX} {sz : Nat} (i : Nat) (hi : i < 13) (v : Int32) : kMv l yX2_set cX2_set 3 rX2_set G cJ cI [.ref (ad 1 i), .int v] (cW cJ ad P S rw X) sz (fun _ : Unit => True) (fun _ => cW cJ ad (va_up P i (setF (P i) v.toInt64)) S rw X) := by
  refine kStart (by decide) (Nat.le_of_ble_eq_true rfl) ?_
  intro p e s m below meth c ls F hr hlocks hin hsz hA hw hl
  have hl : lv_has ls 3 [(0, .ref (ad 1 i)), (1, .int v)] := hl
  refine lv_iconst (v := nI 0) F.1.1 F.1.2.1 dX2_set_0 (by decide) ?_
  refine lv_istore_n (lv' := [(2, .int (nI 0)), (0, .ref (ad 1 i)), (1, .int v)]) F.1.1 F.1.2.1 dX2_set_1 rfl hl (by decide) rfl (fun ls hl => ?_)
  refine lp_set F i hi v (fun  H locs ls hw hl => ?_) 16 0 rfl  _ _ _ (by rw [fl_0, va_up_id]; exact hw) (lv_sub hl [1, 2, 0] rfl)
  refine lv_aload_n F.1.1 F.1.2.1 dX2_set_21 rfl (lv_at hl 0 rfl) ?_
  refine kGp F hw i hi q51 dX2_set_22 ?_
  refine lv_iconst (v := nI 0) F.1.1 F.1.2.1 dX2_set_25 (by decide) ?_
  refine lv_iload_n F.1.1 F.1.2.1 dX2_set_26 rfl (lv_at hl 1 rfl) ?_
  refine lv_i2l F.1.1 F.1.2.1 dX2_set_27 rfl ?_
  refine kSp F hw i hi 0 rfl (by omega) dX2_set_28 (fun H locs hw => ?_)
  exact kVret F hr hlocks () (by rw [cS_up] at hw; exact hw) trivial dX2_set_29

abbrev rX2_take : Room := { frames := 0, cells := 0, slots := 0, locals := 0 }
/-- Number.take(long[]) of the point -/
theorem met_X2_take {l : Launch} {G : va_G} {cJ cI : ClassId} {ad : Nat → Nat → Nat} {P S : Nat → Nat → Int64} {rw : Nat → Int64} {X : CX} {sz : Nat} (i : Nat) (hi : i < 13) : kMv l yX2_take cX2_take 3 rX2_take G cJ cI [.ref (ad 1 i), .ref (ad 0 2)] (cW cJ ad P S rw X) sz (fun _ : Unit => True) (fun _ => cW cJ ad (va_up P i (tlF (P i) X.2.1)) S rw X) := by
  refine kStart (by decide) (Nat.le_of_ble_eq_true rfl) ?_
  intro p e s m below meth c ls F hr hlocks hin hsz hA hw hl
  have hl : lv_has ls 3 [(0, .ref (ad 1 i)), (1, .ref (ad 0 2))] := hl
  refine lv_iconst (v := nI 0) F.1.1 F.1.2.1 dX2_take_0 (by decide) ?_
  refine lv_istore_n (lv' := [(2, .int (nI 0)), (0, .ref (ad 1 i)), (1, .ref (ad 0 2))]) F.1.1 F.1.2.1 dX2_take_1 rfl hl (by decide) rfl (fun ls hl => ?_)
  refine lp_take F i hi (fun  H locs ls hw hl => ?_) 16 0 rfl  _ _ _ (by rw [fl_0, va_up_id]; exact hw) (lv_sub hl [1, 2, 0] rfl)
  refine lv_aload_n F.1.1 F.1.2.1 dX2_take_36 rfl (lv_at hl 0 rfl) ?_
  refine kGp F hw i hi q51 dX2_take_37 ?_
  refine lv_bipush (v := nI 15) F.1.1 F.1.2.1 dX2_take_40 (by decide) ?_
  refine lv_dup2_11 F.1.1 F.1.2.1 dX2_take_42 rfl rfl ?_
  refine kLp F hw i hi 15 rfl (by omega) dX2_take_43 ?_
  refine lv_ldc2 (v := 32767) F.1.1 F.1.2.1 F.1.2.2.2.1 (F.1.2.2.2.2 _ q143) dX2_take_44 ?_
  refine lv_land F.1.1 F.1.2.1 dX2_take_47 ?_
  refine kSp F hw i hi 15 rfl (by omega) dX2_take_48 (fun H locs hw => ?_)
  exact kVret F hr hlocks () (by rw [cS_up, va_up_self] at hw; exact hw) trivial dX2_take_49

abbrev rX2_add : Room := { frames := 0, cells := 0, slots := 0, locals := 0 }
/-- Number.add -/
theorem met_X2_add {l : Launch} {G : va_G} {cJ cI : ClassId} {ad : Nat → Nat → Nat} {P S : Nat → Nat → Int64} {rw : Nat → Int64} {X : CX} {sz : Nat} (i a b : Nat) (hi : i < 13) (ha : a < 13) (hb : b < 13) : kMv l yX2_add cX2_add 4 rX2_add G cJ cI [.ref (ad 1 i), .ref (ad 1 a), .ref (ad 1 b)] (cW cJ ad P S rw X) sz (fun _ : Unit => True) (fun _ => cW cJ ad (va_up P i (fl (P i) 16 (fun j => P a j + P b j))) S rw X) := by
  refine kStart (by decide) (Nat.le_of_ble_eq_true rfl) ?_
  intro p e s m below meth c ls F hr hlocks hin hsz hA hw hl
  have hl : lv_has ls 4 [(0, .ref (ad 1 i)), (1, .ref (ad 1 a)), (2, .ref (ad 1 b))] := hl
  refine lv_iconst (v := nI 0) F.1.1 F.1.2.1 dX2_add_0 (by decide) ?_
  refine lv_istore_n (lv' := [(3, .int (nI 0)), (0, .ref (ad 1 i)), (1, .ref (ad 1 a)), (2, .ref (ad 1 b))]) F.1.1 F.1.2.1 dX2_add_1 rfl hl (by decide) rfl (fun ls hl => ?_)
  refine lp_add F i a b hi ha hb (fun  H locs ls hw hl => ?_) 16 0 rfl  _ _ _ (by rw [fl_0, va_up_id]; exact hw) (lv_sub hl [1, 2, 3, 0] rfl)
  exact kVret F hr hlocks () hw trivial dX2_add_33

abbrev rX2_subtract : Room := { frames := 0, cells := 0, slots := 0, locals := 0 }
/-- Number.subtract -/
theorem met_X2_subtract {l : Launch} {G : va_G} {cJ cI : ClassId} {ad : Nat → Nat → Nat} {P S : Nat → Nat → Int64} {rw : Nat → Int64} {X : CX} {sz : Nat} (i a b : Nat) (hi : i < 13) (ha : a < 13) (hb : b < 13) : kMv l yX2_subtract cX2_subtract 4 rX2_subtract G cJ cI [.ref (ad 1 i), .ref (ad 1 a), .ref (ad 1 b)] (cW cJ ad P S rw X) sz (fun _ : Unit => True) (fun _ => cW cJ ad (va_up P i (fl (P i) 16 (fun j => P a j - P b j))) S rw X) := by
  refine kStart (by decide) (Nat.le_of_ble_eq_true rfl) ?_
  intro p e s m below meth c ls F hr hlocks hin hsz hA hw hl
  have hl : lv_has ls 4 [(0, .ref (ad 1 i)), (1, .ref (ad 1 a)), (2, .ref (ad 1 b))] := hl
  refine lv_iconst (v := nI 0) F.1.1 F.1.2.1 dX2_subtract_0 (by decide) ?_
  refine lv_istore_n (lv' := [(3, .int (nI 0)), (0, .ref (ad 1 i)), (1, .ref (ad 1 a)), (2, .ref (ad 1 b))]) F.1.1 F.1.2.1 dX2_subtract_1 rfl hl (by decide) rfl (fun ls hl => ?_)
  refine lp_subtract F i a b hi ha hb (fun  H locs ls hw hl => ?_) 16 0 rfl  _ _ _ (by rw [fl_0, va_up_id]; exact hw) (lv_sub hl [1, 2, 3, 0] rfl)
  exact kVret F hr hlocks () hw trivial dX2_subtract_33

abbrev rX2_carry : Room := { frames := 0, cells := 0, slots := 0, locals := 0 }
/-- Number.carry -/
theorem met_X2_carry {l : Launch} {G : va_G} {cJ cI : ClassId} {ad : Nat → Nat → Nat} {P S : Nat → Nat → Int64} {rw : Nat → Int64} {X : CX} {sz : Nat} (i : Nat) (hi : i < 13) : kMv l yX2_carry cX2_carry 4 rX2_carry G cJ cI [.ref (ad 1 i)] (cW cJ ad P S rw X) sz (fun _ : Unit => True) (fun _ => cW cJ ad (va_up P i (carF (P i))) S rw X) := by
  refine kStart (by decide) (Nat.le_of_ble_eq_true rfl) ?_
  intro p e s m below meth c ls F hr hlocks hin hsz hA hw hl
  have hl : lv_has ls 4 [(0, .ref (ad 1 i))] := hl
  refine lv_iconst (v := nI 0) F.1.1 F.1.2.1 dX2_carry_0 (by decide) ?_
  refine lv_istore_n (lv' := [(1, .int (nI 0)), (0, .ref (ad 1 i))]) F.1.1 F.1.2.1 dX2_carry_1 rfl hl (by decide) rfl (fun ls hl => ?_)
  refine lp_carry F i hi (fun  H locs ls hw hl => ?_) 16 0 rfl  _ _ _ (by rw [it_0, va_up_id]; exact hw) (lv_sub hl [1, 0] rfl)
  exact kVret F hr hlocks () hw trivial dX2_carry_72

section XC
variable {p : Program} {l : Launch} {e : Env} {R : Room} {s : State} {m : MethodId} {args : Array Value} {below : List Frame} {meth : Method} {c : Code} {H : Heap} {locs : List Loc} {cells slots : Nat} {Q : State → Prop}
variable {cc : ByteArray} {nL : Nat} {pc : Nat} {ls : Array Slot} {G : va_G} {cJ cI : ClassId} {A : Nat → Prop} {own : String} {ad : Nat → Nat → Nat} {P S : Nat → Nat → Int64} {rw : Nat → Int64} {X : CX}

theorem kCsp (F : kF p m c cc nL s args own G cJ cI) (hls : ls.size = nL) (hw : kW G A s H locs (cW cJ ad P S rw X)) (i : Nat) (hi : i < 13) {idx : Nat} (hl : Cond.methodLink own idx arraycopyName ∈ lw_all) (hfr : 1 ≤ R.frames) (hlo : 18 ≤ R.locals) (hdg : decode cc pc = .ok (.invokestatic idx, 3))
    (kk : ∀ (H1 : Heap) (locs1 : List Loc), kW G A s H1 locs1 (cW cJ ad (va_up P i (fl (P i) 16 (S i))) S rw X) → W p l e R s m args below meth c H1 locs1 cells slots Q (F0 m (pc + 3) ls [])) : W p l e R s m args below meth c H locs cells slots Q (F0 m pc ls [.int (nI 16), .int (nI 0), .ref (ad 2 i), .int (nI 0), .ref (ad 3 i)]) :=
  kCpJ F hls hw (3 * i + 7) (3 * i + 6) (by omega) (by omega) (cF_s i) (cF_p i) hl (by decide) (by decide) (by decide) hfr hlo hdg (fun H1 locs1 h => kk H1 locs1 (by rw [fl_cpy, cF_up_p] at h; exact h))

theorem kCpp (F : kF p m c cc nL s args own G cJ cI) (hls : ls.size = nL) (hw : kW G A s H locs (cW cJ ad P S rw X)) (i : Nat) (hi : i < 13) (j : Nat) (hj : j < 13) {idx : Nat} (hl : Cond.methodLink own idx arraycopyName ∈ lw_all) (hfr : 1 ≤ R.frames) (hlo : 18 ≤ R.locals) (hdg : decode cc pc = .ok (.invokestatic idx, 3))
    (kk : ∀ (H1 : Heap) (locs1 : List Loc), kW G A s H1 locs1 (cW cJ ad (va_up P i (fl (P i) 16 (P j))) S rw X) → W p l e R s m args below meth c H1 locs1 cells slots Q (F0 m (pc + 3) ls [])) : W p l e R s m args below meth c H locs cells slots Q (F0 m pc ls [.int (nI 16), .int (nI 0), .ref (ad 2 i), .int (nI 0), .ref (ad 2 j)]) :=
  kCpJ F hls hw (3 * j + 6) (3 * i + 6) (by omega) (by omega) (cF_p j) (cF_p i) hl (by decide) (by decide) (by decide) hfr hlo hdg (fun H1 locs1 h => kk H1 locs1 (by rw [fl_cpy, cF_up_p] at h; exact h))

theorem kCrp (F : kF p m c cc nL s args own G cJ cI) (hls : ls.size = nL) (hw : kW G A s H locs (cW cJ ad P S rw X)) (i : Nat) (hi : i < 13) {idx : Nat} (hl : Cond.methodLink own idx arraycopyName ∈ lw_all) (hfr : 1 ≤ R.frames) (hlo : 18 ≤ R.locals) (hdg : decode cc pc = .ok (.invokestatic idx, 3))
    (kk : ∀ (H1 : Heap) (locs1 : List Loc), kW G A s H1 locs1 (cW cJ ad (va_up P i (fl (P i) 16 rw)) S rw X) → W p l e R s m args below meth c H1 locs1 cells slots Q (F0 m (pc + 3) ls [])) : W p l e R s m args below meth c H locs cells slots Q (F0 m pc ls [.int (nI 16), .int (nI 0), .ref (ad 2 i), .int (nI 0), .ref (ad 0 4)]) :=
  kCpJ F hls hw (4) (3 * i + 6) (by omega) (by omega) (N0 := 31) (g0 := rw) rfl (cF_p i) hl (by decide) (by decide) (by decide) hfr hlo hdg (fun H1 locs1 h => kk H1 locs1 (by rw [fl_cpy, cF_up_p] at h; exact h))

end XC

/-- Number.change on P: k places done -/
def chP (P : Nat → Nat → Int64) (i b : Nat) (mask : Int64) (k : Nat) : Nat → Nat → Int64 := va_up (va_up P i (fl (P i) k (fun j => P i j ^^^ xch (P i) (P b) mask j))) b (fl (P b) k (fun j => P b j ^^^ xch (P i) (P b) mask j))
theorem chP_0 (P : Nat → Nat → Int64) (i b : Nat) (mask : Int64) : chP P i b mask 0 = P := by
  unfold chP
  rw [fl_0, fl_0, va_up_id, va_up_id]
theorem chP_i {P : Nat → Nat → Int64} {i b : Nat} {mask : Int64} {k : Nat} (h : i ≠ b) : chP P i b mask k i k = P i k := by
  unfold chP
  rw [va_up_ne _ _ h, va_up_self, fl_ge (by omega)]
theorem chP_b {P : Nat → Nat → Int64} {i b : Nat} {mask : Int64} {k : Nat} : chP P i b mask k b k = P b k := by
  unfold chP
  rw [va_up_self, fl_ge (by omega)]
theorem chP_s {P : Nat → Nat → Int64} {i b : Nat} {mask : Int64} {k : Nat} (h : i ≠ b) : cS (cS (chP P i b mask k) i k (chP P i b mask k i k ^^^ (mask &&& (chP P i b mask k i k ^^^ chP P i b mask k b k)))) b k (cS (chP P i b mask k) i k (chP P i b mask k i k ^^^ (mask &&& (chP P i b mask k i k ^^^ chP P i b mask k b k))) b k ^^^ (mask &&& (chP P i b mask k i k ^^^ chP P i b mask k b k))) = chP P i b mask (k + 1) := by
  have e1 : ∀ v, cS (chP P i b mask k) i k v b k = P b k := by
    intro v
    show va_up (chP P i b mask k) i _ b k = _
    rw [va_up_ne _ _ (Ne.symm h), chP_b]
  rw [e1, chP_i h, chP_b]
  unfold chP
  rw [← fl_s, ← fl_s]
  funext a
  by_cases hb : a = b
  · subst hb
    show va_up _ a _ a = va_up _ a _ a
    rw [va_up_self, va_up_self]
    congr 1
    show va_up (va_up (va_up P i _) a _) i _ a = _
    rw [va_up_ne _ _ (Ne.symm h), va_up_self]
  · show va_up _ b _ a = va_up _ b _ a
    rw [va_up_ne _ _ hb, va_up_ne _ _ hb]
    by_cases hi : a = i
    · subst hi
      show va_up _ a _ a = va_up _ a _ a
      rw [va_up_self, va_up_self, va_up_ne _ _ h, va_up_self]
      rfl
    · show va_up _ i _ a = va_up _ i _ a
      rw [va_up_ne _ _ hi, va_up_ne _ _ hb, va_up_ne _ _ hi, va_up_ne _ _ hi]
/-- a counter that falls from N - 1 to -1 -/
def dnI (N m : Nat) : Int32 := nI (N - m) - 1
theorem dn_lt {N m : Nat} (h : m < N) : dnI N m = nI (N - 1 - m) := by
  unfold dnI
  rw [show N - m = (N - 1 - m) + 1 by omega, nI_pred]
theorem dn_end {N : Nat} : dnI N N < 0 := by
  unfold dnI
  rw [Nat.sub_self]
  decide
theorem dn_nlt {N m : Nat} (h : m < N) (hN : N < 2 ^ 31) : ¬ dnI N m < 0 := by
  rw [dn_lt h]
  exact nI_pos (by omega)
theorem dn_s {N m : Nat} (h : m < N) : nI (N - 1 - m) + -1 = dnI N (m + 1) := by
  unfold dnI
  rw [show N - (m + 1) = N - 1 - m by omega, Int32.sub_eq_add_neg]
theorem dn_0 {N : Nat} (h : 0 < N) : nI (N - 1) = dnI N 0 := by
  rw [dn_lt h]
  rfl
theorem pKa {k : Nat} (hk : k < 16) (h : nI k = 0) : (65517 : Int64) = pK k := by
  have : k = 0 := (nI_eq (by omega) (by omega)).mp (h.trans nI_0.symm)
  subst this
  rfl
theorem pKb {k : Nat} (hk : k < 16) (h : ¬ nI k = 0) (h2 : ¬ ¬ nI k = nI 15) : (32767 : Int64) = pK k := by
  have : k = 15 := (nI_eq (by omega) (by omega)).mp (Classical.not_not.mp h2)
  subst this
  rfl
theorem pKc {k : Nat} (hk : k < 16) (h : ¬ nI k = 0) (h2 : ¬ nI k = nI 15) : (65535 : Int64) = pK k := by
  have h3 : k ≠ 0 := fun e => h (by rw [e]; rfl)
  have h4 : k ≠ 15 := fun e => h2 (by rw [e])
  simp [pK, h3, h4]
def lsF (f : Nat → Int64) (k : Nat) : Int32 := if bwF f k = 1 then 1 else 0
theorem ta_ext {S : Nat → Nat → Int64} {i k : Nat} {f : Nat → Int64} (h : ∀ j, j < k → S i j = trF f j) : ∀ j, j < k + 1 → cS S i k (trF f k) i j = trF f j := by
  intro j hj
  show va_up S i _ i j = _
  rw [va_up_self]
  by_cases e : j = k
  · subst e
    simp [vp_updL]
  · simp [vp_updL, e]
    exact h j (by omega)

section XD
variable {p : Program} {l : Launch} {e : Env} {R : Room} {s : State} {m : MethodId} {args : Array Value} {below : List Frame} {meth : Method} {c : Code} {cells slots : Nat} {Q : State → Prop}
variable {G : va_G} {cJ cI : ClassId} {A : Nat → Prop} {ad : Nat → Nat → Nat} {P S : Nat → Nat → Int64} {rw : Nat → Int64} {X : CX}

theorem lp_change (F : kF p m c cX2_change 7 s args RX2 G cJ cI) (i b : Nat) (hi : i < 13) (hb : b < 13) (hne : i ≠ b) (mask : Int64)
    (kk : ∀  (H : Heap) (locs : List Loc) (ls : Array Slot), kW G A s H locs (cW cJ ad (chP P i b mask 16) S rw X) → lv_has ls 7 [(0, .ref (ad 1 i)), (1, .ref (ad 1 b)), (2, .long mask), (4, .int (nI 16))] → W p l e R s m args below meth c H locs cells slots Q (F0 m 59 ls [])) :
    ∀ (n k : Nat), n + k = 16 → ∀  (H : Heap) (locs : List Loc) (ls : Array Slot), kW G A s H locs (cW cJ ad (chP P i b mask k) S rw X) → lv_has ls 7 [(0, .ref (ad 1 i)), (1, .ref (ad 1 b)), (2, .long mask), (4, .int (nI k))] → W p l e R s m args below meth c H locs cells slots Q (F0 m 3 ls []) := by
  intro n
  induction n with
  | zero =>
    intro k hk  H locs ls hw hl
    obtain rfl : k = 16 := by omega
    refine lv_iload F.1.1 F.1.2.1 dX2_change_3 (lv_at hl 3 rfl) ?_
    refine lv_bipush (v := nI 16) F.1.1 F.1.2.1 dX2_change_5 (by decide) ?_
    refine lv_icmp_ge (tgt := 59) F.1.1 F.1.2.1 dX2_change_7 (by decide) (fun _ => ?_) (fun c9 => absurd (nI_le (by omega) (by omega)) c9)
    exact kk  H locs ls hw (lv_sub hl [0, 1, 2, 3] rfl)
  | succ n ih =>
    intro k hk  H locs ls hw hl
    refine lv_iload F.1.1 F.1.2.1 dX2_change_3 (lv_at hl 3 rfl) ?_
    refine lv_bipush (v := nI 16) F.1.1 F.1.2.1 dX2_change_5 (by decide) ?_
    refine lv_icmp_ge (tgt := 59) F.1.1 F.1.2.1 dX2_change_7 (by decide) (fun c9 => absurd c9 (nI_ge (by omega) (by omega))) (fun _ => ?_)
    refine lv_lload_n F.1.1 F.1.2.1 dX2_change_10 rfl (lv_at hl 2 rfl) ?_
    refine lv_aload_n F.1.1 F.1.2.1 dX2_change_11 rfl (lv_at hl 0 rfl) ?_
    refine kGp F hw i hi q51 dX2_change_12 ?_
    refine lv_iload F.1.1 F.1.2.1 dX2_change_15 (lv_at hl 3 rfl) ?_
    refine kLp F hw i hi k rfl (by omega) dX2_change_17 ?_
    refine lv_aload_n F.1.1 F.1.2.1 dX2_change_18 rfl (lv_at hl 1 rfl) ?_
    refine kGp F hw b hb q51 dX2_change_19 ?_
    refine lv_iload F.1.1 F.1.2.1 dX2_change_22 (lv_at hl 3 rfl) ?_
    refine kLp F hw b hb k rfl (by omega) dX2_change_24 ?_
    refine lv_lxor F.1.1 F.1.2.1 dX2_change_25 ?_
    refine lv_land F.1.1 F.1.2.1 dX2_change_26 ?_
    refine lv_topl (fun t1 et1 => ?_)
    refine lv_lstore (lv' := [(5, .long t1), (0, .ref (ad 1 i)), (1, .ref (ad 1 b)), (2, .long mask), (4, .int (nI k))]) F.1.1 F.1.2.1 dX2_change_27 hl (by decide) rfl (fun ls hl => ?_)
    refine lv_aload_n F.1.1 F.1.2.1 dX2_change_29 rfl (lv_at hl 1 rfl) ?_
    refine kGp F hw i hi q51 dX2_change_30 ?_
    refine lv_iload F.1.1 F.1.2.1 dX2_change_33 (lv_at hl 4 rfl) ?_
    refine lv_dup2_11 F.1.1 F.1.2.1 dX2_change_35 rfl rfl ?_
    refine kLp F hw i hi k rfl (by omega) dX2_change_36 ?_
    refine lv_lload F.1.1 F.1.2.1 dX2_change_37 (lv_at hl 0 rfl) ?_
    refine lv_lxor F.1.1 F.1.2.1 dX2_change_39 ?_
    refine kSp F hw i hi k rfl (by omega) dX2_change_40 (fun H locs hw => ?_)
    refine lv_aload_n F.1.1 F.1.2.1 dX2_change_41 rfl (lv_at hl 2 rfl) ?_
    refine kGp F hw b hb q51 dX2_change_42 ?_
    refine lv_iload F.1.1 F.1.2.1 dX2_change_45 (lv_at hl 4 rfl) ?_
    refine lv_dup2_11 F.1.1 F.1.2.1 dX2_change_47 rfl rfl ?_
    refine kLp F hw b hb k rfl (by omega) dX2_change_48 ?_
    refine lv_lload F.1.1 F.1.2.1 dX2_change_49 (lv_at hl 0 rfl) ?_
    refine lv_lxor F.1.1 F.1.2.1 dX2_change_51 ?_
    refine kSp F hw b hb k rfl (by omega) dX2_change_52 (fun H locs hw => ?_)
    refine lv_iinc (v := nI (k + 1)) (lv' := [(4, .int (nI (k + 1))), (5, .long t1), (0, .ref (ad 1 i)), (1, .ref (ad 1 b)), (2, .long mask)]) F.1.1 F.1.2.1 dX2_change_53 hl (k := 4) rfl (nI_1 _) (by decide) rfl (fun ls hl => ?_)
    refine lv_goto (tgt := 3) F.1.1 F.1.2.1 dX2_change_56 (by decide) ?_
    subst et1
    exact ih (k + 1) (by omega)  _ _ _ (by rw [← chP_s hne]; exact hw) (lv_sub hl [2, 3, 4, 0] rfl)

theorem lp_takeAway (F : kF p m c cX2_takeAway 9 s args RX2 G cJ cI) (i : Nat) (hi : i < 13)
    (kk : ∀ (S : Nat → Nat → Int64) (H : Heap) (locs : List Loc) (ls : Array Slot), (∀ j, j < 16 → S i j = trF (P i) j) → kW G A s H locs (cW cJ ad P S rw X) → lv_has ls 9 [(0, .ref (ad 1 i)), (1, .long (bwF (P i) 16)), (3, .int (lsF (P i) 16)), (4, .int (nI 16))] → W p l e R s m args below meth c H locs cells slots Q (F0 m 101 ls [])) :
    ∀ (n k : Nat), n + k = 16 → ∀ (S : Nat → Nat → Int64) (H : Heap) (locs : List Loc) (ls : Array Slot), (∀ j, j < k → S i j = trF (P i) j) → kW G A s H locs (cW cJ ad P S rw X) → lv_has ls 9 [(0, .ref (ad 1 i)), (1, .long (bwF (P i) k)), (3, .int (lsF (P i) k)), (4, .int (nI k))] → W p l e R s m args below meth c H locs cells slots Q (F0 m 7 ls []) := by
  intro n
  induction n with
  | zero =>
    intro k hk S H locs ls hex hw hl
    obtain rfl : k = 16 := by omega
    refine lv_iload F.1.1 F.1.2.1 dX2_takeAway_7 (lv_at hl 3 rfl) ?_
    refine lv_bipush (v := nI 16) F.1.1 F.1.2.1 dX2_takeAway_9 (by decide) ?_
    refine lv_icmp_ge (tgt := 101) F.1.1 F.1.2.1 dX2_takeAway_11 (by decide) (fun _ => ?_) (fun c9 => absurd (nI_le (by omega) (by omega)) c9)
    exact kk _ H locs ls hex hw (lv_sub hl [0, 1, 2, 3] rfl)
  | succ n ih =>
    intro k hk S H locs ls hex hw hl
    refine lv_iload F.1.1 F.1.2.1 dX2_takeAway_7 (lv_at hl 3 rfl) ?_
    refine lv_bipush (v := nI 16) F.1.1 F.1.2.1 dX2_takeAway_9 (by decide) ?_
    refine lv_icmp_ge (tgt := 101) F.1.1 F.1.2.1 dX2_takeAway_11 (by decide) (fun c9 => absurd c9 (nI_ge (by omega) (by omega))) (fun _ => ?_)
    have J41 : W p l e R s m args below meth c H locs cells slots Q (F0 m 41 ls [.long (pK k)]) := by
      refine lv_lstore (lv' := [(5, .long (pK k)), (0, .ref (ad 1 i)), (1, .long (bwF (P i) k)), (3, .int (lsF (P i) k)), (4, .int (nI k))]) F.1.1 F.1.2.1 dX2_takeAway_41 hl (by decide) rfl (fun ls hl => ?_)
      refine lv_aload_n F.1.1 F.1.2.1 dX2_takeAway_43 rfl (lv_at hl 1 rfl) ?_
      refine kGp F hw i hi q51 dX2_takeAway_44 ?_
      refine lv_iload F.1.1 F.1.2.1 dX2_takeAway_47 (lv_at hl 4 rfl) ?_
      refine kLp F hw i hi k rfl (by omega) dX2_takeAway_49 ?_
      refine lv_lload F.1.1 F.1.2.1 dX2_takeAway_50 (lv_at hl 0 rfl) ?_
      refine lv_lsub F.1.1 F.1.2.1 dX2_takeAway_52 ?_
      refine lv_lload_n F.1.1 F.1.2.1 dX2_takeAway_53 rfl (lv_at hl 2 rfl) ?_
      refine lv_lsub F.1.1 F.1.2.1 dX2_takeAway_54 ?_
      refine lv_topl (fun t1 et1 => ?_)
      refine lv_lstore (lv' := [(7, .long t1), (5, .long (pK k)), (0, .ref (ad 1 i)), (1, .long (bwF (P i) k)), (3, .int (lsF (P i) k)), (4, .int (nI k))]) F.1.1 F.1.2.1 dX2_takeAway_55 hl (by decide) rfl (fun ls hl => ?_)
      have J69 : W p l e R s m args below meth c H locs cells slots Q (F0 m 69 ls [.long (if t1 < 0 then (1 : Int64) else 0)]) := by
        refine lv_lstore_n (lv' := [(1, .long (if t1 < 0 then (1 : Int64) else 0)), (7, .long t1), (5, .long (pK k)), (0, .ref (ad 1 i)), (3, .int (lsF (P i) k)), (4, .int (nI k))]) F.1.1 F.1.2.1 dX2_takeAway_69 rfl hl (by decide) rfl (fun ls hl => ?_)
        refine lv_aload_n F.1.1 F.1.2.1 dX2_takeAway_70 rfl (lv_at hl 3 rfl) ?_
        refine kGs F hw i hi q54 dX2_takeAway_71 ?_
        refine lv_iload F.1.1 F.1.2.1 dX2_takeAway_74 (lv_at hl 5 rfl) ?_
        refine lv_lload F.1.1 F.1.2.1 dX2_takeAway_76 (lv_at hl 1 rfl) ?_
        refine lv_ldc2 (v := 65535) F.1.1 F.1.2.1 F.1.2.2.2.1 (F.1.2.2.2.2 _ q142) dX2_takeAway_78 ?_
        refine lv_land F.1.1 F.1.2.1 dX2_takeAway_81 ?_
        refine kSs F hw i hi k rfl (by omega) dX2_takeAway_82 (fun H locs hw => ?_)
        have J94 : W p l e R s m args below meth c H locs cells slots Q (F0 m 94 ls [.int (if (if t1 < 0 then (1 : Int64) else 0) = 1 then (1 : Int32) else 0)]) := by
          refine lv_istore_n (lv' := [(3, .int (if (if t1 < 0 then (1 : Int64) else 0) = 1 then (1 : Int32) else 0)), (1, .long (if t1 < 0 then (1 : Int64) else 0)), (7, .long t1), (5, .long (pK k)), (0, .ref (ad 1 i)), (4, .int (nI k))]) F.1.1 F.1.2.1 dX2_takeAway_94 rfl hl (by decide) rfl (fun ls hl => ?_)
          refine lv_iinc (v := nI (k + 1)) (lv' := [(4, .int (nI (k + 1))), (3, .int (if (if t1 < 0 then (1 : Int64) else 0) = 1 then (1 : Int32) else 0)), (1, .long (if t1 < 0 then (1 : Int64) else 0)), (7, .long t1), (5, .long (pK k)), (0, .ref (ad 1 i))]) F.1.1 F.1.2.1 dX2_takeAway_95 hl (k := 5) rfl (nI_1 _) (by decide) rfl (fun ls hl => ?_)
          refine lv_goto (tgt := 7) F.1.1 F.1.2.1 dX2_takeAway_98 (by decide) ?_
          subst et1
          exact ih (k + 1) (by omega) _ _ _ _ (ta_ext hex) hw (lv_sub hl [5, 2, 1, 0] rfl)
        refine lv_lload_n F.1.1 F.1.2.1 dX2_takeAway_83 rfl (lv_at hl 0 rfl) ?_
        refine lv_lconst (v := 1) F.1.1 F.1.2.1 dX2_takeAway_84 (by decide) ?_
        refine W.lcmp F.1.1 F.1.2.1 dX2_takeAway_85 ?_
        refine lv_if_ne (tgt := 93) F.1.1 F.1.2.1 dX2_takeAway_86 (by decide) (fun c86 => ?_) (fun c86 => ?_)
        · have c86 := mt (lg_cmp_eq _ _).mpr c86
          refine lv_iconst (v := nI 0) F.1.1 F.1.2.1 dX2_takeAway_93 (by decide) ?_
          exact kTi (by first | exact (if_neg c86).symm | exact (if_pos c86).symm) J94
        · have c86 := (lg_cmp_eq _ _).mp c86
          refine lv_iconst (v := nI 1) F.1.1 F.1.2.1 dX2_takeAway_89 (by decide) ?_
          refine lv_goto (tgt := 94) F.1.1 F.1.2.1 dX2_takeAway_90 (by decide) ?_
          exact kTi (by first | exact (if_neg c86).symm | exact (if_pos c86).symm) J94
      refine lv_lload F.1.1 F.1.2.1 dX2_takeAway_57 (lv_at hl 0 rfl) ?_
      refine lv_lconst (v := 0) F.1.1 F.1.2.1 dX2_takeAway_59 (by decide) ?_
      refine W.lcmp F.1.1 F.1.2.1 dX2_takeAway_60 ?_
      refine lv_if_ge (tgt := 68) F.1.1 F.1.2.1 dX2_takeAway_61 (by decide) (fun c61 => ?_) (fun c61 => ?_)
      · have c61 := (lg_cmp_ge _ _).mp c61
        refine lv_lconst (v := 0) F.1.1 F.1.2.1 dX2_takeAway_68 (by decide) ?_
        exact kTl (by first | exact (if_neg (Int64.not_lt.mpr c61)).symm | exact (if_pos (Int64.not_le.mp c61)).symm) J69
      · have c61 := mt (lg_cmp_ge _ _).mpr c61
        refine lv_lconst (v := 1) F.1.1 F.1.2.1 dX2_takeAway_64 (by decide) ?_
        refine lv_goto (tgt := 69) F.1.1 F.1.2.1 dX2_takeAway_65 (by decide) ?_
        exact kTl (by first | exact (if_neg (Int64.not_lt.mpr c61)).symm | exact (if_pos (Int64.not_le.mp c61)).symm) J69
    refine lv_iload F.1.1 F.1.2.1 dX2_takeAway_14 (lv_at hl 3 rfl) ?_
    refine lv_if_ne (tgt := 25) F.1.1 F.1.2.1 dX2_takeAway_16 (by decide) (fun c16 => ?_) (fun c16 => ?_)
    · refine lv_iload F.1.1 F.1.2.1 dX2_takeAway_25 (lv_at hl 3 rfl) ?_
      refine lv_bipush (v := nI 15) F.1.1 F.1.2.1 dX2_takeAway_27 (by decide) ?_
      refine lv_icmp_ne (tgt := 38) F.1.1 F.1.2.1 dX2_takeAway_29 (by decide) (fun c29 => ?_) (fun c29 => ?_)
      · refine lv_ldc2 (v := 65535) F.1.1 F.1.2.1 F.1.2.2.2.1 (F.1.2.2.2.2 _ q142) dX2_takeAway_38 ?_
        exact kTl (by first | exact pKa (by omega) c16 | exact pKb (by omega) c16 (not_not_intro c29) | exact pKc (by omega) c16 c29) J41
      · refine lv_ldc2 (v := 32767) F.1.1 F.1.2.1 F.1.2.2.2.1 (F.1.2.2.2.2 _ q143) dX2_takeAway_32 ?_
        refine lv_goto (tgt := 41) F.1.1 F.1.2.1 dX2_takeAway_35 (by decide) ?_
        exact kTl (by first | exact pKa (by omega) c16 | exact pKb (by omega) c16 (not_not_intro c29) | exact pKc (by omega) c16 c29) J41
    · refine lv_ldc2 (v := 65517) F.1.1 F.1.2.1 F.1.2.2.2.1 (F.1.2.2.2.2 _ q208) dX2_takeAway_19 ?_
      refine lv_goto (tgt := 41) F.1.1 F.1.2.1 dX2_takeAway_22 (by decide) ?_
      exact kTl (by first | exact pKa (by omega) c16 | exact pKb (by omega) c16 (not_not_intro c29) | exact pKc (by omega) c16 c29) J41

theorem lp_at (F : kF p m c cX2_at 5 s args RX2 G cJ cI) (i : Nat) (hi : i < 13) (q : Nat) (hq : q < 4)
    (kk : ∀  (H : Heap) (locs : List Loc) (ls : Array Slot), kW G A s H locs (cW cJ ad P S rw X) → lv_has ls 5 [(0, .ref (ad 1 i)), (1, .int (nI q)), (2, .long (atF (P i) q 4)), (4, .int (dnI 4 4))] → W p l e R s m args below meth c H locs cells slots Q (F0 m 33 ls [])) :
    ∀ (n z : Nat), n + z = 4 → ∀  (H : Heap) (locs : List Loc) (ls : Array Slot), kW G A s H locs (cW cJ ad P S rw X) → lv_has ls 5 [(0, .ref (ad 1 i)), (1, .int (nI q)), (2, .long (atF (P i) q z)), (4, .int (dnI 4 z))] → W p l e R s m args below meth c H locs cells slots Q (F0 m 5 ls []) := by
  intro n
  induction n with
  | zero =>
    intro z hk  H locs ls hw hl
    obtain rfl : z = 4 := by omega
    refine lv_iload F.1.1 F.1.2.1 dX2_at_5 (lv_at hl 3 rfl) ?_
    refine lv_if_lt (tgt := 33) F.1.1 F.1.2.1 dX2_at_7 (by decide) (fun _ => ?_) (fun c9 => absurd dn_end c9)
    exact kk  H locs ls hw (lv_sub hl [0, 1, 2, 3] rfl)
  | succ n ih =>
    intro z hk  H locs ls hw hl
    refine lv_iload F.1.1 F.1.2.1 dX2_at_5 (lv_at hl 3 rfl) ?_
    refine lv_if_lt (tgt := 33) F.1.1 F.1.2.1 dX2_at_7 (by decide) (fun c9 => absurd c9 (dn_nlt (by omega) (by decide))) (fun _ => ?_)
    rw [dn_lt (by omega)] at hl
    refine lv_lload_n F.1.1 F.1.2.1 dX2_at_10 rfl (lv_at hl 2 rfl) ?_
    refine lv_bipush (v := nI 16) F.1.1 F.1.2.1 dX2_at_11 (by decide) ?_
    refine lv_lshl F.1.1 F.1.2.1 dX2_at_13 (k_lshl16 _) ?_
    refine lv_aload_n F.1.1 F.1.2.1 dX2_at_14 rfl (lv_at hl 0 rfl) ?_
    refine kGp F hw i hi q51 dX2_at_15 ?_
    refine lv_iconst (v := nI 4) F.1.1 F.1.2.1 dX2_at_18 (by decide) ?_
    refine lv_iload_n F.1.1 F.1.2.1 dX2_at_19 rfl (lv_at hl 1 rfl) ?_
    refine lv_imul F.1.1 F.1.2.1 dX2_at_20 ?_
    refine kTi (pk_mul _ _) ?_
    refine lv_iload F.1.1 F.1.2.1 dX2_at_21 (lv_at hl 3 rfl) ?_
    refine lv_iadd F.1.1 F.1.2.1 dX2_at_23 ?_
    refine kTi (nI_add _ _) ?_
    refine kLp F hw i hi (4 * q + (4 - 1 - z)) rfl (by omega) dX2_at_24 ?_
    refine lv_lor F.1.1 F.1.2.1 dX2_at_25 ?_
    refine lv_topl (fun t1 et1 => ?_)
    refine lv_lstore_n (lv' := [(2, .long t1), (0, .ref (ad 1 i)), (1, .int (nI q)), (4, .int (nI (4 - 1 - z)))]) F.1.1 F.1.2.1 dX2_at_26 rfl hl (by decide) rfl (fun ls hl => ?_)
    refine lv_iinc (v := dnI 4 (z + 1)) (lv' := [(4, .int (dnI 4 (z + 1))), (2, .long t1), (0, .ref (ad 1 i)), (1, .int (nI q))]) F.1.1 F.1.2.1 dX2_at_27 hl (k := 3) rfl (dn_s (by omega)) (by decide) rfl (fun ls hl => ?_)
    refine lv_goto (tgt := 5) F.1.1 F.1.2.1 dX2_at_30 (by decide) ?_
    subst et1
    exact ih (z + 1) (by omega)  _ _ _ hw (lv_sub hl [2, 3, 1, 0] rfl)

theorem lp_isZero (F : kF p m c cX2_isZero 4 s args RX2 G cJ cI) (i : Nat) (hi : i < 13)
    (kk : ∀  (H : Heap) (locs : List Loc) (ls : Array Slot), kW G A s H locs (cW cJ ad P S rw X) → lv_has ls 4 [(0, .ref (ad 1 i)), (1, .long (orF (P i) 16)), (3, .int (nI 16))] → W p l e R s m args below meth c H locs cells slots Q (F0 m 25 ls [])) :
    ∀ (n k : Nat), n + k = 16 → ∀  (H : Heap) (locs : List Loc) (ls : Array Slot), kW G A s H locs (cW cJ ad P S rw X) → lv_has ls 4 [(0, .ref (ad 1 i)), (1, .long (orF (P i) k)), (3, .int (nI k))] → W p l e R s m args below meth c H locs cells slots Q (F0 m 4 ls []) := by
  intro n
  induction n with
  | zero =>
    intro k hk  H locs ls hw hl
    obtain rfl : k = 16 := by omega
    refine lv_iload_n F.1.1 F.1.2.1 dX2_isZero_4 rfl (lv_at hl 2 rfl) ?_
    refine lv_bipush (v := nI 16) F.1.1 F.1.2.1 dX2_isZero_5 (by decide) ?_
    refine lv_icmp_ge (tgt := 25) F.1.1 F.1.2.1 dX2_isZero_7 (by decide) (fun _ => ?_) (fun c9 => absurd (nI_le (by omega) (by omega)) c9)
    exact kk  H locs ls hw (lv_sub hl [0, 1, 2] rfl)
  | succ n ih =>
    intro k hk  H locs ls hw hl
    refine lv_iload_n F.1.1 F.1.2.1 dX2_isZero_4 rfl (lv_at hl 2 rfl) ?_
    refine lv_bipush (v := nI 16) F.1.1 F.1.2.1 dX2_isZero_5 (by decide) ?_
    refine lv_icmp_ge (tgt := 25) F.1.1 F.1.2.1 dX2_isZero_7 (by decide) (fun c9 => absurd c9 (nI_ge (by omega) (by omega))) (fun _ => ?_)
    refine lv_lload_n F.1.1 F.1.2.1 dX2_isZero_10 rfl (lv_at hl 1 rfl) ?_
    refine lv_aload_n F.1.1 F.1.2.1 dX2_isZero_11 rfl (lv_at hl 0 rfl) ?_
    refine kGp F hw i hi q51 dX2_isZero_12 ?_
    refine lv_iload_n F.1.1 F.1.2.1 dX2_isZero_15 rfl (lv_at hl 2 rfl) ?_
    refine kLp F hw i hi k rfl (by omega) dX2_isZero_16 ?_
    refine lv_lor F.1.1 F.1.2.1 dX2_isZero_17 ?_
    refine lv_topl (fun t1 et1 => ?_)
    refine lv_lstore_n (lv' := [(1, .long t1), (0, .ref (ad 1 i)), (3, .int (nI k))]) F.1.1 F.1.2.1 dX2_isZero_18 rfl hl (by decide) rfl (fun ls hl => ?_)
    refine lv_iinc (v := nI (k + 1)) (lv' := [(3, .int (nI (k + 1))), (1, .long t1), (0, .ref (ad 1 i))]) F.1.1 F.1.2.1 dX2_isZero_19 hl (k := 2) rfl (nI_1 _) (by decide) rfl (fun ls hl => ?_)
    refine lv_goto (tgt := 4) F.1.1 F.1.2.1 dX2_isZero_22 (by decide) ?_
    subst et1
    exact ih (k + 1) (by omega)  _ _ _ hw (lv_sub hl [2, 1, 0] rfl)

end XD

abbrev rX2_take_2 : Room := { frames := 1, cells := 0, slots := 0, locals := 18 }
/-- Number.take(Number) -/
theorem met_X2_take_2 {l : Launch} {G : va_G} {cJ cI : ClassId} {ad : Nat → Nat → Nat} {P S : Nat → Nat → Int64} {rw : Nat → Int64} {X : CX} {sz : Nat} (i : Nat) (hi : i < 13) (j : Nat) (hj : j < 13) : kMv l yX2_take_2 cX2_take_2 2 rX2_take_2 G cJ cI [.ref (ad 1 i), .ref (ad 1 j)] (cW cJ ad P S rw X) sz (fun _ : Unit => True) (fun _ => cW cJ ad (va_up P i (fl (P i) 16 (P j))) S rw X) := by
  refine kStart (by decide) (Nat.le_of_ble_eq_true rfl) ?_
  intro p e s m below meth c ls F hr hlocks hin hsz hA hw hl
  have hl : lv_has ls 2 [(0, .ref (ad 1 i)), (1, .ref (ad 1 j))] := hl
  refine lv_aload_n F.1.1 F.1.2.1 dX2_take_2_0 rfl (lv_at hl 1 rfl) ?_
  refine kGp F hw j hj q51 dX2_take_2_1 ?_
  refine lv_iconst (v := nI 0) F.1.1 F.1.2.1 dX2_take_2_4 (by decide) ?_
  refine lv_aload_n F.1.1 F.1.2.1 dX2_take_2_5 rfl (lv_at hl 0 rfl) ?_
  refine kGp F hw i hi q51 dX2_take_2_6 ?_
  refine lv_iconst (v := nI 0) F.1.1 F.1.2.1 dX2_take_2_9 (by decide) ?_
  refine lv_bipush (v := nI 16) F.1.1 F.1.2.1 dX2_take_2_10 (by decide) ?_
  refine kCpp F hl.1 hw i hi j hj q148 (Nat.le_of_ble_eq_true rfl) (Nat.le_of_ble_eq_true rfl) dX2_take_2_12 (fun H locs hw => ?_)
  exact kVret F hr hlocks () hw trivial dX2_take_2_15

abbrev rX2_change : Room := { frames := 0, cells := 0, slots := 0, locals := 0 }
/-- Number.change -/
theorem met_X2_change {l : Launch} {G : va_G} {cJ cI : ClassId} {ad : Nat → Nat → Nat} {P S : Nat → Nat → Int64} {rw : Nat → Int64} {X : CX} {sz : Nat} (i b : Nat) (hi : i < 13) (hb : b < 13) (hne : i ≠ b) (mask : Int64) : kMv l yX2_change cX2_change 7 rX2_change G cJ cI [.ref (ad 1 i), .ref (ad 1 b), .long mask] (cW cJ ad P S rw X) sz (fun _ : Unit => True) (fun _ => cW cJ ad (chP P i b mask 16) S rw X) := by
  refine kStart (by decide) (Nat.le_of_ble_eq_true rfl) ?_
  intro p e s m below meth c ls F hr hlocks hin hsz hA hw hl
  have hl : lv_has ls 7 [(0, .ref (ad 1 i)), (1, .ref (ad 1 b)), (2, .long mask)] := hl
  refine lv_iconst (v := nI 0) F.1.1 F.1.2.1 dX2_change_0 (by decide) ?_
  refine lv_istore (lv' := [(4, .int (nI 0)), (0, .ref (ad 1 i)), (1, .ref (ad 1 b)), (2, .long mask)]) F.1.1 F.1.2.1 dX2_change_1 hl (by decide) rfl (fun ls hl => ?_)
  refine lp_change F i b hi hb hne mask (fun  H locs ls hw hl => ?_) 16 0 rfl  _ _ _ (by rw [chP_0]; exact hw) (lv_sub hl [1, 2, 3, 0] rfl)
  exact kVret F hr hlocks () hw trivial dX2_change_59

theorem ta_yes {f : Nat → Int64} (h : ¬ lsF f 16 = 0) : taF f = f := by
  unfold lsF at h
  by_cases e : bwF f 16 = 1
  · unfold taF; rw [if_pos e]
  · rw [if_neg e] at h; exact absurd rfl h
theorem ta_no {f : Nat → Int64} (h : lsF f 16 = 0) : taF f = fl f 16 (trF f) := by
  unfold lsF at h
  by_cases e : bwF f 16 = 1
  · rw [if_pos e] at h; exact absurd h (by decide)
  · unfold taF; rw [if_neg e]

abbrev rX2_takeAway : Room := { frames := 1, cells := 0, slots := 0, locals := 18 }
/-- Number.takeAway -/
theorem met_X2_takeAway {l : Launch} {G : va_G} {cJ cI : ClassId} {ad : Nat → Nat → Nat} {P S : Nat → Nat → Int64} {rw : Nat → Int64} {X : CX} {sz : Nat} (i : Nat) (hi : i < 13) : kMv l yX2_takeAway cX2_takeAway 9 rX2_takeAway G cJ cI [.ref (ad 1 i)] (cW cJ ad P S rw X) sz (fun _ : Nat → Nat → Int64 => True) (fun S => cW cJ ad (va_up P i (taF (P i))) S rw X) := by
  refine kStart (by decide) (Nat.le_of_ble_eq_true rfl) ?_
  intro p e s m below meth c ls F hr hlocks hin hsz hA hw hl
  have hl : lv_has ls 9 [(0, .ref (ad 1 i))] := hl
  refine lv_lconst (v := 0) F.1.1 F.1.2.1 dX2_takeAway_0 (by decide) ?_
  refine lv_lstore_n (lv' := [(1, .long 0), (0, .ref (ad 1 i))]) F.1.1 F.1.2.1 dX2_takeAway_1 rfl hl (by decide) rfl (fun ls hl => ?_)
  refine lv_iconst (v := nI 0) F.1.1 F.1.2.1 dX2_takeAway_2 (by decide) ?_
  refine lv_istore_n (lv' := [(3, .int (nI 0)), (1, .long 0), (0, .ref (ad 1 i))]) F.1.1 F.1.2.1 dX2_takeAway_3 rfl hl (by decide) rfl (fun ls hl => ?_)
  refine lv_iconst (v := nI 0) F.1.1 F.1.2.1 dX2_takeAway_4 (by decide) ?_
  refine lv_istore (lv' := [(4, .int (nI 0)), (3, .int (nI 0)), (1, .long 0), (0, .ref (ad 1 i))]) F.1.1 F.1.2.1 dX2_takeAway_5 hl (by decide) rfl (fun ls hl => ?_)
  refine lp_takeAway F i hi (fun S H locs ls hex hw hl => ?_) 16 0 rfl _ _ _ _ (fun j h9 => absurd h9 (Nat.not_lt_zero j)) hw (lv_sub hl [3, 2, 1, 0] rfl)
  refine lv_iload_n F.1.1 F.1.2.1 dX2_takeAway_101 rfl (lv_at hl 2 rfl) ?_
  refine lv_if_ne (tgt := 120) F.1.1 F.1.2.1 dX2_takeAway_102 (by decide) (fun c102 => ?_) (fun c102 => ?_)
  · exact kVret F hr hlocks _ (by
    first
    | (rw [ta_yes c102, va_up_id]; exact hw)
    | (rw [ta_no c102, ← fl_congr hex]; exact hw)) trivial dX2_takeAway_120
  · refine lv_aload_n F.1.1 F.1.2.1 dX2_takeAway_105 rfl (lv_at hl 0 rfl) ?_
    refine kGs F hw i hi q54 dX2_takeAway_106 ?_
    refine lv_iconst (v := nI 0) F.1.1 F.1.2.1 dX2_takeAway_109 (by decide) ?_
    refine lv_aload_n F.1.1 F.1.2.1 dX2_takeAway_110 rfl (lv_at hl 0 rfl) ?_
    refine kGp F hw i hi q51 dX2_takeAway_111 ?_
    refine lv_iconst (v := nI 0) F.1.1 F.1.2.1 dX2_takeAway_114 (by decide) ?_
    refine lv_bipush (v := nI 16) F.1.1 F.1.2.1 dX2_takeAway_115 (by decide) ?_
    refine kCsp F hl.1 hw i hi q148 (Nat.le_of_ble_eq_true rfl) (Nat.le_of_ble_eq_true rfl) dX2_takeAway_117 (fun H locs hw => ?_)
    exact kVret F hr hlocks _ (by
    first
    | (rw [ta_yes c102, va_up_id]; exact hw)
    | (rw [ta_no c102, ← fl_congr hex]; exact hw)) trivial dX2_takeAway_120

abbrev rX2_close : Room := { frames := 2, cells := 0, slots := 0, locals := 46 }
/-- Number.close -/
theorem met_X2_close {l : Launch} {G : va_G} {cJ cI : ClassId} {ad : Nat → Nat → Nat} {P S : Nat → Nat → Int64} {rw : Nat → Int64} {X : CX} {sz : Nat} (i : Nat) (hi : i < 13) : kMv l yX2_close cX2_close 2 rX2_close G cJ cI [.ref (ad 1 i)] (cW cJ ad P S rw X) sz (fun _ : Nat → Nat → Int64 => True) (fun S => cW cJ ad (va_up P i (clF (P i))) S rw X) := by
  refine kStart (by decide) (Nat.le_of_ble_eq_true rfl) ?_
  intro p e s m below meth c ls F hr hlocks hin hsz hA hw hl
  have hl : lv_has ls 2 [(0, .ref (ad 1 i))] := hl
  refine lv_aload_n F.1.1 F.1.2.1 dX2_close_0 rfl (lv_at hl 0 rfl) ?_
  refine kCv (As := []) F hw hA (met_X2_carry i hi) (cwV 0 F.1.2.2.2.2 (lw_V q203 q185 q186 q23 q187) rfl rfl rfl (by decide +kernel) ⟨Nat.le_of_ble_eq_true rfl, Nat.le_of_ble_eq_true rfl⟩) (cRcN i hi) rfl hl.1 rfl (Nat.le_of_ble_eq_true rfl) dX2_close_1 ⟨Nat.le_of_ble_eq_true rfl, Nat.le_of_ble_eq_true rfl⟩ (fun u H locs hp hw => ?_)
  refine lv_aload_n F.1.1 F.1.2.1 dX2_close_4 rfl (lv_at hl 0 rfl) ?_
  refine kCv (As := []) F hw hA (met_X2_carry i hi) (cwV 0 F.1.2.2.2.2 (lw_V q203 q185 q186 q23 q187) rfl rfl rfl (by decide +kernel) ⟨Nat.le_of_ble_eq_true rfl, Nat.le_of_ble_eq_true rfl⟩) (cRcN i hi) rfl hl.1 rfl (Nat.le_of_ble_eq_true rfl) dX2_close_5 ⟨Nat.le_of_ble_eq_true rfl, Nat.le_of_ble_eq_true rfl⟩ (fun u H locs hp hw => ?_)
  refine lv_aload_n F.1.1 F.1.2.1 dX2_close_8 rfl (lv_at hl 0 rfl) ?_
  refine kCv (As := []) F hw hA (met_X2_carry i hi) (cwV 0 F.1.2.2.2.2 (lw_V q203 q185 q186 q23 q187) rfl rfl rfl (by decide +kernel) ⟨Nat.le_of_ble_eq_true rfl, Nat.le_of_ble_eq_true rfl⟩) (cRcN i hi) rfl hl.1 rfl (Nat.le_of_ble_eq_true rfl) dX2_close_9 ⟨Nat.le_of_ble_eq_true rfl, Nat.le_of_ble_eq_true rfl⟩ (fun u H locs hp hw => ?_)
  refine lv_iconst (v := nI 0) F.1.1 F.1.2.1 dX2_close_12 (by decide) ?_
  refine lv_istore_n (lv' := [(1, .int (nI 0)), (0, .ref (ad 1 i))]) F.1.1 F.1.2.1 dX2_close_13 rfl hl (by decide) rfl (fun ls hl => ?_)
  refine lv_iload_n F.1.1 F.1.2.1 dX2_close_14 rfl (lv_at hl 0 rfl) ?_
  refine lv_iconst (v := nI 2) F.1.1 F.1.2.1 dX2_close_15 (by decide) ?_
  refine lv_icmp_ge (tgt := 29) F.1.1 F.1.2.1 dX2_close_16 (by decide) (fun c9 => absurd c9 (nI_ge (by omega) (by omega))) (fun _ => ?_)
  refine lv_aload_n F.1.1 F.1.2.1 dX2_close_19 rfl (lv_at hl 1 rfl) ?_
  refine kCv (As := []) F hw hA (met_X2_takeAway i hi) (cwV 0 F.1.2.2.2.2 (lw_V q204 q206 qs2 q23 q207) rfl rfl rfl (by decide +kernel) ⟨Nat.le_of_ble_eq_true rfl, Nat.le_of_ble_eq_true rfl⟩) (cRcN i hi) rfl hl.1 rfl (Nat.le_of_ble_eq_true rfl) dX2_close_20 ⟨Nat.le_of_ble_eq_true rfl, Nat.le_of_ble_eq_true rfl⟩ (fun u H locs hp hw => ?_)
  refine lv_iinc (v := nI (0 + 1)) (lv' := [(1, .int (nI (0 + 1))), (0, .ref (ad 1 i))]) F.1.1 F.1.2.1 dX2_close_23 hl (k := 0) rfl (nI_1 _) (by decide) rfl (fun ls hl => ?_)
  refine lv_goto (tgt := 14) F.1.1 F.1.2.1 dX2_close_26 (by decide) ?_
  refine lv_iload_n F.1.1 F.1.2.1 dX2_close_14 rfl (lv_at hl 0 rfl) ?_
  refine lv_iconst (v := nI 2) F.1.1 F.1.2.1 dX2_close_15 (by decide) ?_
  refine lv_icmp_ge (tgt := 29) F.1.1 F.1.2.1 dX2_close_16 (by decide) (fun c9 => absurd c9 (nI_ge (by omega) (by omega))) (fun _ => ?_)
  refine lv_aload_n F.1.1 F.1.2.1 dX2_close_19 rfl (lv_at hl 1 rfl) ?_
  refine kCv (As := []) F hw hA (met_X2_takeAway i hi) (cwV 0 F.1.2.2.2.2 (lw_V q204 q206 qs2 q23 q207) rfl rfl rfl (by decide +kernel) ⟨Nat.le_of_ble_eq_true rfl, Nat.le_of_ble_eq_true rfl⟩) (cRcN i hi) rfl hl.1 rfl (Nat.le_of_ble_eq_true rfl) dX2_close_20 ⟨Nat.le_of_ble_eq_true rfl, Nat.le_of_ble_eq_true rfl⟩ (fun u H locs hp hw => ?_)
  refine lv_iinc (v := nI (0 + 1 + 1)) (lv' := [(1, .int (nI (0 + 1 + 1))), (0, .ref (ad 1 i))]) F.1.1 F.1.2.1 dX2_close_23 hl (k := 0) rfl (nI_1 _) (by decide) rfl (fun ls hl => ?_)
  refine lv_goto (tgt := 14) F.1.1 F.1.2.1 dX2_close_26 (by decide) ?_
  refine lv_iload_n F.1.1 F.1.2.1 dX2_close_14 rfl (lv_at hl 0 rfl) ?_
  refine lv_iconst (v := nI 2) F.1.1 F.1.2.1 dX2_close_15 (by decide) ?_
  refine lv_icmp_ge (tgt := 29) F.1.1 F.1.2.1 dX2_close_16 (by decide) (fun _ => ?_) (fun c9 => absurd (nI_le (by omega) (by omega)) c9)
  exact kVret F hr hlocks _ (by simp only [va_up_self, bx_uu] at hw; exact hw) trivial dX2_close_29

abbrev rX2_at : Room := { frames := 0, cells := 0, slots := 0, locals := 0 }
/-- Number.at -/
theorem met_X2_at {l : Launch} {G : va_G} {cJ cI : ClassId} {ad : Nat → Nat → Nat} {P S : Nat → Nat → Int64} {rw : Nat → Int64} {X : CX} {sz : Nat} (i : Nat) (hi : i < 13) (q : Nat) (hq : q < 4) : kMl l yX2_at cX2_at 5 rX2_at G cJ cI [.ref (ad 1 i), .int (nI q)] (cW cJ ad P S rw X) sz (fun r (_ : Unit) => r = atF (P i) q 4) (fun _ => cW cJ ad P S rw X) := by
  refine kStart (by decide) (Nat.le_of_ble_eq_true rfl) ?_
  intro p e s m below meth c ls F hr hlocks hin hsz hA hw hl
  have hl : lv_has ls 5 [(0, .ref (ad 1 i)), (1, .int (nI q))] := hl
  refine lv_lconst (v := 0) F.1.1 F.1.2.1 dX2_at_0 (by decide) ?_
  refine lv_lstore_n (lv' := [(2, .long 0), (0, .ref (ad 1 i)), (1, .int (nI q))]) F.1.1 F.1.2.1 dX2_at_1 rfl hl (by decide) rfl (fun ls hl => ?_)
  refine lv_iconst (v := nI 3) F.1.1 F.1.2.1 dX2_at_2 (by decide) ?_
  refine lv_istore (lv' := [(4, .int (nI 3)), (2, .long 0), (0, .ref (ad 1 i)), (1, .int (nI q))]) F.1.1 F.1.2.1 dX2_at_3 hl (by decide) rfl (fun ls hl => ?_)
  refine lp_at F i hi q hq (fun  H locs ls hw hl => ?_) 4 0 rfl  _ _ _ hw (lv_sub hl [2, 3, 1, 0] rfl)
  refine lv_lload_n F.1.1 F.1.2.1 dX2_at_33 rfl (lv_at hl 2 rfl) ?_
  exact kLret F hr hlocks () hw rfl dX2_at_34

abbrev rX2_isZero : Room := { frames := 0, cells := 0, slots := 0, locals := 0 }
/-- Number.isZero -/
theorem met_X2_isZero {l : Launch} {G : va_G} {cJ cI : ClassId} {ad : Nat → Nat → Nat} {P S : Nat → Nat → Int64} {rw : Nat → Int64} {X : CX} {sz : Nat} (i : Nat) (hi : i < 13) : kMi l yX2_isZero cX2_isZero 4 .boolean rX2_isZero G cJ cI [.ref (ad 1 i)] (cW cJ ad P S rw X) sz (fun r (_ : Unit) => r = if orF (P i) 16 = 0 then 1 else 0) (fun _ => cW cJ ad P S rw X) := by
  refine kStart (by decide) (Nat.le_of_ble_eq_true rfl) ?_
  intro p e s m below meth c ls F hr hlocks hin hsz hA hw hl
  have hl : lv_has ls 4 [(0, .ref (ad 1 i))] := hl
  refine lv_lconst (v := 0) F.1.1 F.1.2.1 dX2_isZero_0 (by decide) ?_
  refine lv_lstore_n (lv' := [(1, .long 0), (0, .ref (ad 1 i))]) F.1.1 F.1.2.1 dX2_isZero_1 rfl hl (by decide) rfl (fun ls hl => ?_)
  refine lv_iconst (v := nI 0) F.1.1 F.1.2.1 dX2_isZero_2 (by decide) ?_
  refine lv_istore_n (lv' := [(3, .int (nI 0)), (1, .long 0), (0, .ref (ad 1 i))]) F.1.1 F.1.2.1 dX2_isZero_3 rfl hl (by decide) rfl (fun ls hl => ?_)
  refine lp_isZero F i hi (fun  H locs ls hw hl => ?_) 16 0 rfl  _ _ _ hw (lv_sub hl [2, 1, 0] rfl)
  refine lv_lload_n F.1.1 F.1.2.1 dX2_isZero_25 rfl (lv_at hl 1 rfl) ?_
  refine lv_lconst (v := 0) F.1.1 F.1.2.1 dX2_isZero_26 (by decide) ?_
  refine W.lcmp F.1.1 F.1.2.1 dX2_isZero_27 ?_
  refine lv_if_ne (tgt := 35) F.1.1 F.1.2.1 dX2_isZero_28 (by decide) (fun c28 => ?_) (fun c28 => ?_)
  · have c28 := mt (lg_cmp_eq _ _).mpr c28
    refine lv_iconst (v := nI 0) F.1.1 F.1.2.1 dX2_isZero_35 (by decide) ?_
    exact kZret F hr hlocks rfl () hw (by first | (rw [if_pos c28]; rfl) | (rw [if_neg c28]; rfl)) dX2_isZero_36
  · have c28 := (lg_cmp_eq _ _).mp c28
    refine lv_iconst (v := nI 1) F.1.1 F.1.2.1 dX2_isZero_31 (by decide) ?_
    refine lv_goto (tgt := 36) F.1.1 F.1.2.1 dX2_isZero_32 (by decide) ?_
    exact kZret F hr hlocks rfl () hw (by first | (rw [if_pos c28]; rfl) | (rw [if_neg c28]; rfl)) dX2_isZero_36
end
section
/-! ===== LadderDesk$Products: multiply, invert ===== -/
set_option maxRecDepth 100000

def agR (n : Nat) (f g : Nat → Int64) : Prop := ∀ j, j < n → f j = g j
theorem ag_upd {n : Nat} {f g : Nat → Int64} {k : Nat} {v v' : Int64} (h : agR n f g) (hv : v = v') : agR n (vp_updL f k v) (vp_updL g k v') := by
  intro j hj
  by_cases e : j = k
  · simp [vp_updL, e, hv]
  · simp [vp_updL, e, h j hj]
def mulSt (x y : Nat → Int64) (i j : Nat) (r : Nat → Int64) : Nat → Int64 := vp_updL r (i + j) (r (i + j) + x i * y j)
def mulO (x y : Nat → Int64) (i : Nat) (r : Nat → Int64) : Nat → Int64 := it (mulSt x y i) 16 r
/-- all products of places, summed by their place -/
def mulR (x y : Nat → Int64) : Nat → Int64 := it (mulO x y) 16 (fun _ => 0)
def foSt (k : Nat) (r : Nat → Int64) : Nat → Int64 := vp_updL r k (r k + (38 : Int64) * r (k + 16))
def mulF (x y g : Nat → Int64) : Nat → Int64 := carF (carF (fl g 16 (it foSt 15 (mulR x y))))
/-- one turn of Products.invert -/
def invSt (x : Nat → Int64) (z : Nat) (f : Nat → Int64) : Nat → Int64 := if 253 - z = 2 ∨ 253 - z = 4 then mulF f f f else mulF (mulF f f f) x (mulF f f f)
theorem inv_y {x f : Nat → Int64} {z : Nat} (h : 253 - z = 2 ∨ 253 - z = 4) : invSt x z f = mulF f f f := if_pos h
theorem inv_n {x f : Nat → Int64} {z : Nat} (h : ¬ (253 - z = 2 ∨ 253 - z = 4)) : invSt x z f = mulF (mulF f f f) x (mulF f f f) := if_neg h
abbrev rX1_multiply : Room := { frames := 1, cells := 0, slots := 0, locals := 23 }
abbrev rX1_invert : Room := { frames := 2, cells := 0, slots := 0, locals := 48 }

section XE
variable {p : Program} {l : Launch} {e : Env} {R : Room} {s : State} {m : MethodId} {args : Array Value} {below : List Frame} {meth : Method} {c : Code} {cells slots : Nat} {Q : State → Prop}
variable {G : va_G} {cJ cI : ClassId} {A : Nat → Prop} {ad : Nat → Nat → Nat} {P S : Nat → Nat → Int64} {rw : Nat → Int64} {X : CX}

theorem lp_mul0 (F : kF p m c cX1_multiply 6 s args RX1 G cJ cI) (a b t : Nat) (ha : a < 13) (hb : b < 13) (ht : t < 13)
    (kk : ∀  (H : Heap) (locs : List Loc) (ls : Array Slot), kW G A s H locs (cW cJ ad P S (fl rw 31 (fun _ => 0)) X) → lv_has ls 6 [(0, .ref (ad 0 3)), (1, .ref (ad 1 a)), (2, .ref (ad 1 b)), (3, .ref (ad 1 t)), (4, .int (nI 31))] → W p l e R s m args below meth c H locs cells slots Q (F0 m 24 ls [])) :
    ∀ (n k : Nat), n + k = 31 → ∀  (H : Heap) (locs : List Loc) (ls : Array Slot), kW G A s H locs (cW cJ ad P S (fl rw k (fun _ => 0)) X) → lv_has ls 6 [(0, .ref (ad 0 3)), (1, .ref (ad 1 a)), (2, .ref (ad 1 b)), (3, .ref (ad 1 t)), (4, .int (nI k))] → W p l e R s m args below meth c H locs cells slots Q (F0 m 3 ls []) := by
  intro n
  induction n with
  | zero =>
    intro k hk  H locs ls hw hl
    obtain rfl : k = 31 := by omega
    refine lv_iload F.1.1 F.1.2.1 dX1_multiply_3 (lv_at hl 4 rfl) ?_
    refine lv_bipush (v := nI 31) F.1.1 F.1.2.1 dX1_multiply_5 (by decide) ?_
    refine lv_icmp_ge (tgt := 24) F.1.1 F.1.2.1 dX1_multiply_7 (by decide) (fun _ => ?_) (fun c9 => absurd (nI_le (by omega) (by omega)) c9)
    exact kk  H locs ls hw (lv_sub hl [0, 1, 2, 3, 4] rfl)
  | succ n ih =>
    intro k hk  H locs ls hw hl
    refine lv_iload F.1.1 F.1.2.1 dX1_multiply_3 (lv_at hl 4 rfl) ?_
    refine lv_bipush (v := nI 31) F.1.1 F.1.2.1 dX1_multiply_5 (by decide) ?_
    refine lv_icmp_ge (tgt := 24) F.1.1 F.1.2.1 dX1_multiply_7 (by decide) (fun c9 => absurd c9 (nI_ge (by omega) (by omega))) (fun _ => ?_)
    refine lv_aload_n F.1.1 F.1.2.1 dX1_multiply_10 rfl (lv_at hl 0 rfl) ?_
    refine kGr F hw q40 dX1_multiply_11 ?_
    refine lv_iload F.1.1 F.1.2.1 dX1_multiply_14 (lv_at hl 4 rfl) ?_
    refine lv_lconst (v := 0) F.1.1 F.1.2.1 dX1_multiply_16 (by decide) ?_
    refine kSr F hw k rfl (by omega) dX1_multiply_17 (fun H locs hw => ?_)
    refine lv_iinc (v := nI (k + 1)) (lv' := [(4, .int (nI (k + 1))), (0, .ref (ad 0 3)), (1, .ref (ad 1 a)), (2, .ref (ad 1 b)), (3, .ref (ad 1 t))]) F.1.1 F.1.2.1 dX1_multiply_18 hl (k := 4) rfl (nI_1 _) (by decide) rfl (fun ls hl => ?_)
    refine lv_goto (tgt := 3) F.1.1 F.1.2.1 dX1_multiply_21 (by decide) ?_
    exact ih (k + 1) (by omega)  _ _ _ (by rw [← fl_s]; exact hw) (lv_sub hl [1, 2, 3, 4, 0] rfl)

theorem lp_mul1 (F : kF p m c cX1_multiply 6 s args RX1 G cJ cI) (a b t : Nat) (ha : a < 13) (hb : b < 13) (ht : t < 13) (k : Nat) (hk16 : k < 16) (r0 : Nat → Int64)
    (kk : ∀ (rw : Nat → Int64) (H : Heap) (locs : List Loc) (ls : Array Slot), agR 31 rw (it (mulSt (P a) (P b) k) 16 r0) → kW G A s H locs (cW cJ ad P S rw X) → lv_has ls 6 [(0, .ref (ad 0 3)), (1, .ref (ad 1 a)), (2, .ref (ad 1 b)), (3, .ref (ad 1 t)), (4, .int (nI k)), (5, .int (nI 16))] → W p l e R s m args below meth c H locs cells slots Q (F0 m 78 ls [])) :
    ∀ (n z : Nat), n + z = 16 → ∀ (rw : Nat → Int64) (H : Heap) (locs : List Loc) (ls : Array Slot), agR 31 rw (it (mulSt (P a) (P b) k) z r0) → kW G A s H locs (cW cJ ad P S rw X) → lv_has ls 6 [(0, .ref (ad 0 3)), (1, .ref (ad 1 a)), (2, .ref (ad 1 b)), (3, .ref (ad 1 t)), (4, .int (nI k)), (5, .int (nI z))] → W p l e R s m args below meth c H locs cells slots Q (F0 m 37 ls []) := by
  intro n
  induction n with
  | zero =>
    intro z hk rw H locs ls hex hw hl
    obtain rfl : z = 16 := by omega
    refine lv_iload F.1.1 F.1.2.1 dX1_multiply_37 (lv_at hl 5 rfl) ?_
    refine lv_bipush (v := nI 16) F.1.1 F.1.2.1 dX1_multiply_39 (by decide) ?_
    refine lv_icmp_ge (tgt := 78) F.1.1 F.1.2.1 dX1_multiply_41 (by decide) (fun _ => ?_) (fun c9 => absurd (nI_le (by omega) (by omega)) c9)
    exact kk _ H locs ls hex hw (lv_sub hl [0, 1, 2, 3, 4, 5] rfl)
  | succ n ih =>
    intro z hk rw H locs ls hex hw hl
    refine lv_iload F.1.1 F.1.2.1 dX1_multiply_37 (lv_at hl 5 rfl) ?_
    refine lv_bipush (v := nI 16) F.1.1 F.1.2.1 dX1_multiply_39 (by decide) ?_
    refine lv_icmp_ge (tgt := 78) F.1.1 F.1.2.1 dX1_multiply_41 (by decide) (fun c9 => absurd c9 (nI_ge (by omega) (by omega))) (fun _ => ?_)
    refine lv_aload_n F.1.1 F.1.2.1 dX1_multiply_44 rfl (lv_at hl 0 rfl) ?_
    refine kGr F hw q40 dX1_multiply_45 ?_
    refine lv_iload F.1.1 F.1.2.1 dX1_multiply_48 (lv_at hl 4 rfl) ?_
    refine lv_iload F.1.1 F.1.2.1 dX1_multiply_50 (lv_at hl 5 rfl) ?_
    refine lv_iadd F.1.1 F.1.2.1 dX1_multiply_52 ?_
    refine kTi (nI_add _ _) ?_
    refine lv_dup2_11 F.1.1 F.1.2.1 dX1_multiply_53 rfl rfl ?_
    refine kLr F hw (k + z) rfl (by omega) dX1_multiply_54 ?_
    refine lv_aload_n F.1.1 F.1.2.1 dX1_multiply_55 rfl (lv_at hl 1 rfl) ?_
    refine kGpN F hw a ha F.2.2.2.2.2 dX1_multiply_56 ?_
    refine lv_iload F.1.1 F.1.2.1 dX1_multiply_59 (lv_at hl 4 rfl) ?_
    refine kLp F hw a ha k rfl (by omega) dX1_multiply_61 ?_
    refine lv_aload_n F.1.1 F.1.2.1 dX1_multiply_62 rfl (lv_at hl 2 rfl) ?_
    refine kGpN F hw b hb F.2.2.2.2.2 dX1_multiply_63 ?_
    refine lv_iload F.1.1 F.1.2.1 dX1_multiply_66 (lv_at hl 5 rfl) ?_
    refine kLp F hw b hb z rfl (by omega) dX1_multiply_68 ?_
    refine lv_lmul F.1.1 F.1.2.1 dX1_multiply_69 ?_
    refine lv_ladd F.1.1 F.1.2.1 dX1_multiply_70 ?_
    refine kSr F hw (k + z) rfl (by omega) dX1_multiply_71 (fun H locs hw => ?_)
    refine lv_iinc (v := nI (z + 1)) (lv' := [(5, .int (nI (z + 1))), (0, .ref (ad 0 3)), (1, .ref (ad 1 a)), (2, .ref (ad 1 b)), (3, .ref (ad 1 t)), (4, .int (nI k))]) F.1.1 F.1.2.1 dX1_multiply_72 hl (k := 5) rfl (nI_1 _) (by decide) rfl (fun ls hl => ?_)
    refine lv_goto (tgt := 37) F.1.1 F.1.2.1 dX1_multiply_75 (by decide) ?_
    exact ih (z + 1) (by omega) _ _ _ _ (by rw [it_s]; exact ag_upd hex (by rw [hex _ (by omega)])) hw (lv_sub hl [1, 2, 3, 4, 5, 0] rfl)

theorem lp_mul2 (F : kF p m c cX1_multiply 6 s args RX1 G cJ cI) (a b t : Nat) (ha : a < 13) (hb : b < 13) (ht : t < 13)
    (kk : ∀ (rw : Nat → Int64) (H : Heap) (locs : List Loc) (ls : Array Slot), agR 31 rw (it (mulO (P a) (P b)) 16 (fun _ => 0)) → kW G A s H locs (cW cJ ad P S rw X) → lv_has ls 6 [(0, .ref (ad 0 3)), (1, .ref (ad 1 a)), (2, .ref (ad 1 b)), (3, .ref (ad 1 t)), (4, .int (nI 16))] → W p l e R s m args below meth c H locs cells slots Q (F0 m 84 ls [])) :
    ∀ (n k : Nat), n + k = 16 → ∀ (rw : Nat → Int64) (H : Heap) (locs : List Loc) (ls : Array Slot), agR 31 rw (it (mulO (P a) (P b)) k (fun _ => 0)) → kW G A s H locs (cW cJ ad P S rw X) → lv_has ls 6 [(0, .ref (ad 0 3)), (1, .ref (ad 1 a)), (2, .ref (ad 1 b)), (3, .ref (ad 1 t)), (4, .int (nI k))] → W p l e R s m args below meth c H locs cells slots Q (F0 m 27 ls []) := by
  intro n
  induction n with
  | zero =>
    intro k hk rw H locs ls hex hw hl
    obtain rfl : k = 16 := by omega
    refine lv_iload F.1.1 F.1.2.1 dX1_multiply_27 (lv_at hl 4 rfl) ?_
    refine lv_bipush (v := nI 16) F.1.1 F.1.2.1 dX1_multiply_29 (by decide) ?_
    refine lv_icmp_ge (tgt := 84) F.1.1 F.1.2.1 dX1_multiply_31 (by decide) (fun _ => ?_) (fun c9 => absurd (nI_le (by omega) (by omega)) c9)
    exact kk _ H locs ls hex hw (lv_sub hl [0, 1, 2, 3, 4] rfl)
  | succ n ih =>
    intro k hk rw H locs ls hex hw hl
    refine lv_iload F.1.1 F.1.2.1 dX1_multiply_27 (lv_at hl 4 rfl) ?_
    refine lv_bipush (v := nI 16) F.1.1 F.1.2.1 dX1_multiply_29 (by decide) ?_
    refine lv_icmp_ge (tgt := 84) F.1.1 F.1.2.1 dX1_multiply_31 (by decide) (fun c9 => absurd c9 (nI_ge (by omega) (by omega))) (fun _ => ?_)
    refine lv_iconst (v := nI 0) F.1.1 F.1.2.1 dX1_multiply_34 (by decide) ?_
    refine lv_istore (lv' := [(5, .int (nI 0)), (0, .ref (ad 0 3)), (1, .ref (ad 1 a)), (2, .ref (ad 1 b)), (3, .ref (ad 1 t)), (4, .int (nI k))]) F.1.1 F.1.2.1 dX1_multiply_35 hl (by decide) rfl (fun ls hl => ?_)
    refine lp_mul1 F a b t ha hb ht k (by omega) _ (fun rw H locs ls hex hw hl => ?_) 16 0 rfl _ _ _ _ hex hw (lv_sub hl [1, 2, 3, 4, 5, 0] rfl)
    refine lv_iinc (v := nI (k + 1)) (lv' := [(4, .int (nI (k + 1))), (0, .ref (ad 0 3)), (1, .ref (ad 1 a)), (2, .ref (ad 1 b)), (3, .ref (ad 1 t)), (5, .int (nI 16))]) F.1.1 F.1.2.1 dX1_multiply_78 hl (k := 4) rfl (nI_1 _) (by decide) rfl (fun ls hl => ?_)
    refine lv_goto (tgt := 27) F.1.1 F.1.2.1 dX1_multiply_81 (by decide) ?_
    exact ih (k + 1) (by omega) _ _ _ _ hex hw (lv_sub hl [1, 2, 3, 4, 0] rfl)

theorem lp_mul3 (F : kF p m c cX1_multiply 6 s args RX1 G cJ cI) (a b t : Nat) (ha : a < 13) (hb : b < 13) (ht : t < 13) (r0 : Nat → Int64)
    (kk : ∀ (rw : Nat → Int64) (H : Heap) (locs : List Loc) (ls : Array Slot), agR 31 rw (it foSt 15 r0) → kW G A s H locs (cW cJ ad P S rw X) → lv_has ls 6 [(0, .ref (ad 0 3)), (1, .ref (ad 1 a)), (2, .ref (ad 1 b)), (3, .ref (ad 1 t)), (4, .int (nI 15))] → W p l e R s m args below meth c H locs cells slots Q (F0 m 124 ls [])) :
    ∀ (n k : Nat), n + k = 15 → ∀ (rw : Nat → Int64) (H : Heap) (locs : List Loc) (ls : Array Slot), agR 31 rw (it foSt k r0) → kW G A s H locs (cW cJ ad P S rw X) → lv_has ls 6 [(0, .ref (ad 0 3)), (1, .ref (ad 1 a)), (2, .ref (ad 1 b)), (3, .ref (ad 1 t)), (4, .int (nI k))] → W p l e R s m args below meth c H locs cells slots Q (F0 m 87 ls []) := by
  intro n
  induction n with
  | zero =>
    intro k hk rw H locs ls hex hw hl
    obtain rfl : k = 15 := by omega
    refine lv_iload F.1.1 F.1.2.1 dX1_multiply_87 (lv_at hl 4 rfl) ?_
    refine lv_bipush (v := nI 15) F.1.1 F.1.2.1 dX1_multiply_89 (by decide) ?_
    refine lv_icmp_ge (tgt := 124) F.1.1 F.1.2.1 dX1_multiply_91 (by decide) (fun _ => ?_) (fun c9 => absurd (nI_le (by omega) (by omega)) c9)
    exact kk _ H locs ls hex hw (lv_sub hl [0, 1, 2, 3, 4] rfl)
  | succ n ih =>
    intro k hk rw H locs ls hex hw hl
    refine lv_iload F.1.1 F.1.2.1 dX1_multiply_87 (lv_at hl 4 rfl) ?_
    refine lv_bipush (v := nI 15) F.1.1 F.1.2.1 dX1_multiply_89 (by decide) ?_
    refine lv_icmp_ge (tgt := 124) F.1.1 F.1.2.1 dX1_multiply_91 (by decide) (fun c9 => absurd c9 (nI_ge (by omega) (by omega))) (fun _ => ?_)
    refine lv_aload_n F.1.1 F.1.2.1 dX1_multiply_94 rfl (lv_at hl 0 rfl) ?_
    refine kGr F hw q40 dX1_multiply_95 ?_
    refine lv_iload F.1.1 F.1.2.1 dX1_multiply_98 (lv_at hl 4 rfl) ?_
    refine lv_dup2_11 F.1.1 F.1.2.1 dX1_multiply_100 rfl rfl ?_
    refine kLr F hw k rfl (by omega) dX1_multiply_101 ?_
    refine lv_ldc2 (v := 38) F.1.1 F.1.2.1 F.1.2.2.2.1 (F.1.2.2.2.2 _ q182) dX1_multiply_102 ?_
    refine lv_aload_n F.1.1 F.1.2.1 dX1_multiply_105 rfl (lv_at hl 0 rfl) ?_
    refine kGr F hw q40 dX1_multiply_106 ?_
    refine lv_iload F.1.1 F.1.2.1 dX1_multiply_109 (lv_at hl 4 rfl) ?_
    refine lv_bipush (v := nI 16) F.1.1 F.1.2.1 dX1_multiply_111 (by decide) ?_
    refine lv_iadd F.1.1 F.1.2.1 dX1_multiply_113 ?_
    refine kTi (nI_add _ _) ?_
    refine kLr F hw (k + 16) rfl (by omega) dX1_multiply_114 ?_
    refine lv_lmul F.1.1 F.1.2.1 dX1_multiply_115 ?_
    refine lv_ladd F.1.1 F.1.2.1 dX1_multiply_116 ?_
    refine kSr F hw k rfl (by omega) dX1_multiply_117 (fun H locs hw => ?_)
    refine lv_iinc (v := nI (k + 1)) (lv' := [(4, .int (nI (k + 1))), (0, .ref (ad 0 3)), (1, .ref (ad 1 a)), (2, .ref (ad 1 b)), (3, .ref (ad 1 t))]) F.1.1 F.1.2.1 dX1_multiply_118 hl (k := 4) rfl (nI_1 _) (by decide) rfl (fun ls hl => ?_)
    refine lv_goto (tgt := 87) F.1.1 F.1.2.1 dX1_multiply_121 (by decide) ?_
    exact ih (k + 1) (by omega) _ _ _ _ (by rw [it_s]; exact ag_upd hex (by rw [hex _ (by omega), hex _ (by omega)])) hw (lv_sub hl [1, 2, 3, 4, 0] rfl)

end XE

/-- Products.multiply -/
theorem met_X1_multiply {l : Launch} {G : va_G} {cJ cI : ClassId} {ad : Nat → Nat → Nat} {P S : Nat → Nat → Int64} {rw : Nat → Int64} {X : CX} {sz : Nat} (a b t : Nat) (ha : a < 13) (hb : b < 13) (ht : t < 13) : kMv l yX1_multiply cX1_multiply 6 rX1_multiply G cJ cI [.ref (ad 0 3), .ref (ad 1 a), .ref (ad 1 b), .ref (ad 1 t)] (cW cJ ad P S rw X) sz (fun _ : Nat → Int64 => True) (fun rw => cW cJ ad (va_up P t (mulF (P a) (P b) (P t))) S rw X) := by
  refine kStart (by decide) (Nat.le_of_ble_eq_true rfl) ?_
  intro p e s m below meth c ls F hr hlocks hin hsz hA hw hl
  have hl : lv_has ls 6 [(0, .ref (ad 0 3)), (1, .ref (ad 1 a)), (2, .ref (ad 1 b)), (3, .ref (ad 1 t))] := hl
  refine lv_iconst (v := nI 0) F.1.1 F.1.2.1 dX1_multiply_0 (by decide) ?_
  refine lv_istore (lv' := [(4, .int (nI 0)), (0, .ref (ad 0 3)), (1, .ref (ad 1 a)), (2, .ref (ad 1 b)), (3, .ref (ad 1 t))]) F.1.1 F.1.2.1 dX1_multiply_1 hl (by decide) rfl (fun ls hl => ?_)
  refine lp_mul0 F a b t ha hb ht (fun  H locs ls hw hl => ?_) 31 0 rfl  _ _ _ (by rw [fl_0]; exact hw) (lv_sub hl [1, 2, 3, 4, 0] rfl)
  refine lv_iconst (v := nI 0) F.1.1 F.1.2.1 dX1_multiply_24 (by decide) ?_
  refine lv_istore (lv' := [(4, .int (nI 0)), (0, .ref (ad 0 3)), (1, .ref (ad 1 a)), (2, .ref (ad 1 b)), (3, .ref (ad 1 t))]) F.1.1 F.1.2.1 dX1_multiply_25 hl (by decide) rfl (fun ls hl => ?_)
  refine lp_mul2 F a b t ha hb ht (fun rw H locs ls hex hw hl => ?_) 16 0 rfl _ _ _ _ (fun j h9 => by rw [it_0, fl_lt h9]) hw (lv_sub hl [1, 2, 3, 4, 0] rfl)
  refine lv_iconst (v := nI 0) F.1.1 F.1.2.1 dX1_multiply_84 (by decide) ?_
  refine lv_istore (lv' := [(4, .int (nI 0)), (0, .ref (ad 0 3)), (1, .ref (ad 1 a)), (2, .ref (ad 1 b)), (3, .ref (ad 1 t))]) F.1.1 F.1.2.1 dX1_multiply_85 hl (by decide) rfl (fun ls hl => ?_)
  refine lp_mul3 F a b t ha hb ht _ (fun rw H locs ls hex hw hl => ?_) 15 0 rfl _ _ _ _ hex hw (lv_sub hl [1, 2, 3, 4, 0] rfl)
  refine lv_aload_n F.1.1 F.1.2.1 dX1_multiply_124 rfl (lv_at hl 0 rfl) ?_
  refine kGr F hw q40 dX1_multiply_125 ?_
  refine lv_iconst (v := nI 0) F.1.1 F.1.2.1 dX1_multiply_128 (by decide) ?_
  refine lv_aload_n F.1.1 F.1.2.1 dX1_multiply_129 rfl (lv_at hl 3 rfl) ?_
  refine kGpN F hw t ht F.2.2.2.2.2 dX1_multiply_130 ?_
  refine lv_iconst (v := nI 0) F.1.1 F.1.2.1 dX1_multiply_133 (by decide) ?_
  refine lv_bipush (v := nI 16) F.1.1 F.1.2.1 dX1_multiply_134 (by decide) ?_
  refine kCrp F hl.1 hw t ht q183 (Nat.le_of_ble_eq_true rfl) (Nat.le_of_ble_eq_true rfl) dX1_multiply_136 (fun H locs hw => ?_)
  rw [fl_congr (fun j h9 => hex j (by omega))] at hw
  refine lv_aload_n F.1.1 F.1.2.1 dX1_multiply_139 rfl (lv_at hl 3 rfl) ?_
  refine kCv (As := []) F hw hA (met_X2_carry t ht) (cwV 0 F.1.2.2.2.2 (lw_V q184 q185 q186 q23 q187) rfl rfl rfl (by decide +kernel) ⟨Nat.le_of_ble_eq_true rfl, Nat.le_of_ble_eq_true rfl⟩) (cRcN t ht) rfl hl.1 rfl (Nat.le_of_ble_eq_true rfl) dX1_multiply_140 ⟨Nat.le_of_ble_eq_true rfl, Nat.le_of_ble_eq_true rfl⟩ (fun u H locs hp hw => ?_)
  refine lv_aload_n F.1.1 F.1.2.1 dX1_multiply_143 rfl (lv_at hl 3 rfl) ?_
  refine kCv (As := []) F hw hA (met_X2_carry t ht) (cwV 0 F.1.2.2.2.2 (lw_V q184 q185 q186 q23 q187) rfl rfl rfl (by decide +kernel) ⟨Nat.le_of_ble_eq_true rfl, Nat.le_of_ble_eq_true rfl⟩) (cRcN t ht) rfl hl.1 rfl (Nat.le_of_ble_eq_true rfl) dX1_multiply_144 ⟨Nat.le_of_ble_eq_true rfl, Nat.le_of_ble_eq_true rfl⟩ (fun u H locs hp hw => ?_)
  exact kVret F hr hlocks _ (by simp only [va_up_self, bx_uu] at hw; exact hw) trivial dX1_multiply_147

section XG
variable {p : Program} {l : Launch} {e : Env} {R : Room} {s : State} {m : MethodId} {args : Array Value} {below : List Frame} {meth : Method} {c : Code} {cells slots : Nat} {Q : State → Prop}
variable {G : va_G} {cJ cI : ClassId} {A : Nat → Prop} {ad : Nat → Nat → Nat} {P S : Nat → Nat → Int64} {rw : Nat → Int64} {X : CX}

theorem lp_invert (F : kF p m c cX1_invert 5 s args RX1 G cJ cI) (hA : ∀ q : Nat, s.heap.size ≤ q → A q) (hcs : cells ≤ rX1_invert.cells ∧ slots ≤ rX1_invert.slots) (a b t : Nat) (ha : a < 13) (hb : b < 13) (ht : t < 13) (hab : a ≠ b) (f0 : Nat → Int64)
    (kk : ∀ (rw : Nat → Int64) (H : Heap) (locs : List Loc) (ls : Array Slot), kW G A s H locs (cW cJ ad (va_up P b (it (invSt (P a)) 254 f0)) S rw X) → lv_has ls 5 [(0, .ref (ad 0 3)), (1, .ref (ad 1 a)), (2, .ref (ad 1 t)), (3, .ref (ad 1 b)), (4, .int (dnI 254 254))] → W p l e rX1_invert s m args below meth c H locs cells slots Q (F0 m 47 ls [])) :
    ∀ (n z : Nat), n + z = 254 → ∀ (rw : Nat → Int64) (H : Heap) (locs : List Loc) (ls : Array Slot), kW G A s H locs (cW cJ ad (va_up P b (it (invSt (P a)) z f0)) S rw X) → lv_has ls 5 [(0, .ref (ad 0 3)), (1, .ref (ad 1 a)), (2, .ref (ad 1 t)), (3, .ref (ad 1 b)), (4, .int (dnI 254 z))] → W p l e rX1_invert s m args below meth c H locs cells slots Q (F0 m 10 ls []) := by
  intro n
  induction n with
  | zero =>
    intro z hk rw H locs ls hw hl
    obtain rfl : z = 254 := by omega
    refine lv_iload F.1.1 F.1.2.1 dX1_invert_10 (lv_at hl 4 rfl) ?_
    refine lv_if_lt (tgt := 47) F.1.1 F.1.2.1 dX1_invert_12 (by decide) (fun _ => ?_) (fun c9 => absurd dn_end c9)
    exact kk _ H locs ls hw (lv_sub hl [0, 1, 2, 3, 4] rfl)
  | succ n ih =>
    intro z hk rw H locs ls hw hl
    refine lv_iload F.1.1 F.1.2.1 dX1_invert_10 (lv_at hl 4 rfl) ?_
    refine lv_if_lt (tgt := 47) F.1.1 F.1.2.1 dX1_invert_12 (by decide) (fun c9 => absurd c9 (dn_nlt (by omega) (by decide))) (fun _ => ?_)
    rw [dn_lt (by omega)] at hl
    refine lv_aload_n F.1.1 F.1.2.1 dX1_invert_15 rfl (lv_at hl 0 rfl) ?_
    refine lv_aload_n F.1.1 F.1.2.1 dX1_invert_16 rfl (lv_at hl 3 rfl) ?_
    refine lv_aload_n F.1.1 F.1.2.1 dX1_invert_17 rfl (lv_at hl 3 rfl) ?_
    refine lv_aload_n F.1.1 F.1.2.1 dX1_invert_18 rfl (lv_at hl 3 rfl) ?_
    refine kCv (As := [.ref (ad 1 b), .ref (ad 1 b), .ref (ad 1 b)]) F hw hA (met_X1_multiply b b b hb hb hb) (cwV 3 F.1.2.2.2.2 (lw_V q198 q179 q180 q22 q181) rfl rfl rfl (by decide +kernel) ⟨Nat.le_of_ble_eq_true rfl, Nat.le_of_ble_eq_true rfl⟩) cRcP rfl hl.1 rfl (Nat.le_of_ble_eq_true rfl) dX1_invert_19 hcs (fun rw H locs hp hw => ?_)
    refine lv_iload F.1.1 F.1.2.1 dX1_invert_22 (lv_at hl 4 rfl) ?_
    refine lv_iconst (v := nI 2) F.1.1 F.1.2.1 dX1_invert_24 (by decide) ?_
    refine lv_icmp_eq (tgt := 41) F.1.1 F.1.2.1 dX1_invert_25 (by decide) (fun c25 => ?_) (fun c25 => ?_)
    · try have c25 : 253 - z = 2 ∨ 253 - z = 4 := Or.inl (by have h9 := (nI_eq (by omega) (by omega)).mp c25; omega)
      try have c31 : 253 - z = 2 ∨ 253 - z = 4 := Or.inr (by have h9 := (nI_eq (by omega) (by omega)).mp c31; omega)
      refine lv_iinc (v := dnI 254 (z + 1)) (lv' := [(4, .int (dnI 254 (z + 1))), (0, .ref (ad 0 3)), (1, .ref (ad 1 a)), (2, .ref (ad 1 t)), (3, .ref (ad 1 b))]) F.1.1 F.1.2.1 dX1_invert_41 hl (k := 4) rfl (dn_s (by omega)) (by decide) rfl (fun ls hl => ?_)
      refine lv_goto (tgt := 10) F.1.1 F.1.2.1 dX1_invert_44 (by decide) ?_
      exact ih (z + 1) (by omega) _ _ _ _ (by
        rw [it_s]
        simp only [va_up_self, bx_uu, va_up_ne _ _ hab] at hw
        first
        | (rw [inv_y c25]; exact hw)
        | (rw [inv_y c31]; exact hw)
        | (rw [inv_n (fun h9 => h9.elim c25 c31)]; exact hw)) (lv_sub hl [1, 2, 3, 4, 0] rfl)
    · refine lv_iload F.1.1 F.1.2.1 dX1_invert_28 (lv_at hl 4 rfl) ?_
      refine lv_iconst (v := nI 4) F.1.1 F.1.2.1 dX1_invert_30 (by decide) ?_
      refine lv_icmp_eq (tgt := 41) F.1.1 F.1.2.1 dX1_invert_31 (by decide) (fun c31 => ?_) (fun c31 => ?_)
      · try have c25 : 253 - z = 2 ∨ 253 - z = 4 := Or.inl (by have h9 := (nI_eq (by omega) (by omega)).mp c25; omega)
        try have c31 : 253 - z = 2 ∨ 253 - z = 4 := Or.inr (by have h9 := (nI_eq (by omega) (by omega)).mp c31; omega)
        refine lv_iinc (v := dnI 254 (z + 1)) (lv' := [(4, .int (dnI 254 (z + 1))), (0, .ref (ad 0 3)), (1, .ref (ad 1 a)), (2, .ref (ad 1 t)), (3, .ref (ad 1 b))]) F.1.1 F.1.2.1 dX1_invert_41 hl (k := 4) rfl (dn_s (by omega)) (by decide) rfl (fun ls hl => ?_)
        refine lv_goto (tgt := 10) F.1.1 F.1.2.1 dX1_invert_44 (by decide) ?_
        exact ih (z + 1) (by omega) _ _ _ _ (by
        rw [it_s]
        simp only [va_up_self, bx_uu, va_up_ne _ _ hab] at hw
        first
        | (rw [inv_y c25]; exact hw)
        | (rw [inv_y c31]; exact hw)
        | (rw [inv_n (fun h9 => h9.elim c25 c31)]; exact hw)) (lv_sub hl [1, 2, 3, 4, 0] rfl)
      · refine lv_aload_n F.1.1 F.1.2.1 dX1_invert_34 rfl (lv_at hl 0 rfl) ?_
        refine lv_aload_n F.1.1 F.1.2.1 dX1_invert_35 rfl (lv_at hl 3 rfl) ?_
        refine lv_aload_n F.1.1 F.1.2.1 dX1_invert_36 rfl (lv_at hl 1 rfl) ?_
        refine lv_aload_n F.1.1 F.1.2.1 dX1_invert_37 rfl (lv_at hl 3 rfl) ?_
        have c25 : ¬ 253 - z = 2 := fun h9 => c25 (congrArg nI (show 254 - 1 - z = 2 by omega))
        have c31 : ¬ 253 - z = 4 := fun h9 => c31 (congrArg nI (show 254 - 1 - z = 4 by omega))
        refine kCv (As := [.ref (ad 1 b), .ref (ad 1 a), .ref (ad 1 b)]) F hw hA (met_X1_multiply b a b hb ha hb) (cwV 3 F.1.2.2.2.2 (lw_V q198 q179 q180 q22 q181) rfl rfl rfl (by decide +kernel) ⟨Nat.le_of_ble_eq_true rfl, Nat.le_of_ble_eq_true rfl⟩) cRcP rfl hl.1 rfl (Nat.le_of_ble_eq_true rfl) dX1_invert_38 hcs (fun rw H locs hp hw => ?_)
        try have c25 : 253 - z = 2 ∨ 253 - z = 4 := Or.inl (by have h9 := (nI_eq (by omega) (by omega)).mp c25; omega)
        try have c31 : 253 - z = 2 ∨ 253 - z = 4 := Or.inr (by have h9 := (nI_eq (by omega) (by omega)).mp c31; omega)
        refine lv_iinc (v := dnI 254 (z + 1)) (lv' := [(4, .int (dnI 254 (z + 1))), (0, .ref (ad 0 3)), (1, .ref (ad 1 a)), (2, .ref (ad 1 t)), (3, .ref (ad 1 b))]) F.1.1 F.1.2.1 dX1_invert_41 hl (k := 4) rfl (dn_s (by omega)) (by decide) rfl (fun ls hl => ?_)
        refine lv_goto (tgt := 10) F.1.1 F.1.2.1 dX1_invert_44 (by decide) ?_
        exact ih (z + 1) (by omega) _ _ _ _ (by
        rw [it_s]
        simp only [va_up_self, bx_uu, va_up_ne _ _ hab] at hw
        first
        | (rw [inv_y c25]; exact hw)
        | (rw [inv_y c31]; exact hw)
        | (rw [inv_n (fun h9 => h9.elim c25 c31)]; exact hw)) (lv_sub hl [1, 2, 3, 4, 0] rfl)

end XG

/-- Products.invert: the power, out of x -/
def invF (x g : Nat → Int64) : Nat → Int64 := it (invSt x) 254 (fl g 16 x)

/-- Products.invert -/
theorem met_X1_invert {l : Launch} {G : va_G} {cJ cI : ClassId} {ad : Nat → Nat → Nat} {P S : Nat → Nat → Int64} {rw : Nat → Int64} {X : CX} {sz : Nat} (a b t : Nat) (ha : a < 13) (hb : b < 13) (ht : t < 13) (hab : a ≠ b) (htb : t ≠ b) : kMv l yX1_invert cX1_invert 5 rX1_invert G cJ cI [.ref (ad 0 3), .ref (ad 1 a), .ref (ad 1 t), .ref (ad 1 b)] (cW cJ ad P S rw X) sz (fun _ : Nat → Int64 => True) (fun rw => cW cJ ad (va_up (va_up P b (invF (P a) (P b))) t (fl (P t) 16 (invF (P a) (P b)))) S rw X) := by
  refine kStart (by decide) (Nat.le_of_ble_eq_true rfl) ?_
  intro p e s m below meth c ls F hr hlocks hin hsz hA hw hl
  have hl : lv_has ls 5 [(0, .ref (ad 0 3)), (1, .ref (ad 1 a)), (2, .ref (ad 1 t)), (3, .ref (ad 1 b))] := hl
  refine lv_aload_n F.1.1 F.1.2.1 dX1_invert_0 rfl (lv_at hl 3 rfl) ?_
  refine lv_aload_n F.1.1 F.1.2.1 dX1_invert_1 rfl (lv_at hl 1 rfl) ?_
  refine kCv (As := [.ref (ad 1 a)]) F hw hA (met_X2_take_2 b hb a ha) (cwV 1 F.1.2.2.2.2 (lw_V q197 q145 q146 q23 q147) rfl rfl rfl (by decide +kernel) ⟨Nat.le_of_ble_eq_true rfl, Nat.le_of_ble_eq_true rfl⟩) (cRcN b hb) rfl hl.1 rfl (Nat.le_of_ble_eq_true rfl) dX1_invert_2 ⟨Nat.le_of_ble_eq_true rfl, Nat.le_of_ble_eq_true rfl⟩ (fun u H locs hp hw => ?_)
  refine lv_sipush (v := nI 253) F.1.1 F.1.2.1 dX1_invert_5 (by decide) ?_
  refine lv_istore (lv' := [(4, .int (nI 253)), (0, .ref (ad 0 3)), (1, .ref (ad 1 a)), (2, .ref (ad 1 t)), (3, .ref (ad 1 b))]) F.1.1 F.1.2.1 dX1_invert_8 hl (by decide) rfl (fun ls hl => ?_)
  refine lp_invert F hA ⟨Nat.le_of_ble_eq_true rfl, Nat.le_of_ble_eq_true rfl⟩ a b t ha hb ht hab _ (fun rw H locs ls hw hl => ?_) 254 0 rfl _ _ _ _ hw (lv_sub hl [1, 2, 3, 4, 0] rfl)
  refine lv_aload_n F.1.1 F.1.2.1 dX1_invert_47 rfl (lv_at hl 2 rfl) ?_
  refine lv_aload_n F.1.1 F.1.2.1 dX1_invert_48 rfl (lv_at hl 3 rfl) ?_
  refine kCv (As := [.ref (ad 1 b)]) F hw hA (met_X2_take_2 t ht b hb) (cwV 1 F.1.2.2.2.2 (lw_V q197 q145 q146 q23 q147) rfl rfl rfl (by decide +kernel) ⟨Nat.le_of_ble_eq_true rfl, Nat.le_of_ble_eq_true rfl⟩) (cRcN t ht) rfl hl.1 rfl (Nat.le_of_ble_eq_true rfl) dX1_invert_49 ⟨Nat.le_of_ble_eq_true rfl, Nat.le_of_ble_eq_true rfl⟩ (fun u H locs hp hw => ?_)
  exact kVret F hr hlocks _ (by simp only [va_up_self, va_up_ne _ _ htb] at hw; exact hw) trivial dX1_invert_52
end
section
/-! ===== LadderDesk: contracts of all but its constructor ===== -/
set_option maxRecDepth 100000

/-! what the methods of Number and Products do to P -/
def setP (i : Nat) (v : Int64) (P : Nat → Nat → Int64) : Nat → Nat → Int64 := va_up P i (setF (P i) v)
def tlP (i : Nat) (Ls : Nat → Int64) (P : Nat → Nat → Int64) : Nat → Nat → Int64 := va_up P i (tlF (P i) Ls)
def tkP (i j : Nat) (P : Nat → Nat → Int64) : Nat → Nat → Int64 := va_up P i (fl (P i) 16 (P j))
def aP (i a b : Nat) (P : Nat → Nat → Int64) : Nat → Nat → Int64 := va_up P i (fl (P i) 16 (fun j => P a j + P b j))
def sP (i a b : Nat) (P : Nat → Nat → Int64) : Nat → Nat → Int64 := va_up P i (fl (P i) 16 (fun j => P a j - P b j))
def mP (a b t : Nat) (P : Nat → Nat → Int64) : Nat → Nat → Int64 := va_up P t (mulF (P a) (P b) (P t))
def cP (i b : Nat) (mask : Int64) (P : Nat → Nat → Int64) : Nat → Nat → Int64 := chP P i b mask 16
def clP (i : Nat) (P : Nat → Nat → Int64) : Nat → Nat → Int64 := va_up P i (clF (P i))
def invP (a t b : Nat) (P : Nat → Nat → Int64) : Nat → Nat → Int64 := va_up (va_up P b (invF (P a) (P b))) t (fl (P t) 16 (invF (P a) (P b)))
section DM
variable {l : Launch} {G : va_G} {cJ cI : ClassId} {ad : Nat → Nat → Nat} {P S : Nat → Nat → Int64} {rw : Nat → Int64} {X : CX} {sz : Nat}
theorem n_set (i : Nat) (hi : i < 13) (v : Int32) : kMv l yX2_set cX2_set 3 rX2_set G cJ cI [.ref (ad 1 i), .int v] (cW cJ ad P S rw X) sz (fun _ : Unit => True) (fun _ => cW cJ ad (setP i v.toInt64 P) S rw X) := met_X2_set i hi v
theorem n_tl (i : Nat) (hi : i < 13) : kMv l yX2_take cX2_take 3 rX2_take G cJ cI [.ref (ad 1 i), .ref (ad 0 2)] (cW cJ ad P S rw X) sz (fun _ : Unit => True) (fun _ => cW cJ ad (tlP i X.2.1 P) S rw X) := met_X2_take i hi
theorem n_tk (i j : Nat) (hi : i < 13) (hj : j < 13) : kMv l yX2_take_2 cX2_take_2 2 rX2_take_2 G cJ cI [.ref (ad 1 i), .ref (ad 1 j)] (cW cJ ad P S rw X) sz (fun _ : Unit => True) (fun _ => cW cJ ad (tkP i j P) S rw X) := met_X2_take_2 i hi j hj
theorem n_add (i a b : Nat) (hi : i < 13) (ha : a < 13) (hb : b < 13) : kMv l yX2_add cX2_add 4 rX2_add G cJ cI [.ref (ad 1 i), .ref (ad 1 a), .ref (ad 1 b)] (cW cJ ad P S rw X) sz (fun _ : Unit => True) (fun _ => cW cJ ad (aP i a b P) S rw X) := met_X2_add i a b hi ha hb
theorem n_sub (i a b : Nat) (hi : i < 13) (ha : a < 13) (hb : b < 13) : kMv l yX2_subtract cX2_subtract 4 rX2_subtract G cJ cI [.ref (ad 1 i), .ref (ad 1 a), .ref (ad 1 b)] (cW cJ ad P S rw X) sz (fun _ : Unit => True) (fun _ => cW cJ ad (sP i a b P) S rw X) := met_X2_subtract i a b hi ha hb
theorem n_chg (i b : Nat) (hi : i < 13) (hb : b < 13) (hne : i ≠ b) (mask : Int64) : kMv l yX2_change cX2_change 7 rX2_change G cJ cI [.ref (ad 1 i), .ref (ad 1 b), .long mask] (cW cJ ad P S rw X) sz (fun _ : Unit => True) (fun _ => cW cJ ad (cP i b mask P) S rw X) := met_X2_change i b hi hb hne mask
theorem n_close (i : Nat) (hi : i < 13) : kMv l yX2_close cX2_close 2 rX2_close G cJ cI [.ref (ad 1 i)] (cW cJ ad P S rw X) sz (fun _ : Nat → Nat → Int64 => True) (fun S => cW cJ ad (clP i P) S rw X) := met_X2_close i hi
theorem n_mul (a b t : Nat) (ha : a < 13) (hb : b < 13) (ht : t < 13) : kMv l yX1_multiply cX1_multiply 6 rX1_multiply G cJ cI [.ref (ad 0 3), .ref (ad 1 a), .ref (ad 1 b), .ref (ad 1 t)] (cW cJ ad P S rw X) sz (fun _ : Nat → Int64 => True) (fun rw => cW cJ ad (mP a b t P) S rw X) := met_X1_multiply a b t ha hb ht
theorem n_inv (a t b : Nat) (ha : a < 13) (ht : t < 13) (hb : b < 13) (hab : a ≠ b) (htb : t ≠ b) : kMv l yX1_invert cX1_invert 5 rX1_invert G cJ cI [.ref (ad 0 3), .ref (ad 1 a), .ref (ad 1 t), .ref (ad 1 b)] (cW cJ ad P S rw X) sz (fun _ : Nat → Int64 => True) (fun rw => cW cJ ad (invP a t b P) S rw X) := met_X1_invert a b t ha hb ht hab htb
end DM
/-! the desk's own -/
def isL (k : Int32) : Int32 := if k < 0 then 0 else if nI 4 ≤ k then 0 else 1
theorem isL_in {k : Int32} (h : ¬ isL k = 0) : ∃ q : Nat, q < 4 ∧ k = nI q := by
  unfold isL at h
  by_cases h1 : k < 0
  · rw [if_pos h1] at h; exact absurd rfl h
  by_cases h2 : nI 4 ≤ k
  · rw [if_neg h1, if_pos h2] at h; exact absurd rfl h
  · obtain ⟨j, hj, rfl⟩ := nI_of h1
    exact ⟨j, Nat.lt_of_not_le (fun h9 => h2 (nI_le h9 hj)), rfl⟩
theorem isL_nI {q : Nat} (h : q < 4) : isL (nI q) = 1 := by
  unfold isL
  rw [if_neg (nI_pos (by omega)), if_neg (nI_ge h (by omega))]
/-- a long of the clamped scalar -/
def claF (sc : Nat → Int64) (q : Nat) : Int64 := if q = 0 then sc 0 &&& (-8) else if q = 3 then sc 3 &&& 9223372036854775807 ||| 4611686018427387904 else sc q
/-- the mask of the step that comes behind n steps -/
def mkF (sc : Nat → Int64) (n : Nat) : Int64 := -(((claF sc ((254 - n) / 2 ^ 6)).toUInt64 >>> ((nI ((254 - n) % 2 ^ 6)).toInt64.toUInt64 &&& Int64.toUInt64 63)).toInt64 &&& 1)
def startP (pt : Nat → Int64) (P : Nat → Nat → Int64) : Nat → Nat → Int64 := setP 4 (nI 1).toInt64 (tkP 3 0 (setP 2 (nI 0).toInt64 (setP 1 (nI 1).toInt64 (tlP 0 pt P))))
def stepP (mask : Int64) (P : Nat → Nat → Int64) : Nat → Nat → Int64 := cP 2 4 mask (cP 1 3 mask (mP 4 0 4 (mP 4 4 4 (sP 4 8 7 (mP 3 3 3 (aP 3 8 7 (mP 2 9 2 (aP 2 2 5 (mP 9 10 2 (sP 9 5 6 (mP 5 6 1 (mP 6 6 6 (mP 5 5 5 (mP 7 6 7 (mP 8 5 8 (sP 8 3 4 (aP 7 3 4 (sP 6 1 2 (aP 5 1 2 (cP 2 4 mask (cP 1 3 mask P)))))))))))))))))))))
def stepsP (sc : Nat → Int64) (a j : Nat) (P : Nat → Nat → Int64) : Nat → Nat → Int64 := it (fun n P => stepP (mkF sc (a + n)) P) j P
def finP (P : Nat → Nat → Int64) : Nat → Nat → Int64 := clP 11 (mP 11 1 11 (invP 2 11 5 P))
def whN (q : Nat) : Nat := if q = 0 then 1 else if q = 1 then 2 else if q = 2 then 3 else if q = 3 then 4 else 0
def shF (w q : Nat) (P : Nat → Nat → Int64) : Int64 := atF (clP 12 (tkP 12 w P) 12) q 4
def tdF (q : Nat) (pt : Nat → Int64) (P : Nat → Nat → Int64) : Int64 := atF (clP 12 (tlP 12 pt P) 12) q 4

abbrev rX0_isLong : Room := { frames := 0, cells := 0, slots := 0, locals := 0 }
/-- isLong -/
theorem met_X0_isLong {l : Launch} {G : va_G} {cJ cI : ClassId} {w : va_W} {sz : Nat} (k : Int32) : kMi l yX0_isLong cX0_isLong 1 .boolean rX0_isLong G cJ cI [.int k] (w) sz (fun r (_ : Unit) => r = isL k) (fun _ => w) := by
  refine kStart (by decide) (Nat.le_of_ble_eq_true rfl) ?_
  intro p e s m below meth c ls F hr hlocks hin hsz hA hw hl
  have hl : lv_has ls 1 [(0, .int k)] := hl
  refine lv_iload_n F.1.1 F.1.2.1 dX0_isLong_0 rfl (lv_at hl 0 rfl) ?_
  refine lv_if_lt (tgt := 13) F.1.1 F.1.2.1 dX0_isLong_1 (by decide) (fun c1 => ?_) (fun c1 => ?_)
  · refine lv_iconst (v := nI 0) F.1.1 F.1.2.1 dX0_isLong_13 (by decide) ?_
    exact kZret F hr hlocks rfl () hw (by first | (unfold isL; rw [if_pos c1]; rfl) | (unfold isL; rw [if_neg c1, if_pos c6]; rfl) | (unfold isL; rw [if_neg c1, if_neg c6]; rfl)) dX0_isLong_14
  · refine lv_iload_n F.1.1 F.1.2.1 dX0_isLong_4 rfl (lv_at hl 0 rfl) ?_
    refine lv_iconst (v := nI 4) F.1.1 F.1.2.1 dX0_isLong_5 (by decide) ?_
    refine lv_icmp_ge (tgt := 13) F.1.1 F.1.2.1 dX0_isLong_6 (by decide) (fun c6 => ?_) (fun c6 => ?_)
    · refine lv_iconst (v := nI 0) F.1.1 F.1.2.1 dX0_isLong_13 (by decide) ?_
      exact kZret F hr hlocks rfl () hw (by first | (unfold isL; rw [if_pos c1]; rfl) | (unfold isL; rw [if_neg c1, if_pos c6]; rfl) | (unfold isL; rw [if_neg c1, if_neg c6]; rfl)) dX0_isLong_14
    · refine lv_iconst (v := nI 1) F.1.1 F.1.2.1 dX0_isLong_9 (by decide) ?_
      refine lv_goto (tgt := 14) F.1.1 F.1.2.1 dX0_isLong_10 (by decide) ?_
      exact kZret F hr hlocks rfl () hw (by first | (unfold isL; rw [if_pos c1]; rfl) | (unfold isL; rw [if_neg c1, if_pos c6]; rfl) | (unfold isL; rw [if_neg c1, if_neg c6]; rfl)) dX0_isLong_14

abbrev rX0_clamped : Room := { frames := 0, cells := 0, slots := 0, locals := 0 }
/-- clamped -/
theorem met_X0_clamped {l : Launch} {G : va_G} {cJ cI : ClassId} {ad : Nat → Nat → Nat} {P S : Nat → Nat → Int64} {rw : Nat → Int64} {sc pt : Nat → Int64} {ph md rs : Int32} {sz : Nat} (q : Nat) (hq : q < 4) : kMl l yX0_clamped cX0_clamped 2 rX0_clamped G cJ cI [.ref (ad 0 0), .int (nI q)] (cW cJ ad P S rw ((sc, pt, ph, md, rs))) sz (fun r (_ : Unit) => r = claF sc q) (fun _ => cW cJ ad P S rw ((sc, pt, ph, md, rs))) := by
  refine kStart (by decide) (Nat.le_of_ble_eq_true rfl) ?_
  intro p e s m below meth c ls F hr hlocks hin hsz hA hw hl
  have hl : lv_has ls 2 [(0, .ref (ad 0 0)), (1, .int (nI q))] := hl
  rcases (show q = 0 ∨ q = 1 ∨ q = 2 ∨ q = 3 by omega) with rfl | rfl | rfl | rfl
  · refine lv_iload_n F.1.1 F.1.2.1 dX0_clamped_0 rfl (lv_at hl 1 rfl) ?_
    refine lv_if_ne (tgt := 17) F.1.1 F.1.2.1 dX0_clamped_1 (by decide) (fun c9 => absurd (kz0 (by omega)) c9) (fun _ => ?_)
    refine lv_aload_n F.1.1 F.1.2.1 dX0_clamped_4 rfl (lv_at hl 0 rfl) ?_
    refine kGd (v := .ref (ad 0 1)) F hw 0 (by decide) rfl q65 (fun _ h9 => h9) dX0_clamped_5 ?_
    refine lv_iconst (v := nI 0) F.1.1 F.1.2.1 dX0_clamped_8 (by decide) ?_
    refine kLc F hw 0 rfl (by omega) dX0_clamped_9 ?_
    refine lv_ldc2 (v := -8) F.1.1 F.1.2.1 F.1.2.2.2.1 (F.1.2.2.2.2 _ q163) dX0_clamped_10 ?_
    refine lv_land F.1.1 F.1.2.1 dX0_clamped_13 ?_
    refine lv_goto (tgt := 45) F.1.1 F.1.2.1 dX0_clamped_14 (by decide) ?_
    exact kLret F hr hlocks () hw rfl dX0_clamped_45
  · refine lv_iload_n F.1.1 F.1.2.1 dX0_clamped_0 rfl (lv_at hl 1 rfl) ?_
    refine lv_if_ne (tgt := 17) F.1.1 F.1.2.1 dX0_clamped_1 (by decide) (fun _ => ?_) (fun c9 => absurd c9 (nI_ne0 (by omega) (by omega)))
    refine lv_iload_n F.1.1 F.1.2.1 dX0_clamped_17 rfl (lv_at hl 1 rfl) ?_
    refine lv_iconst (v := nI 3) F.1.1 F.1.2.1 dX0_clamped_18 (by decide) ?_
    refine lv_icmp_ne (tgt := 39) F.1.1 F.1.2.1 dX0_clamped_19 (by decide) (fun _ => ?_) (fun c9 => absurd c9 (kne (by omega) (by omega) (by omega)))
    refine lv_aload_n F.1.1 F.1.2.1 dX0_clamped_39 rfl (lv_at hl 0 rfl) ?_
    refine kGd (v := .ref (ad 0 1)) F hw 0 (by decide) rfl q65 (fun _ h9 => h9) dX0_clamped_40 ?_
    refine lv_iload_n F.1.1 F.1.2.1 dX0_clamped_43 rfl (lv_at hl 1 rfl) ?_
    refine kLc F hw 1 rfl (by omega) dX0_clamped_44 ?_
    exact kLret F hr hlocks () hw rfl dX0_clamped_45
  · refine lv_iload_n F.1.1 F.1.2.1 dX0_clamped_0 rfl (lv_at hl 1 rfl) ?_
    refine lv_if_ne (tgt := 17) F.1.1 F.1.2.1 dX0_clamped_1 (by decide) (fun _ => ?_) (fun c9 => absurd c9 (nI_ne0 (by omega) (by omega)))
    refine lv_iload_n F.1.1 F.1.2.1 dX0_clamped_17 rfl (lv_at hl 1 rfl) ?_
    refine lv_iconst (v := nI 3) F.1.1 F.1.2.1 dX0_clamped_18 (by decide) ?_
    refine lv_icmp_ne (tgt := 39) F.1.1 F.1.2.1 dX0_clamped_19 (by decide) (fun _ => ?_) (fun c9 => absurd c9 (kne (by omega) (by omega) (by omega)))
    refine lv_aload_n F.1.1 F.1.2.1 dX0_clamped_39 rfl (lv_at hl 0 rfl) ?_
    refine kGd (v := .ref (ad 0 1)) F hw 0 (by decide) rfl q65 (fun _ h9 => h9) dX0_clamped_40 ?_
    refine lv_iload_n F.1.1 F.1.2.1 dX0_clamped_43 rfl (lv_at hl 1 rfl) ?_
    refine kLc F hw 2 rfl (by omega) dX0_clamped_44 ?_
    exact kLret F hr hlocks () hw rfl dX0_clamped_45
  · refine lv_iload_n F.1.1 F.1.2.1 dX0_clamped_0 rfl (lv_at hl 1 rfl) ?_
    refine lv_if_ne (tgt := 17) F.1.1 F.1.2.1 dX0_clamped_1 (by decide) (fun _ => ?_) (fun c9 => absurd c9 (nI_ne0 (by omega) (by omega)))
    refine lv_iload_n F.1.1 F.1.2.1 dX0_clamped_17 rfl (lv_at hl 1 rfl) ?_
    refine lv_iconst (v := nI 3) F.1.1 F.1.2.1 dX0_clamped_18 (by decide) ?_
    refine lv_icmp_ne (tgt := 39) F.1.1 F.1.2.1 dX0_clamped_19 (by decide) (fun c9 => absurd (keq (by omega)) c9) (fun _ => ?_)
    refine lv_aload_n F.1.1 F.1.2.1 dX0_clamped_22 rfl (lv_at hl 0 rfl) ?_
    refine kGd (v := .ref (ad 0 1)) F hw 0 (by decide) rfl q65 (fun _ h9 => h9) dX0_clamped_23 ?_
    refine lv_iconst (v := nI 3) F.1.1 F.1.2.1 dX0_clamped_26 (by decide) ?_
    refine kLc F hw 3 rfl (by omega) dX0_clamped_27 ?_
    refine lv_ldc2 (v := 9223372036854775807) F.1.1 F.1.2.1 F.1.2.2.2.1 (F.1.2.2.2.2 _ q164) dX0_clamped_28 ?_
    refine lv_land F.1.1 F.1.2.1 dX0_clamped_31 ?_
    refine lv_ldc2 (v := 4611686018427387904) F.1.1 F.1.2.1 F.1.2.2.2.1 (F.1.2.2.2.2 _ q165) dX0_clamped_32 ?_
    refine lv_lor F.1.1 F.1.2.1 dX0_clamped_35 ?_
    refine lv_goto (tgt := 45) F.1.1 F.1.2.1 dX0_clamped_36 (by decide) ?_
    exact kLret F hr hlocks () hw rfl dX0_clamped_45

abbrev rX0_which : Room := { frames := 0, cells := 0, slots := 0, locals := 0 }
/-- which -/
theorem met_X0_which {l : Launch} {G : va_G} {cJ cI : ClassId} {ad : Nat → Nat → Nat} {P S : Nat → Nat → Int64} {rw : Nat → Int64} {sc pt : Nat → Int64} {ph md rs : Int32} {sz : Nat} (q : Nat) (hq : q < 5) : kMr l yX0_which cX0_which 2 (.object "LadderDesk$Number") rX0_which G cJ cI [.ref (ad 0 0), .int (nI q)] (cW cJ ad P S rw ((sc, pt, ph, md, rs))) sz (ad 1 (whN q)) := by
  refine kStart (by decide) (Nat.le_of_ble_eq_true rfl) ?_
  intro p e s m below meth c ls F hr hlocks hin hsz hA hw hl
  have hl : lv_has ls 2 [(0, .ref (ad 0 0)), (1, .int (nI q))] := hl
  rcases (show q = 0 ∨ q = 1 ∨ q = 2 ∨ q = 3 ∨ q = 4 by omega) with rfl | rfl | rfl | rfl | rfl
  · refine lv_iload_n F.1.1 F.1.2.1 dX0_which_0 rfl (lv_at hl 1 rfl) ?_
    refine lv_if_ne (tgt := 11) F.1.1 F.1.2.1 dX0_which_1 (by decide) (fun c9 => absurd (kz0 (by omega)) c9) (fun _ => ?_)
    refine lv_aload_n F.1.1 F.1.2.1 dX0_which_4 rfl (lv_at hl 0 rfl) ?_
    refine kGd (v := .ref (ad 1 1)) F hw 7 (by decide) rfl q72 (fun _ h9 => h9) dX0_which_5 ?_
    refine lv_goto (tgt := 51) F.1.1 F.1.2.1 dX0_which_8 (by decide) ?_
    exact kRret F hr hlocks hw dX0_which_51
  · refine lv_iload_n F.1.1 F.1.2.1 dX0_which_0 rfl (lv_at hl 1 rfl) ?_
    refine lv_if_ne (tgt := 11) F.1.1 F.1.2.1 dX0_which_1 (by decide) (fun _ => ?_) (fun c9 => absurd c9 (nI_ne0 (by omega) (by omega)))
    refine lv_iload_n F.1.1 F.1.2.1 dX0_which_11 rfl (lv_at hl 1 rfl) ?_
    refine lv_iconst (v := nI 1) F.1.1 F.1.2.1 dX0_which_12 (by decide) ?_
    refine lv_icmp_ne (tgt := 23) F.1.1 F.1.2.1 dX0_which_13 (by decide) (fun c9 => absurd (keq (by omega)) c9) (fun _ => ?_)
    refine lv_aload_n F.1.1 F.1.2.1 dX0_which_16 rfl (lv_at hl 0 rfl) ?_
    refine kGd (v := .ref (ad 1 2)) F hw 8 (by decide) rfl q73 (fun _ h9 => h9) dX0_which_17 ?_
    refine lv_goto (tgt := 51) F.1.1 F.1.2.1 dX0_which_20 (by decide) ?_
    exact kRret F hr hlocks hw dX0_which_51
  · refine lv_iload_n F.1.1 F.1.2.1 dX0_which_0 rfl (lv_at hl 1 rfl) ?_
    refine lv_if_ne (tgt := 11) F.1.1 F.1.2.1 dX0_which_1 (by decide) (fun _ => ?_) (fun c9 => absurd c9 (nI_ne0 (by omega) (by omega)))
    refine lv_iload_n F.1.1 F.1.2.1 dX0_which_11 rfl (lv_at hl 1 rfl) ?_
    refine lv_iconst (v := nI 1) F.1.1 F.1.2.1 dX0_which_12 (by decide) ?_
    refine lv_icmp_ne (tgt := 23) F.1.1 F.1.2.1 dX0_which_13 (by decide) (fun _ => ?_) (fun c9 => absurd c9 (kne (by omega) (by omega) (by omega)))
    refine lv_iload_n F.1.1 F.1.2.1 dX0_which_23 rfl (lv_at hl 1 rfl) ?_
    refine lv_iconst (v := nI 2) F.1.1 F.1.2.1 dX0_which_24 (by decide) ?_
    refine lv_icmp_ne (tgt := 35) F.1.1 F.1.2.1 dX0_which_25 (by decide) (fun c9 => absurd (keq (by omega)) c9) (fun _ => ?_)
    refine lv_aload_n F.1.1 F.1.2.1 dX0_which_28 rfl (lv_at hl 0 rfl) ?_
    refine kGd (v := .ref (ad 1 3)) F hw 9 (by decide) rfl q74 (fun _ h9 => h9) dX0_which_29 ?_
    refine lv_goto (tgt := 51) F.1.1 F.1.2.1 dX0_which_32 (by decide) ?_
    exact kRret F hr hlocks hw dX0_which_51
  · refine lv_iload_n F.1.1 F.1.2.1 dX0_which_0 rfl (lv_at hl 1 rfl) ?_
    refine lv_if_ne (tgt := 11) F.1.1 F.1.2.1 dX0_which_1 (by decide) (fun _ => ?_) (fun c9 => absurd c9 (nI_ne0 (by omega) (by omega)))
    refine lv_iload_n F.1.1 F.1.2.1 dX0_which_11 rfl (lv_at hl 1 rfl) ?_
    refine lv_iconst (v := nI 1) F.1.1 F.1.2.1 dX0_which_12 (by decide) ?_
    refine lv_icmp_ne (tgt := 23) F.1.1 F.1.2.1 dX0_which_13 (by decide) (fun _ => ?_) (fun c9 => absurd c9 (kne (by omega) (by omega) (by omega)))
    refine lv_iload_n F.1.1 F.1.2.1 dX0_which_23 rfl (lv_at hl 1 rfl) ?_
    refine lv_iconst (v := nI 2) F.1.1 F.1.2.1 dX0_which_24 (by decide) ?_
    refine lv_icmp_ne (tgt := 35) F.1.1 F.1.2.1 dX0_which_25 (by decide) (fun _ => ?_) (fun c9 => absurd c9 (kne (by omega) (by omega) (by omega)))
    refine lv_iload_n F.1.1 F.1.2.1 dX0_which_35 rfl (lv_at hl 1 rfl) ?_
    refine lv_iconst (v := nI 3) F.1.1 F.1.2.1 dX0_which_36 (by decide) ?_
    refine lv_icmp_ne (tgt := 47) F.1.1 F.1.2.1 dX0_which_37 (by decide) (fun c9 => absurd (keq (by omega)) c9) (fun _ => ?_)
    refine lv_aload_n F.1.1 F.1.2.1 dX0_which_40 rfl (lv_at hl 0 rfl) ?_
    refine kGd (v := .ref (ad 1 4)) F hw 10 (by decide) rfl q75 (fun _ h9 => h9) dX0_which_41 ?_
    refine lv_goto (tgt := 51) F.1.1 F.1.2.1 dX0_which_44 (by decide) ?_
    exact kRret F hr hlocks hw dX0_which_51
  · refine lv_iload_n F.1.1 F.1.2.1 dX0_which_0 rfl (lv_at hl 1 rfl) ?_
    refine lv_if_ne (tgt := 11) F.1.1 F.1.2.1 dX0_which_1 (by decide) (fun _ => ?_) (fun c9 => absurd c9 (nI_ne0 (by omega) (by omega)))
    refine lv_iload_n F.1.1 F.1.2.1 dX0_which_11 rfl (lv_at hl 1 rfl) ?_
    refine lv_iconst (v := nI 1) F.1.1 F.1.2.1 dX0_which_12 (by decide) ?_
    refine lv_icmp_ne (tgt := 23) F.1.1 F.1.2.1 dX0_which_13 (by decide) (fun _ => ?_) (fun c9 => absurd c9 (kne (by omega) (by omega) (by omega)))
    refine lv_iload_n F.1.1 F.1.2.1 dX0_which_23 rfl (lv_at hl 1 rfl) ?_
    refine lv_iconst (v := nI 2) F.1.1 F.1.2.1 dX0_which_24 (by decide) ?_
    refine lv_icmp_ne (tgt := 35) F.1.1 F.1.2.1 dX0_which_25 (by decide) (fun _ => ?_) (fun c9 => absurd c9 (kne (by omega) (by omega) (by omega)))
    refine lv_iload_n F.1.1 F.1.2.1 dX0_which_35 rfl (lv_at hl 1 rfl) ?_
    refine lv_iconst (v := nI 3) F.1.1 F.1.2.1 dX0_which_36 (by decide) ?_
    refine lv_icmp_ne (tgt := 47) F.1.1 F.1.2.1 dX0_which_37 (by decide) (fun _ => ?_) (fun c9 => absurd c9 (kne (by omega) (by omega) (by omega)))
    refine lv_aload_n F.1.1 F.1.2.1 dX0_which_47 rfl (lv_at hl 0 rfl) ?_
    refine kGd (v := .ref (ad 1 0)) F hw 6 (by decide) rfl q71 (fun _ h9 => h9) dX0_which_48 ?_
    exact kRret F hr hlocks hw dX0_which_51

abbrev rX0_scalar : Room := { frames := 1, cells := 0, slots := 0, locals := 20 }
/-- scalar -/
theorem met_X0_scalar {l : Launch} {G : va_G} {cJ cI : ClassId} {ad : Nat → Nat → Nat} {P S : Nat → Nat → Int64} {rw : Nat → Int64} {sc pt : Nat → Int64} {ph md rs : Int32} {sz : Nat} (k : Int32) (v : Int64) : kMi l yX0_scalar cX0_scalar 4 .int rX0_scalar G cJ cI [.ref (ad 0 0), .int k, .long v] (cW cJ ad P S rw ((sc, pt, ph, md, rs))) sz (fun r (_ : Unit) => r = if ph = 0 ∧ ¬ isL k = 0 then 1 else 0) (fun _ => cW cJ ad P S rw ((if ph = 0 ∧ ¬ isL k = 0 then vp_updL sc k.toNatClampNeg v else sc, pt, ph, md, rs))) := by
  refine kStart (by decide) (Nat.le_of_ble_eq_true rfl) ?_
  intro p e s m below meth c ls F hr hlocks hin hsz hA hw hl
  have hl : lv_has ls 4 [(0, .ref (ad 0 0)), (1, .int k), (2, .long v)] := hl
  refine lv_aload_n F.1.1 F.1.2.1 dX0_scalar_0 rfl (lv_at hl 0 rfl) ?_
  refine kGd (v := .int ph) F hw 2 (by decide) rfl q67 (fun _ h9 => h9) dX0_scalar_1 ?_
  refine lv_if_ne (tgt := 14) F.1.1 F.1.2.1 dX0_scalar_4 (by decide) (fun c4 => ?_) (fun c4 => ?_)
  · refine lv_iconst (v := nI 0) F.1.1 F.1.2.1 dX0_scalar_14 (by decide) ?_
    first
    | (have hno : ¬ (ph = 0 ∧ ¬ isL k = 0) := fun h9 => h9.2 (by rw [← hp8]; exact c11))
    | (have hno : ¬ (ph = 0 ∧ ¬ isL k = 0) := fun h9 => c4 h9.1)
    exact kIret F hr hlocks () (by rw [if_neg hno]; exact hw) (by rw [if_neg hno]; rfl) dX0_scalar_15
  · refine lv_iload_n F.1.1 F.1.2.1 dX0_scalar_7 rfl (lv_at hl 1 rfl) ?_
    refine kCSi (As := [.int k]) F hw hA (met_X0_isLong _) (va_cwS 1 F.1.2.2.2.2 (lw_S q127 q128 q21 q129) rfl rfl rfl (by decide +kernel) ⟨Nat.le_of_ble_eq_true rfl, Nat.le_of_ble_eq_true rfl⟩) rfl hl.1 rfl (Nat.le_of_ble_eq_true rfl) dX0_scalar_8 ⟨Nat.le_of_ble_eq_true rfl, Nat.le_of_ble_eq_true rfl⟩ (fun r8 u8 H locs hp8 hw => ?_)
    refine lv_if_ne (tgt := 16) F.1.1 F.1.2.1 dX0_scalar_11 (by decide) (fun c11 => ?_) (fun c11 => ?_)
    · have hyes : ph = 0 ∧ ¬ isL k = 0 := ⟨c4, by rw [← hp8]; exact c11⟩
      rw [if_pos hyes, if_pos hyes]
      obtain ⟨q, hq, rfl⟩ := isL_in hyes.2
      rw [nI_clamp (by omega)]
      refine lv_aload_n F.1.1 F.1.2.1 dX0_scalar_16 rfl (lv_at hl 0 rfl) ?_
      refine kGd (v := .ref (ad 0 1)) F hw 0 (by decide) rfl q65 (fun _ h9 => h9) dX0_scalar_17 ?_
      refine lv_iload_n F.1.1 F.1.2.1 dX0_scalar_20 rfl (lv_at hl 1 rfl) ?_
      refine lv_lload_n F.1.1 F.1.2.1 dX0_scalar_21 rfl (lv_at hl 2 rfl) ?_
      refine kSc F hw q rfl (by omega) dX0_scalar_22 (fun H locs hw => ?_)
      refine lv_iconst (v := nI 1) F.1.1 F.1.2.1 dX0_scalar_23 (by decide) ?_
      exact kIret F hr hlocks () hw rfl dX0_scalar_24
    · refine lv_iconst (v := nI 0) F.1.1 F.1.2.1 dX0_scalar_14 (by decide) ?_
      first
      | (have hno : ¬ (ph = 0 ∧ ¬ isL k = 0) := fun h9 => h9.2 (by rw [← hp8]; exact c11))
      | (have hno : ¬ (ph = 0 ∧ ¬ isL k = 0) := fun h9 => c4 h9.1)
      exact kIret F hr hlocks () (by rw [if_neg hno]; exact hw) (by rw [if_neg hno]; rfl) dX0_scalar_15

abbrev rX0_point : Room := { frames := 1, cells := 0, slots := 0, locals := 20 }
/-- point -/
theorem met_X0_point {l : Launch} {G : va_G} {cJ cI : ClassId} {ad : Nat → Nat → Nat} {P S : Nat → Nat → Int64} {rw : Nat → Int64} {sc pt : Nat → Int64} {ph md rs : Int32} {sz : Nat} (k : Int32) (v : Int64) : kMi l yX0_point cX0_point 4 .int rX0_point G cJ cI [.ref (ad 0 0), .int k, .long v] (cW cJ ad P S rw ((sc, pt, ph, md, rs))) sz (fun r (_ : Unit) => r = if ph = 0 ∧ ¬ isL k = 0 then 1 else 0) (fun _ => cW cJ ad P S rw ((sc, if ph = 0 ∧ ¬ isL k = 0 then vp_updL pt k.toNatClampNeg v else pt, ph, md, rs))) := by
  refine kStart (by decide) (Nat.le_of_ble_eq_true rfl) ?_
  intro p e s m below meth c ls F hr hlocks hin hsz hA hw hl
  have hl : lv_has ls 4 [(0, .ref (ad 0 0)), (1, .int k), (2, .long v)] := hl
  refine lv_aload_n F.1.1 F.1.2.1 dX0_point_0 rfl (lv_at hl 0 rfl) ?_
  refine kGd (v := .int ph) F hw 2 (by decide) rfl q67 (fun _ h9 => h9) dX0_point_1 ?_
  refine lv_if_ne (tgt := 14) F.1.1 F.1.2.1 dX0_point_4 (by decide) (fun c4 => ?_) (fun c4 => ?_)
  · refine lv_iconst (v := nI 0) F.1.1 F.1.2.1 dX0_point_14 (by decide) ?_
    first
    | (have hno : ¬ (ph = 0 ∧ ¬ isL k = 0) := fun h9 => h9.2 (by rw [← hp8]; exact c11))
    | (have hno : ¬ (ph = 0 ∧ ¬ isL k = 0) := fun h9 => c4 h9.1)
    exact kIret F hr hlocks () (by rw [if_neg hno]; exact hw) (by rw [if_neg hno]; rfl) dX0_point_15
  · refine lv_iload_n F.1.1 F.1.2.1 dX0_point_7 rfl (lv_at hl 1 rfl) ?_
    refine kCSi (As := [.int k]) F hw hA (met_X0_isLong _) (va_cwS 1 F.1.2.2.2.2 (lw_S q127 q128 q21 q129) rfl rfl rfl (by decide +kernel) ⟨Nat.le_of_ble_eq_true rfl, Nat.le_of_ble_eq_true rfl⟩) rfl hl.1 rfl (Nat.le_of_ble_eq_true rfl) dX0_point_8 ⟨Nat.le_of_ble_eq_true rfl, Nat.le_of_ble_eq_true rfl⟩ (fun r8 u8 H locs hp8 hw => ?_)
    refine lv_if_ne (tgt := 16) F.1.1 F.1.2.1 dX0_point_11 (by decide) (fun c11 => ?_) (fun c11 => ?_)
    · have hyes : ph = 0 ∧ ¬ isL k = 0 := ⟨c4, by rw [← hp8]; exact c11⟩
      rw [if_pos hyes, if_pos hyes]
      obtain ⟨q, hq, rfl⟩ := isL_in hyes.2
      rw [nI_clamp (by omega)]
      refine lv_aload_n F.1.1 F.1.2.1 dX0_point_16 rfl (lv_at hl 0 rfl) ?_
      refine kGd (v := .ref (ad 0 2)) F hw 1 (by decide) rfl q66 (fun _ h9 => h9) dX0_point_17 ?_
      refine lv_iload_n F.1.1 F.1.2.1 dX0_point_20 rfl (lv_at hl 1 rfl) ?_
      refine lv_lload_n F.1.1 F.1.2.1 dX0_point_21 rfl (lv_at hl 2 rfl) ?_
      refine kSt F hw q rfl (by omega) dX0_point_22 (fun H locs hw => ?_)
      refine lv_iconst (v := nI 1) F.1.1 F.1.2.1 dX0_point_23 (by decide) ?_
      exact kIret F hr hlocks () hw rfl dX0_point_24
    · refine lv_iconst (v := nI 0) F.1.1 F.1.2.1 dX0_point_14 (by decide) ?_
      first
      | (have hno : ¬ (ph = 0 ∧ ¬ isL k = 0) := fun h9 => h9.2 (by rw [← hp8]; exact c11))
      | (have hno : ¬ (ph = 0 ∧ ¬ isL k = 0) := fun h9 => c4 h9.1)
      exact kIret F hr hlocks () (by rw [if_neg hno]; exact hw) (by rw [if_neg hno]; rfl) dX0_point_15

abbrev rX0_reset : Room := { frames := 0, cells := 0, slots := 0, locals := 0 }
/-- reset -/
theorem met_X0_reset {l : Launch} {G : va_G} {cJ cI : ClassId} {ad : Nat → Nat → Nat} {P S : Nat → Nat → Int64} {rw : Nat → Int64} {sc pt : Nat → Int64} {ph md rs : Int32} {sz : Nat}  : kMi l yX0_reset cX0_reset 2 .int rX0_reset G cJ cI [.ref (ad 0 0)] (cW cJ ad P S rw ((sc, pt, ph, md, rs))) sz (fun r (_ : Unit) => r = ph) (fun _ => cW cJ ad P S rw ((sc, pt, nI 0, md, rs))) := by
  refine kStart (by decide) (Nat.le_of_ble_eq_true rfl) ?_
  intro p e s m below meth c ls F hr hlocks hin hsz hA hw hl
  have hl : lv_has ls 2 [(0, .ref (ad 0 0))] := hl
  refine lv_aload_n F.1.1 F.1.2.1 dX0_reset_0 rfl (lv_at hl 0 rfl) ?_
  refine kGd (v := .int ph) F hw 2 (by decide) rfl q67 (fun _ h9 => h9) dX0_reset_1 ?_
  refine lv_istore_n (lv' := [(1, .int ph), (0, .ref (ad 0 0))]) F.1.1 F.1.2.1 dX0_reset_4 rfl hl (by decide) rfl (fun ls hl => ?_)
  refine lv_aload_n F.1.1 F.1.2.1 dX0_reset_5 rfl (lv_at hl 1 rfl) ?_
  refine lv_iconst (v := nI 0) F.1.1 F.1.2.1 dX0_reset_6 (by decide) ?_
  refine kPd F hw 2 (by decide) rfl (by decide +kernel) q67 (fun _ h9 => h9) dX0_reset_7 (sc, pt, nI 0, md, rs) rfl rfl rfl (fun H locs hw => ?_)
  refine lv_iload_n F.1.1 F.1.2.1 dX0_reset_10 rfl (lv_at hl 0 rfl) ?_
  exact kIret F hr hlocks () hw rfl dX0_reset_11

abbrev rX0_phase : Room := { frames := 0, cells := 0, slots := 0, locals := 0 }
/-- phase -/
theorem met_X0_phase {l : Launch} {G : va_G} {cJ cI : ClassId} {ad : Nat → Nat → Nat} {P S : Nat → Nat → Int64} {rw : Nat → Int64} {sc pt : Nat → Int64} {ph md rs : Int32} {sz : Nat}  : kMi l yX0_phase cX0_phase 1 .int rX0_phase G cJ cI [.ref (ad 0 0)] (cW cJ ad P S rw ((sc, pt, ph, md, rs))) sz (fun r (_ : Unit) => r = ph) (fun _ => cW cJ ad P S rw ((sc, pt, ph, md, rs))) := by
  refine kStart (by decide) (Nat.le_of_ble_eq_true rfl) ?_
  intro p e s m below meth c ls F hr hlocks hin hsz hA hw hl
  have hl : lv_has ls 1 [(0, .ref (ad 0 0))] := hl
  refine lv_aload_n F.1.1 F.1.2.1 dX0_phase_0 rfl (lv_at hl 0 rfl) ?_
  refine kGd (v := .int ph) F hw 2 (by decide) rfl q67 (fun _ h9 => h9) dX0_phase_1 ?_
  exact kIret F hr hlocks () hw rfl dX0_phase_4

def cntF (ph md rs k : Int32) : Int32 := if k = 0 then if ph = 0 then 0 else md else if k = nI 1 then rs else -1

abbrev rX0_count : Room := { frames := 0, cells := 0, slots := 0, locals := 0 }
/-- count -/
theorem met_X0_count {l : Launch} {G : va_G} {cJ cI : ClassId} {ad : Nat → Nat → Nat} {P S : Nat → Nat → Int64} {rw : Nat → Int64} {sc pt : Nat → Int64} {ph md rs : Int32} {sz : Nat} (k : Int32) : kMi l yX0_count cX0_count 2 .int rX0_count G cJ cI [.ref (ad 0 0), .int k] (cW cJ ad P S rw ((sc, pt, ph, md, rs))) sz (fun r (_ : Unit) => r = cntF ph md rs k) (fun _ => cW cJ ad P S rw ((sc, pt, ph, md, rs))) := by
  refine kStart (by decide) (Nat.le_of_ble_eq_true rfl) ?_
  intro p e s m below meth c ls F hr hlocks hin hsz hA hw hl
  have hl : lv_has ls 2 [(0, .ref (ad 0 0)), (1, .int k)] := hl
  refine lv_iload_n F.1.1 F.1.2.1 dX0_count_0 rfl (lv_at hl 1 rfl) ?_
  refine lv_if_ne (tgt := 22) F.1.1 F.1.2.1 dX0_count_1 (by decide) (fun c1 => ?_) (fun c1 => ?_)
  · refine lv_iload_n F.1.1 F.1.2.1 dX0_count_22 rfl (lv_at hl 1 rfl) ?_
    refine lv_iconst (v := nI 1) F.1.1 F.1.2.1 dX0_count_23 (by decide) ?_
    refine lv_icmp_ne (tgt := 34) F.1.1 F.1.2.1 dX0_count_24 (by decide) (fun c24 => ?_) (fun c24 => ?_)
    · refine lv_iconst (v := -1) F.1.1 F.1.2.1 dX0_count_34 (by decide) ?_
      exact kIret F hr hlocks () hw (by first | (unfold cntF; rw [if_pos c1, if_pos c8]; rfl) | (unfold cntF; rw [if_pos c1, if_neg c8]) | (unfold cntF; rw [if_neg c1, if_pos c24]) | (unfold cntF; rw [if_neg c1, if_neg c24])) dX0_count_35
    · refine lv_aload_n F.1.1 F.1.2.1 dX0_count_27 rfl (lv_at hl 0 rfl) ?_
      refine kGd (v := .int rs) F hw 4 (by decide) rfl q69 (fun _ h9 => h9) dX0_count_28 ?_
      refine lv_goto (tgt := 35) F.1.1 F.1.2.1 dX0_count_31 (by decide) ?_
      exact kIret F hr hlocks () hw (by first | (unfold cntF; rw [if_pos c1, if_pos c8]; rfl) | (unfold cntF; rw [if_pos c1, if_neg c8]) | (unfold cntF; rw [if_neg c1, if_pos c24]) | (unfold cntF; rw [if_neg c1, if_neg c24])) dX0_count_35
  · refine lv_aload_n F.1.1 F.1.2.1 dX0_count_4 rfl (lv_at hl 0 rfl) ?_
    refine kGd (v := .int ph) F hw 2 (by decide) rfl q67 (fun _ h9 => h9) dX0_count_5 ?_
    refine lv_if_ne (tgt := 15) F.1.1 F.1.2.1 dX0_count_8 (by decide) (fun c8 => ?_) (fun c8 => ?_)
    · refine lv_aload_n F.1.1 F.1.2.1 dX0_count_15 rfl (lv_at hl 0 rfl) ?_
      refine kGd (v := .int md) F hw 3 (by decide) rfl q68 (fun _ h9 => h9) dX0_count_16 ?_
      refine lv_goto (tgt := 35) F.1.1 F.1.2.1 dX0_count_19 (by decide) ?_
      exact kIret F hr hlocks () hw (by first | (unfold cntF; rw [if_pos c1, if_pos c8]; rfl) | (unfold cntF; rw [if_pos c1, if_neg c8]) | (unfold cntF; rw [if_neg c1, if_pos c24]) | (unfold cntF; rw [if_neg c1, if_neg c24])) dX0_count_35
    · refine lv_iconst (v := nI 0) F.1.1 F.1.2.1 dX0_count_11 (by decide) ?_
      refine lv_goto (tgt := 35) F.1.1 F.1.2.1 dX0_count_12 (by decide) ?_
      exact kIret F hr hlocks () hw (by first | (unfold cntF; rw [if_pos c1, if_pos c8]; rfl) | (unfold cntF; rw [if_pos c1, if_neg c8]) | (unfold cntF; rw [if_neg c1, if_pos c24]) | (unfold cntF; rw [if_neg c1, if_neg c24])) dX0_count_35

abbrev rX0_start : Room := { frames := 2, cells := 0, slots := 0, locals := 39 }
/-- start -/
theorem met_X0_start {l : Launch} {G : va_G} {cJ cI : ClassId} {ad : Nat → Nat → Nat} {P S : Nat → Nat → Int64} {rw : Nat → Int64} {sc pt : Nat → Int64} {ph md rs : Int32} {sz : Nat}  : kMi l yX0_start cX0_start 1 .int rX0_start G cJ cI [.ref (ad 0 0)] (cW cJ ad P S rw ((sc, pt, ph, md, rs))) sz (fun r (_ : Unit) => r = if ph = 0 then 1 else 0) (fun _ => cW cJ ad (if ph = 0 then startP pt P else P) S rw (if ph = 0 then (sc, pt, nI 1, nI 0, rs) else (sc, pt, ph, md, rs))) := by
  refine kStart (by decide) (Nat.le_of_ble_eq_true rfl) ?_
  intro p e s m below meth c ls F hr hlocks hin hsz hA hw hl
  have hl : lv_has ls 1 [(0, .ref (ad 0 0))] := hl
  refine lv_aload_n F.1.1 F.1.2.1 dX0_start_0 rfl (lv_at hl 0 rfl) ?_
  refine kGd (v := .int ph) F hw 2 (by decide) rfl q67 (fun _ h9 => h9) dX0_start_1 ?_
  refine lv_if_eq (tgt := 9) F.1.1 F.1.2.1 dX0_start_4 (by decide) (fun c4 => ?_) (fun c4 => ?_)
  · refine lv_aload_n F.1.1 F.1.2.1 dX0_start_9 rfl (lv_at hl 0 rfl) ?_
    refine lv_iconst (v := nI 1) F.1.1 F.1.2.1 dX0_start_10 (by decide) ?_
    refine kPd F hw 2 (by decide) rfl (by decide +kernel) q67 (fun _ h9 => h9) dX0_start_11 (sc, pt, nI 1, md, rs) rfl rfl rfl (fun H locs hw => ?_)
    refine lv_aload_n F.1.1 F.1.2.1 dX0_start_14 rfl (lv_at hl 0 rfl) ?_
    refine lv_iconst (v := nI 0) F.1.1 F.1.2.1 dX0_start_15 (by decide) ?_
    refine kPd F hw 3 (by decide) rfl (by decide +kernel) q68 (fun _ h9 => h9) dX0_start_16 (sc, pt, nI 1, nI 0, rs) rfl rfl rfl (fun H locs hw => ?_)
    refine lv_aload_n F.1.1 F.1.2.1 dX0_start_19 rfl (lv_at hl 0 rfl) ?_
    refine kGd (v := .ref (ad 1 0)) F hw 6 (by decide) rfl q71 (fun _ h9 => h9) dX0_start_20 ?_
    refine lv_aload_n F.1.1 F.1.2.1 dX0_start_23 rfl (lv_at hl 0 rfl) ?_
    refine kGd (v := .ref (ad 0 2)) F hw 1 (by decide) rfl q66 (fun _ h9 => h9) dX0_start_24 ?_
    refine kCv (As := [.ref (ad 0 2)]) F hw hA (n_tl 0 (by decide)) (cwV 1 F.1.2.2.2.2 (lw_V q138 q139 q140 q23 q141) rfl rfl rfl (by decide +kernel) ⟨Nat.le_of_ble_eq_true rfl, Nat.le_of_ble_eq_true rfl⟩) (cRcN 0 (by decide)) rfl hl.1 rfl (Nat.le_of_ble_eq_true rfl) dX0_start_27 ⟨Nat.le_of_ble_eq_true rfl, Nat.le_of_ble_eq_true rfl⟩ (fun u H locs hp hw => ?_)
    refine lv_aload_n F.1.1 F.1.2.1 dX0_start_30 rfl (lv_at hl 0 rfl) ?_
    refine kGd (v := .ref (ad 1 1)) F hw 7 (by decide) rfl q72 (fun _ h9 => h9) dX0_start_31 ?_
    refine lv_iconst (v := nI 1) F.1.1 F.1.2.1 dX0_start_34 (by decide) ?_
    refine kCv (As := [.int (nI 1)]) F hw hA (n_set 1 (by decide) (nI 1)) (cwV 1 F.1.2.2.2.2 (lw_V q61 q62 q63 q23 q64) rfl rfl rfl (by decide +kernel) ⟨Nat.le_of_ble_eq_true rfl, Nat.le_of_ble_eq_true rfl⟩) (cRcN 1 (by decide)) rfl hl.1 rfl (Nat.le_of_ble_eq_true rfl) dX0_start_35 ⟨Nat.le_of_ble_eq_true rfl, Nat.le_of_ble_eq_true rfl⟩ (fun u H locs hp hw => ?_)
    refine lv_aload_n F.1.1 F.1.2.1 dX0_start_38 rfl (lv_at hl 0 rfl) ?_
    refine kGd (v := .ref (ad 1 2)) F hw 8 (by decide) rfl q73 (fun _ h9 => h9) dX0_start_39 ?_
    refine lv_iconst (v := nI 0) F.1.1 F.1.2.1 dX0_start_42 (by decide) ?_
    refine kCv (As := [.int (nI 0)]) F hw hA (n_set 2 (by decide) (nI 0)) (cwV 1 F.1.2.2.2.2 (lw_V q61 q62 q63 q23 q64) rfl rfl rfl (by decide +kernel) ⟨Nat.le_of_ble_eq_true rfl, Nat.le_of_ble_eq_true rfl⟩) (cRcN 2 (by decide)) rfl hl.1 rfl (Nat.le_of_ble_eq_true rfl) dX0_start_43 ⟨Nat.le_of_ble_eq_true rfl, Nat.le_of_ble_eq_true rfl⟩ (fun u H locs hp hw => ?_)
    refine lv_aload_n F.1.1 F.1.2.1 dX0_start_46 rfl (lv_at hl 0 rfl) ?_
    refine kGd (v := .ref (ad 1 3)) F hw 9 (by decide) rfl q74 (fun _ h9 => h9) dX0_start_47 ?_
    refine lv_aload_n F.1.1 F.1.2.1 dX0_start_50 rfl (lv_at hl 0 rfl) ?_
    refine kGd (v := .ref (ad 1 0)) F hw 6 (by decide) rfl q71 (fun _ h9 => h9) dX0_start_51 ?_
    refine kCv (As := [.ref (ad 1 0)]) F hw hA (n_tk 3 0 (by decide) (by decide)) (cwV 1 F.1.2.2.2.2 (lw_V q144 q145 q146 q23 q147) rfl rfl rfl (by decide +kernel) ⟨Nat.le_of_ble_eq_true rfl, Nat.le_of_ble_eq_true rfl⟩) (cRcN 3 (by decide)) rfl hl.1 rfl (Nat.le_of_ble_eq_true rfl) dX0_start_54 ⟨Nat.le_of_ble_eq_true rfl, Nat.le_of_ble_eq_true rfl⟩ (fun u H locs hp hw => ?_)
    refine lv_aload_n F.1.1 F.1.2.1 dX0_start_57 rfl (lv_at hl 0 rfl) ?_
    refine kGd (v := .ref (ad 1 4)) F hw 10 (by decide) rfl q75 (fun _ h9 => h9) dX0_start_58 ?_
    refine lv_iconst (v := nI 1) F.1.1 F.1.2.1 dX0_start_61 (by decide) ?_
    refine kCv (As := [.int (nI 1)]) F hw hA (n_set 4 (by decide) (nI 1)) (cwV 1 F.1.2.2.2.2 (lw_V q61 q62 q63 q23 q64) rfl rfl rfl (by decide +kernel) ⟨Nat.le_of_ble_eq_true rfl, Nat.le_of_ble_eq_true rfl⟩) (cRcN 4 (by decide)) rfl hl.1 rfl (Nat.le_of_ble_eq_true rfl) dX0_start_62 ⟨Nat.le_of_ble_eq_true rfl, Nat.le_of_ble_eq_true rfl⟩ (fun u H locs hp hw => ?_)
    refine lv_iconst (v := nI 1) F.1.1 F.1.2.1 dX0_start_65 (by decide) ?_
    exact kIret F hr hlocks () (by rw [if_pos c4, if_pos c4]; exact hw) (by rw [if_pos c4]; rfl) dX0_start_66
  · refine lv_iconst (v := nI 0) F.1.1 F.1.2.1 dX0_start_7 (by decide) ?_
    exact kIret F hr hlocks () (by rw [if_neg c4, if_neg c4]; exact hw) (by rw [if_neg c4]; rfl) dX0_start_8

abbrev rX0_stepOnce : Room := { frames := 2, cells := 0, slots := 0, locals := 48 }
/-- stepOnce -/
theorem met_X0_stepOnce {l : Launch} {G : va_G} {cJ cI : ClassId} {ad : Nat → Nat → Nat} {P S : Nat → Nat → Int64} {rw : Nat → Int64} {sc pt : Nat → Int64} {ph rs : Int32} {sz : Nat} (n : Nat) (hn : n < 255) : kMv l yX0_stepOnce cX0_stepOnce 4 rX0_stepOnce G cJ cI [.ref (ad 0 0)] (cW cJ ad P S rw ((sc, pt, ph, nI n, rs))) sz (fun _ : Nat → Int64 => True) (fun rw => cW cJ ad (stepP (mkF sc n) P) S rw ((sc, pt, ph, nI (n + 1), rs))) := by
  refine kStart (by decide) (Nat.le_of_ble_eq_true rfl) ?_
  intro p e s m below meth c ls F hr hlocks hin hsz hA hw hl
  have hl : lv_has ls 4 [(0, .ref (ad 0 0))] := hl
  refine lv_sipush (v := nI 254) F.1.1 F.1.2.1 dX0_stepOnce_0 (by decide) ?_
  refine lv_aload_n F.1.1 F.1.2.1 dX0_stepOnce_3 rfl (lv_at hl 0 rfl) ?_
  refine kGd (v := .int (nI n)) F hw 3 (by decide) rfl q68 (fun _ h9 => h9) dX0_stepOnce_4 ?_
  refine lv_isub F.1.1 F.1.2.1 dX0_stepOnce_7 ?_
  refine kTi (pk_sub (by omega)) ?_
  refine lv_istore_n (lv' := [(1, .int (nI (254 - n))), (0, .ref (ad 0 0))]) F.1.1 F.1.2.1 dX0_stepOnce_8 rfl hl (by decide) rfl (fun ls hl => ?_)
  refine lv_aload_n F.1.1 F.1.2.1 dX0_stepOnce_9 rfl (lv_at hl 1 rfl) ?_
  refine lv_iload_n F.1.1 F.1.2.1 dX0_stepOnce_10 rfl (lv_at hl 0 rfl) ?_
  refine lv_bipush (v := nI 6) F.1.1 F.1.2.1 dX0_stepOnce_11 (by decide) ?_
  refine lv_ishr F.1.1 F.1.2.1 dX0_stepOnce_13 ?_
  refine kTi (pk_shrN (by omega) _ 6 (by decide)) ?_
  refine kCl_ (As := [.int (nI ((254 - n) / 2 ^ 6))]) F hw hA (met_X0_clamped _ (by omega)) (cwV 1 F.1.2.2.2.2 (lw_V q159 q161 qs1 q21 q162) rfl rfl rfl (by decide +kernel) ⟨Nat.le_of_ble_eq_true rfl, Nat.le_of_ble_eq_true rfl⟩) cRcD rfl hl.1 rfl (Nat.le_of_ble_eq_true rfl) dX0_stepOnce_14 ⟨Nat.le_of_ble_eq_true rfl, Nat.le_of_ble_eq_true rfl⟩ (fun r14 u14 H locs hp14 hw => ?_)
  refine lv_iload_n F.1.1 F.1.2.1 dX0_stepOnce_17 rfl (lv_at hl 0 rfl) ?_
  refine lv_bipush (v := nI 63) F.1.1 F.1.2.1 dX0_stepOnce_18 (by decide) ?_
  refine lv_iand F.1.1 F.1.2.1 dX0_stepOnce_20 ?_
  refine kTi (pk_andN (by omega) 6 (by decide)) ?_
  refine lv_lushr F.1.1 F.1.2.1 dX0_stepOnce_21 rfl ?_
  refine lv_lconst (v := 1) F.1.1 F.1.2.1 dX0_stepOnce_22 (by decide) ?_
  refine lv_land F.1.1 F.1.2.1 dX0_stepOnce_23 ?_
  refine lv_lneg F.1.1 F.1.2.1 dX0_stepOnce_24 ?_
  refine lv_topl (fun t1 et1 => ?_)
  refine lv_lstore_n (lv' := [(2, .long t1), (1, .int (nI (254 - n))), (0, .ref (ad 0 0))]) F.1.1 F.1.2.1 dX0_stepOnce_25 rfl hl (by decide) rfl (fun ls hl => ?_)
  rw [hp14] at et1
  refine lv_aload_n F.1.1 F.1.2.1 dX0_stepOnce_26 rfl (lv_at hl 2 rfl) ?_
  refine kGd (v := .ref (ad 1 1)) F hw 7 (by decide) rfl q72 (fun _ h9 => h9) dX0_stepOnce_27 ?_
  refine lv_aload_n F.1.1 F.1.2.1 dX0_stepOnce_30 rfl (lv_at hl 2 rfl) ?_
  refine kGd (v := .ref (ad 1 3)) F hw 9 (by decide) rfl q74 (fun _ h9 => h9) dX0_stepOnce_31 ?_
  refine lv_lload_n F.1.1 F.1.2.1 dX0_stepOnce_34 rfl (lv_at hl 0 rfl) ?_
  refine kCv (As := [.ref (ad 1 3), .long t1]) F hw hA (n_chg 1 3 (by decide) (by decide) (by decide) t1) (cwV 2 F.1.2.2.2.2 (lw_V q166 q167 q168 q23 q169) rfl rfl rfl (by decide +kernel) ⟨Nat.le_of_ble_eq_true rfl, Nat.le_of_ble_eq_true rfl⟩) (cRcN 1 (by decide)) rfl hl.1 rfl (Nat.le_of_ble_eq_true rfl) dX0_stepOnce_35 ⟨Nat.le_of_ble_eq_true rfl, Nat.le_of_ble_eq_true rfl⟩ (fun u H locs hp hw => ?_)
  refine lv_aload_n F.1.1 F.1.2.1 dX0_stepOnce_38 rfl (lv_at hl 2 rfl) ?_
  refine kGd (v := .ref (ad 1 2)) F hw 8 (by decide) rfl q73 (fun _ h9 => h9) dX0_stepOnce_39 ?_
  refine lv_aload_n F.1.1 F.1.2.1 dX0_stepOnce_42 rfl (lv_at hl 2 rfl) ?_
  refine kGd (v := .ref (ad 1 4)) F hw 10 (by decide) rfl q75 (fun _ h9 => h9) dX0_stepOnce_43 ?_
  refine lv_lload_n F.1.1 F.1.2.1 dX0_stepOnce_46 rfl (lv_at hl 0 rfl) ?_
  refine kCv (As := [.ref (ad 1 4), .long t1]) F hw hA (n_chg 2 4 (by decide) (by decide) (by decide) t1) (cwV 2 F.1.2.2.2.2 (lw_V q166 q167 q168 q23 q169) rfl rfl rfl (by decide +kernel) ⟨Nat.le_of_ble_eq_true rfl, Nat.le_of_ble_eq_true rfl⟩) (cRcN 2 (by decide)) rfl hl.1 rfl (Nat.le_of_ble_eq_true rfl) dX0_stepOnce_47 ⟨Nat.le_of_ble_eq_true rfl, Nat.le_of_ble_eq_true rfl⟩ (fun u H locs hp hw => ?_)
  refine lv_aload_n F.1.1 F.1.2.1 dX0_stepOnce_50 rfl (lv_at hl 2 rfl) ?_
  refine kGd (v := .ref (ad 1 5)) F hw 11 (by decide) rfl q76 (fun _ h9 => h9) dX0_stepOnce_51 ?_
  refine lv_aload_n F.1.1 F.1.2.1 dX0_stepOnce_54 rfl (lv_at hl 2 rfl) ?_
  refine kGd (v := .ref (ad 1 1)) F hw 7 (by decide) rfl q72 (fun _ h9 => h9) dX0_stepOnce_55 ?_
  refine lv_aload_n F.1.1 F.1.2.1 dX0_stepOnce_58 rfl (lv_at hl 2 rfl) ?_
  refine kGd (v := .ref (ad 1 2)) F hw 8 (by decide) rfl q73 (fun _ h9 => h9) dX0_stepOnce_59 ?_
  refine kCv (As := [.ref (ad 1 1), .ref (ad 1 2)]) F hw hA (n_add 5 1 2 (by decide) (by decide) (by decide)) (cwV 2 F.1.2.2.2.2 (lw_V q170 q171 q172 q23 q173) rfl rfl rfl (by decide +kernel) ⟨Nat.le_of_ble_eq_true rfl, Nat.le_of_ble_eq_true rfl⟩) (cRcN 5 (by decide)) rfl hl.1 rfl (Nat.le_of_ble_eq_true rfl) dX0_stepOnce_62 ⟨Nat.le_of_ble_eq_true rfl, Nat.le_of_ble_eq_true rfl⟩ (fun u H locs hp hw => ?_)
  refine lv_aload_n F.1.1 F.1.2.1 dX0_stepOnce_65 rfl (lv_at hl 2 rfl) ?_
  refine kGd (v := .ref (ad 1 6)) F hw 12 (by decide) rfl q77 (fun _ h9 => h9) dX0_stepOnce_66 ?_
  refine lv_aload_n F.1.1 F.1.2.1 dX0_stepOnce_69 rfl (lv_at hl 2 rfl) ?_
  refine kGd (v := .ref (ad 1 1)) F hw 7 (by decide) rfl q72 (fun _ h9 => h9) dX0_stepOnce_70 ?_
  refine lv_aload_n F.1.1 F.1.2.1 dX0_stepOnce_73 rfl (lv_at hl 2 rfl) ?_
  refine kGd (v := .ref (ad 1 2)) F hw 8 (by decide) rfl q73 (fun _ h9 => h9) dX0_stepOnce_74 ?_
  refine kCv (As := [.ref (ad 1 1), .ref (ad 1 2)]) F hw hA (n_sub 6 1 2 (by decide) (by decide) (by decide)) (cwV 2 F.1.2.2.2.2 (lw_V q174 q175 q176 q23 q177) rfl rfl rfl (by decide +kernel) ⟨Nat.le_of_ble_eq_true rfl, Nat.le_of_ble_eq_true rfl⟩) (cRcN 6 (by decide)) rfl hl.1 rfl (Nat.le_of_ble_eq_true rfl) dX0_stepOnce_77 ⟨Nat.le_of_ble_eq_true rfl, Nat.le_of_ble_eq_true rfl⟩ (fun u H locs hp hw => ?_)
  refine lv_aload_n F.1.1 F.1.2.1 dX0_stepOnce_80 rfl (lv_at hl 2 rfl) ?_
  refine kGd (v := .ref (ad 1 7)) F hw 13 (by decide) rfl q78 (fun _ h9 => h9) dX0_stepOnce_81 ?_
  refine lv_aload_n F.1.1 F.1.2.1 dX0_stepOnce_84 rfl (lv_at hl 2 rfl) ?_
  refine kGd (v := .ref (ad 1 3)) F hw 9 (by decide) rfl q74 (fun _ h9 => h9) dX0_stepOnce_85 ?_
  refine lv_aload_n F.1.1 F.1.2.1 dX0_stepOnce_88 rfl (lv_at hl 2 rfl) ?_
  refine kGd (v := .ref (ad 1 4)) F hw 10 (by decide) rfl q75 (fun _ h9 => h9) dX0_stepOnce_89 ?_
  refine kCv (As := [.ref (ad 1 3), .ref (ad 1 4)]) F hw hA (n_add 7 3 4 (by decide) (by decide) (by decide)) (cwV 2 F.1.2.2.2.2 (lw_V q170 q171 q172 q23 q173) rfl rfl rfl (by decide +kernel) ⟨Nat.le_of_ble_eq_true rfl, Nat.le_of_ble_eq_true rfl⟩) (cRcN 7 (by decide)) rfl hl.1 rfl (Nat.le_of_ble_eq_true rfl) dX0_stepOnce_92 ⟨Nat.le_of_ble_eq_true rfl, Nat.le_of_ble_eq_true rfl⟩ (fun u H locs hp hw => ?_)
  refine lv_aload_n F.1.1 F.1.2.1 dX0_stepOnce_95 rfl (lv_at hl 2 rfl) ?_
  refine kGd (v := .ref (ad 1 8)) F hw 14 (by decide) rfl q79 (fun _ h9 => h9) dX0_stepOnce_96 ?_
  refine lv_aload_n F.1.1 F.1.2.1 dX0_stepOnce_99 rfl (lv_at hl 2 rfl) ?_
  refine kGd (v := .ref (ad 1 3)) F hw 9 (by decide) rfl q74 (fun _ h9 => h9) dX0_stepOnce_100 ?_
  refine lv_aload_n F.1.1 F.1.2.1 dX0_stepOnce_103 rfl (lv_at hl 2 rfl) ?_
  refine kGd (v := .ref (ad 1 4)) F hw 10 (by decide) rfl q75 (fun _ h9 => h9) dX0_stepOnce_104 ?_
  refine kCv (As := [.ref (ad 1 3), .ref (ad 1 4)]) F hw hA (n_sub 8 3 4 (by decide) (by decide) (by decide)) (cwV 2 F.1.2.2.2.2 (lw_V q174 q175 q176 q23 q177) rfl rfl rfl (by decide +kernel) ⟨Nat.le_of_ble_eq_true rfl, Nat.le_of_ble_eq_true rfl⟩) (cRcN 8 (by decide)) rfl hl.1 rfl (Nat.le_of_ble_eq_true rfl) dX0_stepOnce_107 ⟨Nat.le_of_ble_eq_true rfl, Nat.le_of_ble_eq_true rfl⟩ (fun u H locs hp hw => ?_)
  refine lv_aload_n F.1.1 F.1.2.1 dX0_stepOnce_110 rfl (lv_at hl 2 rfl) ?_
  refine kGd (v := .ref (ad 0 3)) F hw 5 (by decide) rfl q70 (fun _ h9 => h9) dX0_stepOnce_111 ?_
  refine lv_aload_n F.1.1 F.1.2.1 dX0_stepOnce_114 rfl (lv_at hl 2 rfl) ?_
  refine kGd (v := .ref (ad 1 8)) F hw 14 (by decide) rfl q79 (fun _ h9 => h9) dX0_stepOnce_115 ?_
  refine lv_aload_n F.1.1 F.1.2.1 dX0_stepOnce_118 rfl (lv_at hl 2 rfl) ?_
  refine kGd (v := .ref (ad 1 5)) F hw 11 (by decide) rfl q76 (fun _ h9 => h9) dX0_stepOnce_119 ?_
  refine lv_aload_n F.1.1 F.1.2.1 dX0_stepOnce_122 rfl (lv_at hl 2 rfl) ?_
  refine kGd (v := .ref (ad 1 8)) F hw 14 (by decide) rfl q79 (fun _ h9 => h9) dX0_stepOnce_123 ?_
  refine kCv (As := [.ref (ad 1 8), .ref (ad 1 5), .ref (ad 1 8)]) F hw hA (n_mul 8 5 8 (by decide) (by decide) (by decide)) (cwV 3 F.1.2.2.2.2 (lw_V q178 q179 q180 q22 q181) rfl rfl rfl (by decide +kernel) ⟨Nat.le_of_ble_eq_true rfl, Nat.le_of_ble_eq_true rfl⟩) cRcP rfl hl.1 rfl (Nat.le_of_ble_eq_true rfl) dX0_stepOnce_126 ⟨Nat.le_of_ble_eq_true rfl, Nat.le_of_ble_eq_true rfl⟩ (fun rw H locs hp hw => ?_)
  refine lv_aload_n F.1.1 F.1.2.1 dX0_stepOnce_129 rfl (lv_at hl 2 rfl) ?_
  refine kGd (v := .ref (ad 0 3)) F hw 5 (by decide) rfl q70 (fun _ h9 => h9) dX0_stepOnce_130 ?_
  refine lv_aload_n F.1.1 F.1.2.1 dX0_stepOnce_133 rfl (lv_at hl 2 rfl) ?_
  refine kGd (v := .ref (ad 1 7)) F hw 13 (by decide) rfl q78 (fun _ h9 => h9) dX0_stepOnce_134 ?_
  refine lv_aload_n F.1.1 F.1.2.1 dX0_stepOnce_137 rfl (lv_at hl 2 rfl) ?_
  refine kGd (v := .ref (ad 1 6)) F hw 12 (by decide) rfl q77 (fun _ h9 => h9) dX0_stepOnce_138 ?_
  refine lv_aload_n F.1.1 F.1.2.1 dX0_stepOnce_141 rfl (lv_at hl 2 rfl) ?_
  refine kGd (v := .ref (ad 1 7)) F hw 13 (by decide) rfl q78 (fun _ h9 => h9) dX0_stepOnce_142 ?_
  refine kCv (As := [.ref (ad 1 7), .ref (ad 1 6), .ref (ad 1 7)]) F hw hA (n_mul 7 6 7 (by decide) (by decide) (by decide)) (cwV 3 F.1.2.2.2.2 (lw_V q178 q179 q180 q22 q181) rfl rfl rfl (by decide +kernel) ⟨Nat.le_of_ble_eq_true rfl, Nat.le_of_ble_eq_true rfl⟩) cRcP rfl hl.1 rfl (Nat.le_of_ble_eq_true rfl) dX0_stepOnce_145 ⟨Nat.le_of_ble_eq_true rfl, Nat.le_of_ble_eq_true rfl⟩ (fun rw H locs hp hw => ?_)
  refine lv_aload_n F.1.1 F.1.2.1 dX0_stepOnce_148 rfl (lv_at hl 2 rfl) ?_
  refine kGd (v := .ref (ad 0 3)) F hw 5 (by decide) rfl q70 (fun _ h9 => h9) dX0_stepOnce_149 ?_
  refine lv_aload_n F.1.1 F.1.2.1 dX0_stepOnce_152 rfl (lv_at hl 2 rfl) ?_
  refine kGd (v := .ref (ad 1 5)) F hw 11 (by decide) rfl q76 (fun _ h9 => h9) dX0_stepOnce_153 ?_
  refine lv_aload_n F.1.1 F.1.2.1 dX0_stepOnce_156 rfl (lv_at hl 2 rfl) ?_
  refine kGd (v := .ref (ad 1 5)) F hw 11 (by decide) rfl q76 (fun _ h9 => h9) dX0_stepOnce_157 ?_
  refine lv_aload_n F.1.1 F.1.2.1 dX0_stepOnce_160 rfl (lv_at hl 2 rfl) ?_
  refine kGd (v := .ref (ad 1 5)) F hw 11 (by decide) rfl q76 (fun _ h9 => h9) dX0_stepOnce_161 ?_
  refine kCv (As := [.ref (ad 1 5), .ref (ad 1 5), .ref (ad 1 5)]) F hw hA (n_mul 5 5 5 (by decide) (by decide) (by decide)) (cwV 3 F.1.2.2.2.2 (lw_V q178 q179 q180 q22 q181) rfl rfl rfl (by decide +kernel) ⟨Nat.le_of_ble_eq_true rfl, Nat.le_of_ble_eq_true rfl⟩) cRcP rfl hl.1 rfl (Nat.le_of_ble_eq_true rfl) dX0_stepOnce_164 ⟨Nat.le_of_ble_eq_true rfl, Nat.le_of_ble_eq_true rfl⟩ (fun rw H locs hp hw => ?_)
  refine lv_aload_n F.1.1 F.1.2.1 dX0_stepOnce_167 rfl (lv_at hl 2 rfl) ?_
  refine kGd (v := .ref (ad 0 3)) F hw 5 (by decide) rfl q70 (fun _ h9 => h9) dX0_stepOnce_168 ?_
  refine lv_aload_n F.1.1 F.1.2.1 dX0_stepOnce_171 rfl (lv_at hl 2 rfl) ?_
  refine kGd (v := .ref (ad 1 6)) F hw 12 (by decide) rfl q77 (fun _ h9 => h9) dX0_stepOnce_172 ?_
  refine lv_aload_n F.1.1 F.1.2.1 dX0_stepOnce_175 rfl (lv_at hl 2 rfl) ?_
  refine kGd (v := .ref (ad 1 6)) F hw 12 (by decide) rfl q77 (fun _ h9 => h9) dX0_stepOnce_176 ?_
  refine lv_aload_n F.1.1 F.1.2.1 dX0_stepOnce_179 rfl (lv_at hl 2 rfl) ?_
  refine kGd (v := .ref (ad 1 6)) F hw 12 (by decide) rfl q77 (fun _ h9 => h9) dX0_stepOnce_180 ?_
  refine kCv (As := [.ref (ad 1 6), .ref (ad 1 6), .ref (ad 1 6)]) F hw hA (n_mul 6 6 6 (by decide) (by decide) (by decide)) (cwV 3 F.1.2.2.2.2 (lw_V q178 q179 q180 q22 q181) rfl rfl rfl (by decide +kernel) ⟨Nat.le_of_ble_eq_true rfl, Nat.le_of_ble_eq_true rfl⟩) cRcP rfl hl.1 rfl (Nat.le_of_ble_eq_true rfl) dX0_stepOnce_183 ⟨Nat.le_of_ble_eq_true rfl, Nat.le_of_ble_eq_true rfl⟩ (fun rw H locs hp hw => ?_)
  refine lv_aload_n F.1.1 F.1.2.1 dX0_stepOnce_186 rfl (lv_at hl 2 rfl) ?_
  refine kGd (v := .ref (ad 0 3)) F hw 5 (by decide) rfl q70 (fun _ h9 => h9) dX0_stepOnce_187 ?_
  refine lv_aload_n F.1.1 F.1.2.1 dX0_stepOnce_190 rfl (lv_at hl 2 rfl) ?_
  refine kGd (v := .ref (ad 1 5)) F hw 11 (by decide) rfl q76 (fun _ h9 => h9) dX0_stepOnce_191 ?_
  refine lv_aload_n F.1.1 F.1.2.1 dX0_stepOnce_194 rfl (lv_at hl 2 rfl) ?_
  refine kGd (v := .ref (ad 1 6)) F hw 12 (by decide) rfl q77 (fun _ h9 => h9) dX0_stepOnce_195 ?_
  refine lv_aload_n F.1.1 F.1.2.1 dX0_stepOnce_198 rfl (lv_at hl 2 rfl) ?_
  refine kGd (v := .ref (ad 1 1)) F hw 7 (by decide) rfl q72 (fun _ h9 => h9) dX0_stepOnce_199 ?_
  refine kCv (As := [.ref (ad 1 5), .ref (ad 1 6), .ref (ad 1 1)]) F hw hA (n_mul 5 6 1 (by decide) (by decide) (by decide)) (cwV 3 F.1.2.2.2.2 (lw_V q178 q179 q180 q22 q181) rfl rfl rfl (by decide +kernel) ⟨Nat.le_of_ble_eq_true rfl, Nat.le_of_ble_eq_true rfl⟩) cRcP rfl hl.1 rfl (Nat.le_of_ble_eq_true rfl) dX0_stepOnce_202 ⟨Nat.le_of_ble_eq_true rfl, Nat.le_of_ble_eq_true rfl⟩ (fun rw H locs hp hw => ?_)
  refine lv_aload_n F.1.1 F.1.2.1 dX0_stepOnce_205 rfl (lv_at hl 2 rfl) ?_
  refine kGd (v := .ref (ad 1 9)) F hw 15 (by decide) rfl q80 (fun _ h9 => h9) dX0_stepOnce_206 ?_
  refine lv_aload_n F.1.1 F.1.2.1 dX0_stepOnce_209 rfl (lv_at hl 2 rfl) ?_
  refine kGd (v := .ref (ad 1 5)) F hw 11 (by decide) rfl q76 (fun _ h9 => h9) dX0_stepOnce_210 ?_
  refine lv_aload_n F.1.1 F.1.2.1 dX0_stepOnce_213 rfl (lv_at hl 2 rfl) ?_
  refine kGd (v := .ref (ad 1 6)) F hw 12 (by decide) rfl q77 (fun _ h9 => h9) dX0_stepOnce_214 ?_
  refine kCv (As := [.ref (ad 1 5), .ref (ad 1 6)]) F hw hA (n_sub 9 5 6 (by decide) (by decide) (by decide)) (cwV 2 F.1.2.2.2.2 (lw_V q174 q175 q176 q23 q177) rfl rfl rfl (by decide +kernel) ⟨Nat.le_of_ble_eq_true rfl, Nat.le_of_ble_eq_true rfl⟩) (cRcN 9 (by decide)) rfl hl.1 rfl (Nat.le_of_ble_eq_true rfl) dX0_stepOnce_217 ⟨Nat.le_of_ble_eq_true rfl, Nat.le_of_ble_eq_true rfl⟩ (fun u H locs hp hw => ?_)
  refine lv_aload_n F.1.1 F.1.2.1 dX0_stepOnce_220 rfl (lv_at hl 2 rfl) ?_
  refine kGd (v := .ref (ad 0 3)) F hw 5 (by decide) rfl q70 (fun _ h9 => h9) dX0_stepOnce_221 ?_
  refine lv_aload_n F.1.1 F.1.2.1 dX0_stepOnce_224 rfl (lv_at hl 2 rfl) ?_
  refine kGd (v := .ref (ad 1 9)) F hw 15 (by decide) rfl q80 (fun _ h9 => h9) dX0_stepOnce_225 ?_
  refine lv_aload_n F.1.1 F.1.2.1 dX0_stepOnce_228 rfl (lv_at hl 2 rfl) ?_
  refine kGd (v := .ref (ad 1 10)) F hw 16 (by decide) rfl q81 (fun _ h9 => h9) dX0_stepOnce_229 ?_
  refine lv_aload_n F.1.1 F.1.2.1 dX0_stepOnce_232 rfl (lv_at hl 2 rfl) ?_
  refine kGd (v := .ref (ad 1 2)) F hw 8 (by decide) rfl q73 (fun _ h9 => h9) dX0_stepOnce_233 ?_
  refine kCv (As := [.ref (ad 1 9), .ref (ad 1 10), .ref (ad 1 2)]) F hw hA (n_mul 9 10 2 (by decide) (by decide) (by decide)) (cwV 3 F.1.2.2.2.2 (lw_V q178 q179 q180 q22 q181) rfl rfl rfl (by decide +kernel) ⟨Nat.le_of_ble_eq_true rfl, Nat.le_of_ble_eq_true rfl⟩) cRcP rfl hl.1 rfl (Nat.le_of_ble_eq_true rfl) dX0_stepOnce_236 ⟨Nat.le_of_ble_eq_true rfl, Nat.le_of_ble_eq_true rfl⟩ (fun rw H locs hp hw => ?_)
  refine lv_aload_n F.1.1 F.1.2.1 dX0_stepOnce_239 rfl (lv_at hl 2 rfl) ?_
  refine kGd (v := .ref (ad 1 2)) F hw 8 (by decide) rfl q73 (fun _ h9 => h9) dX0_stepOnce_240 ?_
  refine lv_aload_n F.1.1 F.1.2.1 dX0_stepOnce_243 rfl (lv_at hl 2 rfl) ?_
  refine kGd (v := .ref (ad 1 2)) F hw 8 (by decide) rfl q73 (fun _ h9 => h9) dX0_stepOnce_244 ?_
  refine lv_aload_n F.1.1 F.1.2.1 dX0_stepOnce_247 rfl (lv_at hl 2 rfl) ?_
  refine kGd (v := .ref (ad 1 5)) F hw 11 (by decide) rfl q76 (fun _ h9 => h9) dX0_stepOnce_248 ?_
  refine kCv (As := [.ref (ad 1 2), .ref (ad 1 5)]) F hw hA (n_add 2 2 5 (by decide) (by decide) (by decide)) (cwV 2 F.1.2.2.2.2 (lw_V q170 q171 q172 q23 q173) rfl rfl rfl (by decide +kernel) ⟨Nat.le_of_ble_eq_true rfl, Nat.le_of_ble_eq_true rfl⟩) (cRcN 2 (by decide)) rfl hl.1 rfl (Nat.le_of_ble_eq_true rfl) dX0_stepOnce_251 ⟨Nat.le_of_ble_eq_true rfl, Nat.le_of_ble_eq_true rfl⟩ (fun u H locs hp hw => ?_)
  refine lv_aload_n F.1.1 F.1.2.1 dX0_stepOnce_254 rfl (lv_at hl 2 rfl) ?_
  refine kGd (v := .ref (ad 0 3)) F hw 5 (by decide) rfl q70 (fun _ h9 => h9) dX0_stepOnce_255 ?_
  refine lv_aload_n F.1.1 F.1.2.1 dX0_stepOnce_258 rfl (lv_at hl 2 rfl) ?_
  refine kGd (v := .ref (ad 1 2)) F hw 8 (by decide) rfl q73 (fun _ h9 => h9) dX0_stepOnce_259 ?_
  refine lv_aload_n F.1.1 F.1.2.1 dX0_stepOnce_262 rfl (lv_at hl 2 rfl) ?_
  refine kGd (v := .ref (ad 1 9)) F hw 15 (by decide) rfl q80 (fun _ h9 => h9) dX0_stepOnce_263 ?_
  refine lv_aload_n F.1.1 F.1.2.1 dX0_stepOnce_266 rfl (lv_at hl 2 rfl) ?_
  refine kGd (v := .ref (ad 1 2)) F hw 8 (by decide) rfl q73 (fun _ h9 => h9) dX0_stepOnce_267 ?_
  refine kCv (As := [.ref (ad 1 2), .ref (ad 1 9), .ref (ad 1 2)]) F hw hA (n_mul 2 9 2 (by decide) (by decide) (by decide)) (cwV 3 F.1.2.2.2.2 (lw_V q178 q179 q180 q22 q181) rfl rfl rfl (by decide +kernel) ⟨Nat.le_of_ble_eq_true rfl, Nat.le_of_ble_eq_true rfl⟩) cRcP rfl hl.1 rfl (Nat.le_of_ble_eq_true rfl) dX0_stepOnce_270 ⟨Nat.le_of_ble_eq_true rfl, Nat.le_of_ble_eq_true rfl⟩ (fun rw H locs hp hw => ?_)
  refine lv_aload_n F.1.1 F.1.2.1 dX0_stepOnce_273 rfl (lv_at hl 2 rfl) ?_
  refine kGd (v := .ref (ad 1 3)) F hw 9 (by decide) rfl q74 (fun _ h9 => h9) dX0_stepOnce_274 ?_
  refine lv_aload_n F.1.1 F.1.2.1 dX0_stepOnce_277 rfl (lv_at hl 2 rfl) ?_
  refine kGd (v := .ref (ad 1 8)) F hw 14 (by decide) rfl q79 (fun _ h9 => h9) dX0_stepOnce_278 ?_
  refine lv_aload_n F.1.1 F.1.2.1 dX0_stepOnce_281 rfl (lv_at hl 2 rfl) ?_
  refine kGd (v := .ref (ad 1 7)) F hw 13 (by decide) rfl q78 (fun _ h9 => h9) dX0_stepOnce_282 ?_
  refine kCv (As := [.ref (ad 1 8), .ref (ad 1 7)]) F hw hA (n_add 3 8 7 (by decide) (by decide) (by decide)) (cwV 2 F.1.2.2.2.2 (lw_V q170 q171 q172 q23 q173) rfl rfl rfl (by decide +kernel) ⟨Nat.le_of_ble_eq_true rfl, Nat.le_of_ble_eq_true rfl⟩) (cRcN 3 (by decide)) rfl hl.1 rfl (Nat.le_of_ble_eq_true rfl) dX0_stepOnce_285 ⟨Nat.le_of_ble_eq_true rfl, Nat.le_of_ble_eq_true rfl⟩ (fun u H locs hp hw => ?_)
  refine lv_aload_n F.1.1 F.1.2.1 dX0_stepOnce_288 rfl (lv_at hl 2 rfl) ?_
  refine kGd (v := .ref (ad 0 3)) F hw 5 (by decide) rfl q70 (fun _ h9 => h9) dX0_stepOnce_289 ?_
  refine lv_aload_n F.1.1 F.1.2.1 dX0_stepOnce_292 rfl (lv_at hl 2 rfl) ?_
  refine kGd (v := .ref (ad 1 3)) F hw 9 (by decide) rfl q74 (fun _ h9 => h9) dX0_stepOnce_293 ?_
  refine lv_aload_n F.1.1 F.1.2.1 dX0_stepOnce_296 rfl (lv_at hl 2 rfl) ?_
  refine kGd (v := .ref (ad 1 3)) F hw 9 (by decide) rfl q74 (fun _ h9 => h9) dX0_stepOnce_297 ?_
  refine lv_aload_n F.1.1 F.1.2.1 dX0_stepOnce_300 rfl (lv_at hl 2 rfl) ?_
  refine kGd (v := .ref (ad 1 3)) F hw 9 (by decide) rfl q74 (fun _ h9 => h9) dX0_stepOnce_301 ?_
  refine kCv (As := [.ref (ad 1 3), .ref (ad 1 3), .ref (ad 1 3)]) F hw hA (n_mul 3 3 3 (by decide) (by decide) (by decide)) (cwV 3 F.1.2.2.2.2 (lw_V q178 q179 q180 q22 q181) rfl rfl rfl (by decide +kernel) ⟨Nat.le_of_ble_eq_true rfl, Nat.le_of_ble_eq_true rfl⟩) cRcP rfl hl.1 rfl (Nat.le_of_ble_eq_true rfl) dX0_stepOnce_304 ⟨Nat.le_of_ble_eq_true rfl, Nat.le_of_ble_eq_true rfl⟩ (fun rw H locs hp hw => ?_)
  refine lv_aload_n F.1.1 F.1.2.1 dX0_stepOnce_307 rfl (lv_at hl 2 rfl) ?_
  refine kGd (v := .ref (ad 1 4)) F hw 10 (by decide) rfl q75 (fun _ h9 => h9) dX0_stepOnce_308 ?_
  refine lv_aload_n F.1.1 F.1.2.1 dX0_stepOnce_311 rfl (lv_at hl 2 rfl) ?_
  refine kGd (v := .ref (ad 1 8)) F hw 14 (by decide) rfl q79 (fun _ h9 => h9) dX0_stepOnce_312 ?_
  refine lv_aload_n F.1.1 F.1.2.1 dX0_stepOnce_315 rfl (lv_at hl 2 rfl) ?_
  refine kGd (v := .ref (ad 1 7)) F hw 13 (by decide) rfl q78 (fun _ h9 => h9) dX0_stepOnce_316 ?_
  refine kCv (As := [.ref (ad 1 8), .ref (ad 1 7)]) F hw hA (n_sub 4 8 7 (by decide) (by decide) (by decide)) (cwV 2 F.1.2.2.2.2 (lw_V q174 q175 q176 q23 q177) rfl rfl rfl (by decide +kernel) ⟨Nat.le_of_ble_eq_true rfl, Nat.le_of_ble_eq_true rfl⟩) (cRcN 4 (by decide)) rfl hl.1 rfl (Nat.le_of_ble_eq_true rfl) dX0_stepOnce_319 ⟨Nat.le_of_ble_eq_true rfl, Nat.le_of_ble_eq_true rfl⟩ (fun u H locs hp hw => ?_)
  refine lv_aload_n F.1.1 F.1.2.1 dX0_stepOnce_322 rfl (lv_at hl 2 rfl) ?_
  refine kGd (v := .ref (ad 0 3)) F hw 5 (by decide) rfl q70 (fun _ h9 => h9) dX0_stepOnce_323 ?_
  refine lv_aload_n F.1.1 F.1.2.1 dX0_stepOnce_326 rfl (lv_at hl 2 rfl) ?_
  refine kGd (v := .ref (ad 1 4)) F hw 10 (by decide) rfl q75 (fun _ h9 => h9) dX0_stepOnce_327 ?_
  refine lv_aload_n F.1.1 F.1.2.1 dX0_stepOnce_330 rfl (lv_at hl 2 rfl) ?_
  refine kGd (v := .ref (ad 1 4)) F hw 10 (by decide) rfl q75 (fun _ h9 => h9) dX0_stepOnce_331 ?_
  refine lv_aload_n F.1.1 F.1.2.1 dX0_stepOnce_334 rfl (lv_at hl 2 rfl) ?_
  refine kGd (v := .ref (ad 1 4)) F hw 10 (by decide) rfl q75 (fun _ h9 => h9) dX0_stepOnce_335 ?_
  refine kCv (As := [.ref (ad 1 4), .ref (ad 1 4), .ref (ad 1 4)]) F hw hA (n_mul 4 4 4 (by decide) (by decide) (by decide)) (cwV 3 F.1.2.2.2.2 (lw_V q178 q179 q180 q22 q181) rfl rfl rfl (by decide +kernel) ⟨Nat.le_of_ble_eq_true rfl, Nat.le_of_ble_eq_true rfl⟩) cRcP rfl hl.1 rfl (Nat.le_of_ble_eq_true rfl) dX0_stepOnce_338 ⟨Nat.le_of_ble_eq_true rfl, Nat.le_of_ble_eq_true rfl⟩ (fun rw H locs hp hw => ?_)
  refine lv_aload_n F.1.1 F.1.2.1 dX0_stepOnce_341 rfl (lv_at hl 2 rfl) ?_
  refine kGd (v := .ref (ad 0 3)) F hw 5 (by decide) rfl q70 (fun _ h9 => h9) dX0_stepOnce_342 ?_
  refine lv_aload_n F.1.1 F.1.2.1 dX0_stepOnce_345 rfl (lv_at hl 2 rfl) ?_
  refine kGd (v := .ref (ad 1 4)) F hw 10 (by decide) rfl q75 (fun _ h9 => h9) dX0_stepOnce_346 ?_
  refine lv_aload_n F.1.1 F.1.2.1 dX0_stepOnce_349 rfl (lv_at hl 2 rfl) ?_
  refine kGd (v := .ref (ad 1 0)) F hw 6 (by decide) rfl q71 (fun _ h9 => h9) dX0_stepOnce_350 ?_
  refine lv_aload_n F.1.1 F.1.2.1 dX0_stepOnce_353 rfl (lv_at hl 2 rfl) ?_
  refine kGd (v := .ref (ad 1 4)) F hw 10 (by decide) rfl q75 (fun _ h9 => h9) dX0_stepOnce_354 ?_
  refine kCv (As := [.ref (ad 1 4), .ref (ad 1 0), .ref (ad 1 4)]) F hw hA (n_mul 4 0 4 (by decide) (by decide) (by decide)) (cwV 3 F.1.2.2.2.2 (lw_V q178 q179 q180 q22 q181) rfl rfl rfl (by decide +kernel) ⟨Nat.le_of_ble_eq_true rfl, Nat.le_of_ble_eq_true rfl⟩) cRcP rfl hl.1 rfl (Nat.le_of_ble_eq_true rfl) dX0_stepOnce_357 ⟨Nat.le_of_ble_eq_true rfl, Nat.le_of_ble_eq_true rfl⟩ (fun rw H locs hp hw => ?_)
  refine lv_aload_n F.1.1 F.1.2.1 dX0_stepOnce_360 rfl (lv_at hl 2 rfl) ?_
  refine kGd (v := .ref (ad 1 1)) F hw 7 (by decide) rfl q72 (fun _ h9 => h9) dX0_stepOnce_361 ?_
  refine lv_aload_n F.1.1 F.1.2.1 dX0_stepOnce_364 rfl (lv_at hl 2 rfl) ?_
  refine kGd (v := .ref (ad 1 3)) F hw 9 (by decide) rfl q74 (fun _ h9 => h9) dX0_stepOnce_365 ?_
  refine lv_lload_n F.1.1 F.1.2.1 dX0_stepOnce_368 rfl (lv_at hl 0 rfl) ?_
  refine kCv (As := [.ref (ad 1 3), .long t1]) F hw hA (n_chg 1 3 (by decide) (by decide) (by decide) t1) (cwV 2 F.1.2.2.2.2 (lw_V q166 q167 q168 q23 q169) rfl rfl rfl (by decide +kernel) ⟨Nat.le_of_ble_eq_true rfl, Nat.le_of_ble_eq_true rfl⟩) (cRcN 1 (by decide)) rfl hl.1 rfl (Nat.le_of_ble_eq_true rfl) dX0_stepOnce_369 ⟨Nat.le_of_ble_eq_true rfl, Nat.le_of_ble_eq_true rfl⟩ (fun u H locs hp hw => ?_)
  refine lv_aload_n F.1.1 F.1.2.1 dX0_stepOnce_372 rfl (lv_at hl 2 rfl) ?_
  refine kGd (v := .ref (ad 1 2)) F hw 8 (by decide) rfl q73 (fun _ h9 => h9) dX0_stepOnce_373 ?_
  refine lv_aload_n F.1.1 F.1.2.1 dX0_stepOnce_376 rfl (lv_at hl 2 rfl) ?_
  refine kGd (v := .ref (ad 1 4)) F hw 10 (by decide) rfl q75 (fun _ h9 => h9) dX0_stepOnce_377 ?_
  refine lv_lload_n F.1.1 F.1.2.1 dX0_stepOnce_380 rfl (lv_at hl 0 rfl) ?_
  refine kCv (As := [.ref (ad 1 4), .long t1]) F hw hA (n_chg 2 4 (by decide) (by decide) (by decide) t1) (cwV 2 F.1.2.2.2.2 (lw_V q166 q167 q168 q23 q169) rfl rfl rfl (by decide +kernel) ⟨Nat.le_of_ble_eq_true rfl, Nat.le_of_ble_eq_true rfl⟩) (cRcN 2 (by decide)) rfl hl.1 rfl (Nat.le_of_ble_eq_true rfl) dX0_stepOnce_381 ⟨Nat.le_of_ble_eq_true rfl, Nat.le_of_ble_eq_true rfl⟩ (fun u H locs hp hw => ?_)
  refine lv_aload_n F.1.1 F.1.2.1 dX0_stepOnce_384 rfl (lv_at hl 2 rfl) ?_
  refine lv_dup F.1.1 F.1.2.1 dX0_stepOnce_385 rfl ?_
  refine kGd (v := .int (nI n)) F hw 3 (by decide) rfl q68 (fun _ h9 => h9) dX0_stepOnce_386 ?_
  refine lv_iconst (v := nI 1) F.1.1 F.1.2.1 dX0_stepOnce_389 (by decide) ?_
  refine lv_iadd F.1.1 F.1.2.1 dX0_stepOnce_390 ?_
  refine kTi (nI_add _ _) ?_
  refine kPd F hw 3 (by decide) rfl (by decide +kernel) q68 (fun _ h9 => h9) dX0_stepOnce_391 (sc, pt, ph, nI (n + 1), rs) rfl rfl rfl (fun H locs hw => ?_)
  subst et1
  exact kVret F hr hlocks _ hw trivial dX0_stepOnce_394

abbrev rX0_step : Room := { frames := 3, cells := 0, slots := 0, locals := 71 }

section XH
variable {p : Program} {l : Launch} {e : Env} {R : Room} {s : State} {m : MethodId} {args : Array Value} {below : List Frame} {meth : Method} {c : Code} {cells slots : Nat} {Q : State → Prop}
variable {G : va_G} {cJ cI : ClassId} {A : Nat → Prop} {ad : Nat → Nat → Nat} {P S : Nat → Nat → Int64} {rw : Nat → Int64} {X : CX}

theorem lp_step (F : kF p m c cX0_step 3 s args RX0 G cJ cI) (hA : ∀ q : Nat, s.heap.size ≤ q → A q) (hcs : cells ≤ rX0_step.cells ∧ slots ≤ rX0_step.slots) {sc pt : Nat → Int64} {ph rs : Int32} (a N J : Nat) (hN : N < 2 ^ 31) (hJ : J ≤ N) (hJ2 : J + a ≤ 255) (hJ3 : J = N ∨ J + a = 255)
    (kk : ∀ (rw : Nat → Int64) (H : Heap) (locs : List Loc) (ls : Array Slot), kW G A s H locs (cW cJ ad (stepsP sc a J P) S rw ((sc, pt, ph, nI (a + J), rs))) → lv_has ls 3 [(0, .ref (ad 0 0)), (1, .int (nI N)), (2, .int (nI J))] → W p l e rX0_step s m args below meth c H locs cells slots Q (F0 m 42 ls [])) :
    ∀ (n k : Nat), n + k = J → ∀ (rw : Nat → Int64) (H : Heap) (locs : List Loc) (ls : Array Slot), kW G A s H locs (cW cJ ad (stepsP sc a k P) S rw ((sc, pt, ph, nI (a + k), rs))) → lv_has ls 3 [(0, .ref (ad 0 0)), (1, .int (nI N)), (2, .int (nI k))] → W p l e rX0_step s m args below meth c H locs cells slots Q (F0 m 17 ls []) := by
  intro n
  induction n with
  | zero =>
    intro k hk rw H locs ls hw hl
    obtain rfl : J = k := by omega
    by_cases hJN : N ≤ J
    · refine lv_iload_n F.1.1 F.1.2.1 dX0_step_17 rfl (lv_at hl 2 rfl) ?_
      refine lv_iload_n F.1.1 F.1.2.1 dX0_step_18 rfl (lv_at hl 1 rfl) ?_
      refine lv_icmp_ge (tgt := 42) F.1.1 F.1.2.1 dX0_step_19 (by decide) (fun _ => ?_) (fun c9 => absurd (nI_le (by omega) (by omega)) c9)
      exact kk _ H locs ls hw (lv_sub hl [0, 1, 2] rfl)
    · refine lv_iload_n F.1.1 F.1.2.1 dX0_step_17 rfl (lv_at hl 2 rfl) ?_
      refine lv_iload_n F.1.1 F.1.2.1 dX0_step_18 rfl (lv_at hl 1 rfl) ?_
      refine lv_icmp_ge (tgt := 42) F.1.1 F.1.2.1 dX0_step_19 (by decide) (fun c9 => absurd c9 (nI_ge (by omega) (by omega))) (fun _ => ?_)
      refine lv_aload_n F.1.1 F.1.2.1 dX0_step_22 rfl (lv_at hl 0 rfl) ?_
      refine kGd (v := .int (nI (a + J))) F hw 3 (by decide) rfl q68 (fun _ h9 => h9) dX0_step_23 ?_
      refine lv_sipush (v := nI 255) F.1.1 F.1.2.1 dX0_step_26 (by decide) ?_
      refine lv_icmp_ge (tgt := 42) F.1.1 F.1.2.1 dX0_step_29 (by decide) (fun _ => ?_) (fun c9 => absurd (nI_le (by omega) (by omega)) c9)
      exact kk _ H locs ls hw (lv_sub hl [0, 1, 2] rfl)
  | succ n ih =>
    intro k hk rw H locs ls hw hl
    refine lv_iload_n F.1.1 F.1.2.1 dX0_step_17 rfl (lv_at hl 2 rfl) ?_
    refine lv_iload_n F.1.1 F.1.2.1 dX0_step_18 rfl (lv_at hl 1 rfl) ?_
    refine lv_icmp_ge (tgt := 42) F.1.1 F.1.2.1 dX0_step_19 (by decide) (fun c9 => absurd c9 (nI_ge (by omega) (by omega))) (fun _ => ?_)
    refine lv_aload_n F.1.1 F.1.2.1 dX0_step_22 rfl (lv_at hl 0 rfl) ?_
    refine kGd (v := .int (nI (a + k))) F hw 3 (by decide) rfl q68 (fun _ h9 => h9) dX0_step_23 ?_
    refine lv_sipush (v := nI 255) F.1.1 F.1.2.1 dX0_step_26 (by decide) ?_
    refine lv_icmp_ge (tgt := 42) F.1.1 F.1.2.1 dX0_step_29 (by decide) (fun c9 => absurd c9 (nI_ge (by omega) (by omega))) (fun _ => ?_)
    refine lv_aload_n F.1.1 F.1.2.1 dX0_step_32 rfl (lv_at hl 0 rfl) ?_
    refine kCv (As := []) F hw hA (met_X0_stepOnce _ (by omega)) (cwV 0 F.1.2.2.2.2 (lw_V q155 q157 qs0 q21 q158) rfl rfl rfl (by decide +kernel) ⟨Nat.le_of_ble_eq_true rfl, Nat.le_of_ble_eq_true rfl⟩) cRcD rfl hl.1 rfl (Nat.le_of_ble_eq_true rfl) dX0_step_33 hcs (fun rw H locs hp hw => ?_)
    refine lv_iinc (v := nI (k + 1)) (lv' := [(2, .int (nI (k + 1))), (0, .ref (ad 0 0)), (1, .int (nI N))]) F.1.1 F.1.2.1 dX0_step_36 hl (k := 2) rfl (nI_1 _) (by decide) rfl (fun ls hl => ?_)
    refine lv_goto (tgt := 17) F.1.1 F.1.2.1 dX0_step_39 (by decide) ?_
    exact ih (k + 1) (by omega) _ _ _ _ hw (lv_sub hl [1, 2, 0] rfl)

end XH

/-- how many steps a call makes -/
def stJ (a : Nat) (n : Int32) : Nat := min n.toNatClampNeg (255 - a)

/-- step -/
theorem met_X0_step {l : Launch} {G : va_G} {cJ cI : ClassId} {ad : Nat → Nat → Nat} {P S : Nat → Nat → Int64} {rw : Nat → Int64} {sc pt : Nat → Int64} {ph rs : Int32} {sz : Nat} (a : Nat) (ha : a ≤ 255) (n : Int32) : kMi l yX0_step cX0_step 3 .int rX0_step G cJ cI [.ref (ad 0 0), .int n] (cW cJ ad P S rw ((sc, pt, ph, nI a, rs))) sz (fun r (_ : Nat → Int64) => r = if ph = nI 1 ∧ nI 1 ≤ n then nI (255 - (a + stJ a n)) else -1) (fun rw => cW cJ ad (if ph = nI 1 ∧ nI 1 ≤ n then stepsP sc a (stJ a n) P else P) S rw (if ph = nI 1 ∧ nI 1 ≤ n then (sc, pt, ph, nI (a + stJ a n), rs) else (sc, pt, ph, nI a, rs))) := by
  refine kStart (by decide) (Nat.le_of_ble_eq_true rfl) ?_
  intro p e s m below meth c ls F hr hlocks hin hsz hA hw hl
  have hl : lv_has ls 3 [(0, .ref (ad 0 0)), (1, .int n)] := hl
  refine lv_aload_n F.1.1 F.1.2.1 dX0_step_0 rfl (lv_at hl 0 rfl) ?_
  refine kGd (v := .int ph) F hw 2 (by decide) rfl q67 (fun _ h9 => h9) dX0_step_1 ?_
  refine lv_iconst (v := nI 1) F.1.1 F.1.2.1 dX0_step_4 (by decide) ?_
  refine lv_icmp_ne (tgt := 13) F.1.1 F.1.2.1 dX0_step_5 (by decide) (fun c5 => ?_) (fun c5 => ?_)
  · refine lv_iconst (v := -1) F.1.1 F.1.2.1 dX0_step_13 (by decide) ?_
    first
    | (have hno : ¬ (ph = nI 1 ∧ nI 1 ≤ n) := fun h9 => c5 h9.1)
    | (have hno : ¬ (ph = nI 1 ∧ nI 1 ≤ n) := fun h9 => c10 h9.2)
    exact kIret F hr hlocks _ (by rw [if_neg hno, if_neg hno]; exact hw) (by rw [if_neg hno]) dX0_step_14
  · refine lv_iload_n F.1.1 F.1.2.1 dX0_step_8 rfl (lv_at hl 1 rfl) ?_
    refine lv_iconst (v := nI 1) F.1.1 F.1.2.1 dX0_step_9 (by decide) ?_
    refine lv_icmp_ge (tgt := 15) F.1.1 F.1.2.1 dX0_step_10 (by decide) (fun c10 => ?_) (fun c10 => ?_)
    · have hyes : ph = nI 1 ∧ nI 1 ≤ n := ⟨c5, c10⟩
      simp only [if_pos hyes]
      obtain ⟨N, hN, rfl⟩ := nI_of (x := n) (fun h9 => absurd (Int32.lt_of_le_of_lt c10 h9) (by decide))
      have hst : stJ a (nI N) = min N (255 - a) := by unfold stJ; rw [nI_clamp hN]
      rw [hst]
      refine lv_iconst (v := nI 0) F.1.1 F.1.2.1 dX0_step_15 (by decide) ?_
      refine lv_istore_n (lv' := [(2, .int (nI 0)), (0, .ref (ad 0 0)), (1, .int (nI N))]) F.1.1 F.1.2.1 dX0_step_16 rfl hl (by decide) rfl (fun ls hl => ?_)
      refine lp_step F hA ⟨Nat.le_of_ble_eq_true rfl, Nat.le_of_ble_eq_true rfl⟩ a N (min N (255 - a)) hN (by omega) (by omega) (by omega) (fun rw H locs ls hw hl => ?_) (min N (255 - a)) 0 rfl _ _ _ _ hw (lv_sub hl [1, 2, 0] rfl)
      refine lv_sipush (v := nI 255) F.1.1 F.1.2.1 dX0_step_42 (by decide) ?_
      refine lv_aload_n F.1.1 F.1.2.1 dX0_step_45 rfl (lv_at hl 0 rfl) ?_
      refine kGd (v := .int (nI (a + min N (255 - a)))) F hw 3 (by decide) rfl q68 (fun _ h9 => h9) dX0_step_46 ?_
      refine lv_isub F.1.1 F.1.2.1 dX0_step_49 ?_
      refine kTi (pk_sub (by omega)) ?_
      exact kIret F hr hlocks _ hw rfl dX0_step_50
    · refine lv_iconst (v := -1) F.1.1 F.1.2.1 dX0_step_13 (by decide) ?_
      first
      | (have hno : ¬ (ph = nI 1 ∧ nI 1 ≤ n) := fun h9 => c5 h9.1)
      | (have hno : ¬ (ph = nI 1 ∧ nI 1 ≤ n) := fun h9 => c10 h9.2)
      exact kIret F hr hlocks _ (by rw [if_neg hno, if_neg hno]; exact hw) (by rw [if_neg hno]) dX0_step_14

abbrev rX0_finish : Room := { frames := 3, cells := 0, slots := 0, locals := 72 }
/-- finish -/
theorem met_X0_finish {l : Launch} {G : va_G} {cJ cI : ClassId} {ad : Nat → Nat → Nat} {P S : Nat → Nat → Int64} {rw : Nat → Int64} {sc pt : Nat → Int64} {ph md rs : Int32} {sz : Nat}  : kMi l yX0_finish cX0_finish 1 .int rX0_finish G cJ cI [.ref (ad 0 0)] (cW cJ ad P S rw ((sc, pt, ph, md, rs))) sz (fun r (_ : (Nat → Nat → Int64) × (Nat → Int64)) => r = if (ph = nI 1 ∧ nI 255 ≤ md) then 1 else 0) (fun u => cW cJ ad (if (ph = nI 1 ∧ nI 255 ≤ md) then finP P else P) (u.1) (u.2) (if (ph = nI 1 ∧ nI 255 ≤ md) then (sc, pt, nI 2, md, rs + nI 1) else (sc, pt, ph, md, rs))) := by
  refine kStart (by decide) (Nat.le_of_ble_eq_true rfl) ?_
  intro p e s m below meth c ls F hr hlocks hin hsz hA hw hl
  have hl : lv_has ls 1 [(0, .ref (ad 0 0))] := hl
  refine lv_aload_n F.1.1 F.1.2.1 dX0_finish_0 rfl (lv_at hl 0 rfl) ?_
  refine kGd (v := .int ph) F hw 2 (by decide) rfl q67 (fun _ h9 => h9) dX0_finish_1 ?_
  refine lv_iconst (v := nI 1) F.1.1 F.1.2.1 dX0_finish_4 (by decide) ?_
  refine lv_icmp_ne (tgt := 18) F.1.1 F.1.2.1 dX0_finish_5 (by decide) (fun c5 => ?_) (fun c5 => ?_)
  · refine lv_iconst (v := nI 0) F.1.1 F.1.2.1 dX0_finish_18 (by decide) ?_
    first
    | (have hno : ¬ (ph = nI 1 ∧ nI 255 ≤ md) := fun h9 => c5 h9.1)
    | (have hno : ¬ (ph = nI 1 ∧ nI 255 ≤ md) := fun h9 => c15 h9.2)
    exact kIret F hr hlocks (S, rw) (by simp only [if_neg hno]; exact hw) (by rw [if_neg hno]; rfl) dX0_finish_19
  · refine lv_aload_n F.1.1 F.1.2.1 dX0_finish_8 rfl (lv_at hl 0 rfl) ?_
    refine kGd (v := .int md) F hw 3 (by decide) rfl q68 (fun _ h9 => h9) dX0_finish_9 ?_
    refine lv_sipush (v := nI 255) F.1.1 F.1.2.1 dX0_finish_12 (by decide) ?_
    refine lv_icmp_ge (tgt := 20) F.1.1 F.1.2.1 dX0_finish_15 (by decide) (fun c15 => ?_) (fun c15 => ?_)
    · have hyes : (ph = nI 1 ∧ nI 255 ≤ md) := ⟨c5, c15⟩
      refine lv_aload_n F.1.1 F.1.2.1 dX0_finish_20 rfl (lv_at hl 0 rfl) ?_
      refine kGd (v := .ref (ad 0 3)) F hw 5 (by decide) rfl q70 (fun _ h9 => h9) dX0_finish_21 ?_
      refine lv_aload_n F.1.1 F.1.2.1 dX0_finish_24 rfl (lv_at hl 0 rfl) ?_
      refine kGd (v := .ref (ad 1 2)) F hw 8 (by decide) rfl q73 (fun _ h9 => h9) dX0_finish_25 ?_
      refine lv_aload_n F.1.1 F.1.2.1 dX0_finish_28 rfl (lv_at hl 0 rfl) ?_
      refine kGd (v := .ref (ad 1 11)) F hw 17 (by decide) rfl q82 (fun _ h9 => h9) dX0_finish_29 ?_
      refine lv_aload_n F.1.1 F.1.2.1 dX0_finish_32 rfl (lv_at hl 0 rfl) ?_
      refine kGd (v := .ref (ad 1 5)) F hw 11 (by decide) rfl q76 (fun _ h9 => h9) dX0_finish_33 ?_
      refine kCv (As := [.ref (ad 1 2), .ref (ad 1 11), .ref (ad 1 5)]) F hw hA (n_inv 2 11 5 (by decide) (by decide) (by decide) (by decide) (by decide)) (cwV 3 F.1.2.2.2.2 (lw_V q193 q194 q195 q22 q196) rfl rfl rfl (by decide +kernel) ⟨Nat.le_of_ble_eq_true rfl, Nat.le_of_ble_eq_true rfl⟩) cRcP rfl hl.1 rfl (Nat.le_of_ble_eq_true rfl) dX0_finish_36 ⟨Nat.le_of_ble_eq_true rfl, Nat.le_of_ble_eq_true rfl⟩ (fun rw H locs hp hw => ?_)
      refine lv_aload_n F.1.1 F.1.2.1 dX0_finish_39 rfl (lv_at hl 0 rfl) ?_
      refine kGd (v := .ref (ad 0 3)) F hw 5 (by decide) rfl q70 (fun _ h9 => h9) dX0_finish_40 ?_
      refine lv_aload_n F.1.1 F.1.2.1 dX0_finish_43 rfl (lv_at hl 0 rfl) ?_
      refine kGd (v := .ref (ad 1 11)) F hw 17 (by decide) rfl q82 (fun _ h9 => h9) dX0_finish_44 ?_
      refine lv_aload_n F.1.1 F.1.2.1 dX0_finish_47 rfl (lv_at hl 0 rfl) ?_
      refine kGd (v := .ref (ad 1 1)) F hw 7 (by decide) rfl q72 (fun _ h9 => h9) dX0_finish_48 ?_
      refine lv_aload_n F.1.1 F.1.2.1 dX0_finish_51 rfl (lv_at hl 0 rfl) ?_
      refine kGd (v := .ref (ad 1 11)) F hw 17 (by decide) rfl q82 (fun _ h9 => h9) dX0_finish_52 ?_
      refine kCv (As := [.ref (ad 1 11), .ref (ad 1 1), .ref (ad 1 11)]) F hw hA (n_mul 11 1 11 (by decide) (by decide) (by decide)) (cwV 3 F.1.2.2.2.2 (lw_V q178 q179 q180 q22 q181) rfl rfl rfl (by decide +kernel) ⟨Nat.le_of_ble_eq_true rfl, Nat.le_of_ble_eq_true rfl⟩) cRcP rfl hl.1 rfl (Nat.le_of_ble_eq_true rfl) dX0_finish_55 ⟨Nat.le_of_ble_eq_true rfl, Nat.le_of_ble_eq_true rfl⟩ (fun rw H locs hp hw => ?_)
      refine lv_aload_n F.1.1 F.1.2.1 dX0_finish_58 rfl (lv_at hl 0 rfl) ?_
      refine kGd (v := .ref (ad 1 11)) F hw 17 (by decide) rfl q82 (fun _ h9 => h9) dX0_finish_59 ?_
      refine kCv (As := []) F hw hA (n_close 11 (by decide)) (cwV 0 F.1.2.2.2.2 (lw_V q199 q200 q201 q23 q202) rfl rfl rfl (by decide +kernel) ⟨Nat.le_of_ble_eq_true rfl, Nat.le_of_ble_eq_true rfl⟩) (cRcN 11 (by decide)) rfl hl.1 rfl (Nat.le_of_ble_eq_true rfl) dX0_finish_62 ⟨Nat.le_of_ble_eq_true rfl, Nat.le_of_ble_eq_true rfl⟩ (fun S H locs hp hw => ?_)
      refine lv_aload_n F.1.1 F.1.2.1 dX0_finish_65 rfl (lv_at hl 0 rfl) ?_
      refine lv_iconst (v := nI 2) F.1.1 F.1.2.1 dX0_finish_66 (by decide) ?_
      refine kPd F hw 2 (by decide) rfl (by decide +kernel) q67 (fun _ h9 => h9) dX0_finish_67 (sc, pt, nI 2, md, rs) rfl rfl rfl (fun H locs hw => ?_)
      refine lv_aload_n F.1.1 F.1.2.1 dX0_finish_70 rfl (lv_at hl 0 rfl) ?_
      refine lv_dup F.1.1 F.1.2.1 dX0_finish_71 rfl ?_
      refine kGd (v := .int rs) F hw 4 (by decide) rfl q69 (fun _ h9 => h9) dX0_finish_72 ?_
      refine lv_iconst (v := nI 1) F.1.1 F.1.2.1 dX0_finish_75 (by decide) ?_
      refine lv_iadd F.1.1 F.1.2.1 dX0_finish_76 ?_
      refine lv_topi (fun t1 et1 => ?_)
      refine kPd F hw 4 (by decide) rfl (by decide +kernel) q69 (fun _ h9 => h9) dX0_finish_77 (sc, pt, nI 2, md, t1) rfl rfl rfl (fun H locs hw => ?_)
      refine lv_iconst (v := nI 1) F.1.1 F.1.2.1 dX0_finish_80 (by decide) ?_
      exact kIret F hr hlocks (S, rw) (by simp only [if_pos hyes]; subst et1; exact hw) (by rw [if_pos hyes]; rfl) dX0_finish_81
    · refine lv_iconst (v := nI 0) F.1.1 F.1.2.1 dX0_finish_18 (by decide) ?_
      first
      | (have hno : ¬ (ph = nI 1 ∧ nI 255 ≤ md) := fun h9 => c5 h9.1)
      | (have hno : ¬ (ph = nI 1 ∧ nI 255 ≤ md) := fun h9 => c15 h9.2)
      exact kIret F hr hlocks (S, rw) (by simp only [if_neg hno]; exact hw) (by rw [if_neg hno]; rfl) dX0_finish_19

abbrev rX0_again : Room := { frames := 1, cells := 0, slots := 0, locals := 24 }

section XI
variable {p : Program} {l : Launch} {e : Env} {R : Room} {s : State} {m : MethodId} {args : Array Value} {below : List Frame} {meth : Method} {c : Code} {cells slots : Nat} {Q : State → Prop}
variable {G : va_G} {cJ cI : ClassId} {A : Nat → Prop} {ad : Nat → Nat → Nat} {P S : Nat → Nat → Int64} {rw : Nat → Int64} {X : CX}

theorem lp_again (F : kF p m c cX0_again 2 s args RX0 G cJ cI) (hA : ∀ q : Nat, s.heap.size ≤ q → A q) (hcs : cells ≤ rX0_again.cells ∧ slots ≤ rX0_again.slots) {sc pt : Nat → Int64} {ph md rs : Int32}
    (kk : ∀  (H : Heap) (locs : List Loc) (ls : Array Slot), kW G A s H locs (cW cJ ad P S rw ((sc, fl pt 4 (fun j => atF (P 11) j 4), ph, md, rs))) → lv_has ls 2 [(0, .ref (ad 0 0)), (1, .int (nI 4))] → W p l e rX0_again s m args below meth c H locs cells slots Q (F0 m 37 ls [])) :
    ∀ (n k : Nat), n + k = 4 → ∀  (H : Heap) (locs : List Loc) (ls : Array Slot), kW G A s H locs (cW cJ ad P S rw ((sc, fl pt k (fun j => atF (P 11) j 4), ph, md, rs))) → lv_has ls 2 [(0, .ref (ad 0 0)), (1, .int (nI k))] → W p l e rX0_again s m args below meth c H locs cells slots Q (F0 m 12 ls []) := by
  intro n
  induction n with
  | zero =>
    intro k hk  H locs ls hw hl
    obtain rfl : k = 4 := by omega
    refine lv_iload_n F.1.1 F.1.2.1 dX0_again_12 rfl (lv_at hl 1 rfl) ?_
    refine lv_iconst (v := nI 4) F.1.1 F.1.2.1 dX0_again_13 (by decide) ?_
    refine lv_icmp_ge (tgt := 37) F.1.1 F.1.2.1 dX0_again_14 (by decide) (fun _ => ?_) (fun c9 => absurd (nI_le (by omega) (by omega)) c9)
    exact kk  H locs ls hw (lv_sub hl [0, 1] rfl)
  | succ n ih =>
    intro k hk  H locs ls hw hl
    refine lv_iload_n F.1.1 F.1.2.1 dX0_again_12 rfl (lv_at hl 1 rfl) ?_
    refine lv_iconst (v := nI 4) F.1.1 F.1.2.1 dX0_again_13 (by decide) ?_
    refine lv_icmp_ge (tgt := 37) F.1.1 F.1.2.1 dX0_again_14 (by decide) (fun c9 => absurd c9 (nI_ge (by omega) (by omega))) (fun _ => ?_)
    refine lv_aload_n F.1.1 F.1.2.1 dX0_again_17 rfl (lv_at hl 0 rfl) ?_
    refine kGd (v := .ref (ad 0 2)) F hw 1 (by decide) rfl q66 (fun _ h9 => h9) dX0_again_18 ?_
    refine lv_iload_n F.1.1 F.1.2.1 dX0_again_21 rfl (lv_at hl 1 rfl) ?_
    refine lv_aload_n F.1.1 F.1.2.1 dX0_again_22 rfl (lv_at hl 0 rfl) ?_
    refine kGd (v := .ref (ad 1 11)) F hw 17 (by decide) rfl q82 (fun _ h9 => h9) dX0_again_23 ?_
    refine lv_iload_n F.1.1 F.1.2.1 dX0_again_26 rfl (lv_at hl 1 rfl) ?_
    refine kCl_ (As := [.int (nI k)]) F hw hA (met_X2_at 11 (by decide) k (by omega)) (cwV 1 F.1.2.2.2.2 (lw_V q213 q214 q215 q23 q216) rfl rfl rfl (by decide +kernel) ⟨Nat.le_of_ble_eq_true rfl, Nat.le_of_ble_eq_true rfl⟩) (cRcN 11 (by decide)) rfl hl.1 rfl (Nat.le_of_ble_eq_true rfl) dX0_again_27 hcs (fun r27 u27 H locs hp27 hw => ?_)
    refine kSt F hw k rfl (by omega) dX0_again_30 (fun H locs hw => ?_)
    refine lv_iinc (v := nI (k + 1)) (lv' := [(1, .int (nI (k + 1))), (0, .ref (ad 0 0))]) F.1.1 F.1.2.1 dX0_again_31 hl (k := 1) rfl (nI_1 _) (by decide) rfl (fun ls hl => ?_)
    refine lv_goto (tgt := 12) F.1.1 F.1.2.1 dX0_again_34 (by decide) ?_
    exact ih (k + 1) (by omega)  _ _ _ (by rw [← fl_s]; rw [hp27] at hw; exact hw) (lv_sub hl [1, 0] rfl)

end XI

/-- again -/
theorem met_X0_again {l : Launch} {G : va_G} {cJ cI : ClassId} {ad : Nat → Nat → Nat} {P S : Nat → Nat → Int64} {rw : Nat → Int64} {sc pt : Nat → Int64} {ph md rs : Int32} {sz : Nat}  : kMi l yX0_again cX0_again 2 .int rX0_again G cJ cI [.ref (ad 0 0)] (cW cJ ad P S rw ((sc, pt, ph, md, rs))) sz (fun r (_ : Unit) => r = if ph = nI 2 then 1 else 0) (fun _ => cW cJ ad P S rw (if ph = nI 2 then (sc, fl pt 4 (fun j => atF (P 11) j 4), nI 0, md, rs) else (sc, pt, ph, md, rs))) := by
  refine kStart (by decide) (Nat.le_of_ble_eq_true rfl) ?_
  intro p e s m below meth c ls F hr hlocks hin hsz hA hw hl
  have hl : lv_has ls 2 [(0, .ref (ad 0 0))] := hl
  refine lv_aload_n F.1.1 F.1.2.1 dX0_again_0 rfl (lv_at hl 0 rfl) ?_
  refine kGd (v := .int ph) F hw 2 (by decide) rfl q67 (fun _ h9 => h9) dX0_again_1 ?_
  refine lv_iconst (v := nI 2) F.1.1 F.1.2.1 dX0_again_4 (by decide) ?_
  refine lv_icmp_eq (tgt := 10) F.1.1 F.1.2.1 dX0_again_5 (by decide) (fun c5 => ?_) (fun c5 => ?_)
  · refine lv_iconst (v := nI 0) F.1.1 F.1.2.1 dX0_again_10 (by decide) ?_
    refine lv_istore_n (lv' := [(1, .int (nI 0)), (0, .ref (ad 0 0))]) F.1.1 F.1.2.1 dX0_again_11 rfl hl (by decide) rfl (fun ls hl => ?_)
    refine lp_again F hA ⟨Nat.le_of_ble_eq_true rfl, Nat.le_of_ble_eq_true rfl⟩  (fun  H locs ls hw hl => ?_) 4 0 rfl  _ _ _ (by rw [fl_0]; exact hw) (lv_sub hl [1, 0] rfl)
    refine lv_aload_n F.1.1 F.1.2.1 dX0_again_37 rfl (lv_at hl 0 rfl) ?_
    refine lv_iconst (v := nI 0) F.1.1 F.1.2.1 dX0_again_38 (by decide) ?_
    refine kPd F hw 2 (by decide) rfl (by decide +kernel) q67 (fun _ h9 => h9) dX0_again_39 (sc, fl pt 4 (fun j => atF (P 11) j 4), nI 0, md, rs) rfl rfl rfl (fun H locs hw => ?_)
    refine lv_iconst (v := nI 1) F.1.1 F.1.2.1 dX0_again_42 (by decide) ?_
    exact kIret F hr hlocks () (by rw [if_pos c5]; exact hw) (by rw [if_pos c5]; rfl) dX0_again_43
  · refine lv_iconst (v := nI 0) F.1.1 F.1.2.1 dX0_again_8 (by decide) ?_
    exact kIret F hr hlocks () (by rw [if_neg c5]; exact hw) (by rw [if_neg c5]; rfl) dX0_again_9

def ouF (ph k : Int32) (P : Nat → Nat → Int64) : Int64 := if ph = nI 2 ∧ ¬ isL k = 0 then atF (P 11) k.toNatClampNeg 4 else 0

abbrev rX0_out : Room := { frames := 1, cells := 0, slots := 0, locals := 24 }
/-- out -/
theorem met_X0_out {l : Launch} {G : va_G} {cJ cI : ClassId} {ad : Nat → Nat → Nat} {P S : Nat → Nat → Int64} {rw : Nat → Int64} {sc pt : Nat → Int64} {ph md rs : Int32} {sz : Nat} (k : Int32) : kMl l yX0_out cX0_out 2 rX0_out G cJ cI [.ref (ad 0 0), .int k] (cW cJ ad P S rw ((sc, pt, ph, md, rs))) sz (fun r (_ : Unit) => r = ouF ph k P) (fun _ => cW cJ ad P S rw ((sc, pt, ph, md, rs))) := by
  refine kStart (by decide) (Nat.le_of_ble_eq_true rfl) ?_
  intro p e s m below meth c ls F hr hlocks hin hsz hA hw hl
  have hl : lv_has ls 2 [(0, .ref (ad 0 0)), (1, .int k)] := hl
  refine lv_aload_n F.1.1 F.1.2.1 dX0_out_0 rfl (lv_at hl 0 rfl) ?_
  refine kGd (v := .int ph) F hw 2 (by decide) rfl q67 (fun _ h9 => h9) dX0_out_1 ?_
  refine lv_iconst (v := nI 2) F.1.1 F.1.2.1 dX0_out_4 (by decide) ?_
  refine lv_icmp_ne (tgt := 26) F.1.1 F.1.2.1 dX0_out_5 (by decide) (fun c5 => ?_) (fun c5 => ?_)
  · refine lv_lconst (v := 0) F.1.1 F.1.2.1 dX0_out_26 (by decide) ?_
    exact kLret F hr hlocks () hw (by first | exact hp20 | (unfold ouF; rw [if_neg (fun h9 => c5 h9.1)]) | (unfold ouF; rw [if_neg (fun h9 => h9.2 (by rw [← hp9]; exact c12))])) dX0_out_27
  · refine lv_iload_n F.1.1 F.1.2.1 dX0_out_8 rfl (lv_at hl 1 rfl) ?_
    refine kCSi (As := [.int k]) F hw hA (met_X0_isLong _) (va_cwS 1 F.1.2.2.2.2 (lw_S q127 q128 q21 q129) rfl rfl rfl (by decide +kernel) ⟨Nat.le_of_ble_eq_true rfl, Nat.le_of_ble_eq_true rfl⟩) rfl hl.1 rfl (Nat.le_of_ble_eq_true rfl) dX0_out_9 ⟨Nat.le_of_ble_eq_true rfl, Nat.le_of_ble_eq_true rfl⟩ (fun r9 u9 H locs hp9 hw => ?_)
    refine lv_if_eq (tgt := 26) F.1.1 F.1.2.1 dX0_out_12 (by decide) (fun c12 => ?_) (fun c12 => ?_)
    · refine lv_lconst (v := 0) F.1.1 F.1.2.1 dX0_out_26 (by decide) ?_
      exact kLret F hr hlocks () hw (by first | exact hp20 | (unfold ouF; rw [if_neg (fun h9 => c5 h9.1)]) | (unfold ouF; rw [if_neg (fun h9 => h9.2 (by rw [← hp9]; exact c12))])) dX0_out_27
    · have hyes : ph = nI 2 ∧ ¬ isL k = 0 := ⟨c5, by rw [← hp9]; exact c12⟩
      unfold ouF
      rw [if_pos hyes]
      obtain ⟨q, hq, rfl⟩ := isL_in hyes.2
      rw [nI_clamp (by omega)]
      refine lv_aload_n F.1.1 F.1.2.1 dX0_out_15 rfl (lv_at hl 0 rfl) ?_
      refine kGd (v := .ref (ad 1 11)) F hw 17 (by decide) rfl q82 (fun _ h9 => h9) dX0_out_16 ?_
      refine lv_iload_n F.1.1 F.1.2.1 dX0_out_19 rfl (lv_at hl 1 rfl) ?_
      refine kCl_ (As := [.int (nI q)]) F hw hA (met_X2_at 11 (by decide) q hq) (cwV 1 F.1.2.2.2.2 (lw_V q213 q214 q215 q23 q216) rfl rfl rfl (by decide +kernel) ⟨Nat.le_of_ble_eq_true rfl, Nat.le_of_ble_eq_true rfl⟩) (cRcN 11 (by decide)) rfl hl.1 rfl (Nat.le_of_ble_eq_true rfl) dX0_out_20 ⟨Nat.le_of_ble_eq_true rfl, Nat.le_of_ble_eq_true rfl⟩ (fun r20 u20 H locs hp20 hw => ?_)
      refine lv_goto (tgt := 27) F.1.1 F.1.2.1 dX0_out_23 (by decide) ?_
      exact kLret F hr hlocks () hw (by first | exact hp20 | (unfold ouF; rw [if_neg (fun h9 => c5 h9.1)]) | (unfold ouF; rw [if_neg (fun h9 => h9.2 (by rw [← hp9]; exact c12))])) dX0_out_27

def paC (ph w k : Int32) : Prop := ¬ ph = 0 ∧ ¬ w < 0 ∧ ¬ nI 4 < w ∧ ¬ isL k = 0

theorem sh_ne {i w : Nat} {P : Nat → Nat → Int64} (h : i ≠ 12) : clP 12 (tkP 12 w P) i = P i := by
  unfold clP tkP
  rw [va_up_ne _ _ h, va_up_ne _ _ h]
theorem td_ne {i : Nat} {pt : Nat → Int64} {P : Nat → Nat → Int64} (h : i ≠ 12) : clP 12 (tlP 12 pt P) i = P i := by
  unfold clP tlP
  rw [va_up_ne _ _ h, va_up_ne _ _ h]

abbrev rX0_part : Room := { frames := 3, cells := 0, slots := 0, locals := 67 }
/-- part -/
theorem met_X0_part {l : Launch} {G : va_G} {cJ cI : ClassId} {ad : Nat → Nat → Nat} {P S : Nat → Nat → Int64} {rw : Nat → Int64} {sc pt : Nat → Int64} {ph md rs : Int32} {sz : Nat} (w k : Int32) : kMl l yX0_part cX0_part 3 rX0_part G cJ cI [.ref (ad 0 0), .int w, .int k] (cW cJ ad P S rw ((sc, pt, ph, md, rs))) sz (fun r (u : (Nat → Nat → Int64) × (Nat → Nat → Int64)) => (∀ i, i ≠ 12 → u.1 i = P i) ∧ (paC ph w k → r = shF (whN w.toNatClampNeg) k.toNatClampNeg P) ∧ (¬ paC ph w k → r = 0)) (fun u => cW cJ ad (u.1) (u.2) rw ((sc, pt, ph, md, rs))) := by
  refine kStart (by decide) (Nat.le_of_ble_eq_true rfl) ?_
  intro p e s m below meth c ls F hr hlocks hin hsz hA hw hl
  have hl : lv_has ls 3 [(0, .ref (ad 0 0)), (1, .int w), (2, .int k)] := hl
  refine lv_aload_n F.1.1 F.1.2.1 dX0_part_0 rfl (lv_at hl 0 rfl) ?_
  refine kGd (v := .int ph) F hw 2 (by decide) rfl q67 (fun _ h9 => h9) dX0_part_1 ?_
  refine lv_if_eq (tgt := 23) F.1.1 F.1.2.1 dX0_part_4 (by decide) (fun c4 => ?_) (fun c4 => ?_)
  · refine lv_lconst (v := 0) F.1.1 F.1.2.1 dX0_part_23 (by decide) ?_
    have hno : ¬ paC ph w k := fun h9 => by
      first
      | exact h9.1 c4
      | exact h9.2.1 c8
      | exact h9.2.2.1 c13
      | exact h9.2.2.2 (by rw [← hp17]; exact c20)
    exact kLret F hr hlocks (P, S) hw ⟨fun i h9 => rfl, fun h9 => absurd h9 hno, fun _ => rfl⟩ dX0_part_24
  · refine lv_iload_n F.1.1 F.1.2.1 dX0_part_7 rfl (lv_at hl 1 rfl) ?_
    refine lv_if_lt (tgt := 23) F.1.1 F.1.2.1 dX0_part_8 (by decide) (fun c8 => ?_) (fun c8 => ?_)
    · refine lv_lconst (v := 0) F.1.1 F.1.2.1 dX0_part_23 (by decide) ?_
      have hno : ¬ paC ph w k := fun h9 => by
        first
        | exact h9.1 c4
        | exact h9.2.1 c8
        | exact h9.2.2.1 c13
        | exact h9.2.2.2 (by rw [← hp17]; exact c20)
      exact kLret F hr hlocks (P, S) hw ⟨fun i h9 => rfl, fun h9 => absurd h9 hno, fun _ => rfl⟩ dX0_part_24
    · refine lv_iload_n F.1.1 F.1.2.1 dX0_part_11 rfl (lv_at hl 1 rfl) ?_
      refine lv_iconst (v := nI 4) F.1.1 F.1.2.1 dX0_part_12 (by decide) ?_
      refine lv_icmp_gt (tgt := 23) F.1.1 F.1.2.1 dX0_part_13 (by decide) (fun c13 => ?_) (fun c13 => ?_)
      · refine lv_lconst (v := 0) F.1.1 F.1.2.1 dX0_part_23 (by decide) ?_
        have hno : ¬ paC ph w k := fun h9 => by
          first
          | exact h9.1 c4
          | exact h9.2.1 c8
          | exact h9.2.2.1 c13
          | exact h9.2.2.2 (by rw [← hp17]; exact c20)
        exact kLret F hr hlocks (P, S) hw ⟨fun i h9 => rfl, fun h9 => absurd h9 hno, fun _ => rfl⟩ dX0_part_24
      · refine lv_iload_n F.1.1 F.1.2.1 dX0_part_16 rfl (lv_at hl 2 rfl) ?_
        refine kCSi (As := [.int k]) F hw hA (met_X0_isLong _) (va_cwS 1 F.1.2.2.2.2 (lw_S q127 q128 q21 q129) rfl rfl rfl (by decide +kernel) ⟨Nat.le_of_ble_eq_true rfl, Nat.le_of_ble_eq_true rfl⟩) rfl hl.1 rfl (Nat.le_of_ble_eq_true rfl) dX0_part_17 ⟨Nat.le_of_ble_eq_true rfl, Nat.le_of_ble_eq_true rfl⟩ (fun r17 u17 H locs hp17 hw => ?_)
        refine lv_if_ne (tgt := 25) F.1.1 F.1.2.1 dX0_part_20 (by decide) (fun c20 => ?_) (fun c20 => ?_)
        · have hyes : paC ph w k := ⟨c4, c8, c13, by rw [← hp17]; exact c20⟩
          obtain ⟨q, hq, rfl⟩ := isL_in hyes.2.2.2
          obtain ⟨v, hv5, rfl⟩ := nI_of hyes.2.1
          have hv : v < 5 := Nat.lt_of_not_le (fun h9 => c13 (nI_lt h9 hv5))
          have hwh : whN v < 13 := by unfold whN; repeat (first | omega | split)
          refine lv_aload_n F.1.1 F.1.2.1 dX0_part_25 rfl (lv_at hl 0 rfl) ?_
          refine kGd (v := .ref (ad 1 12)) F hw 18 (by decide) rfl q83 (fun _ h9 => h9) dX0_part_26 ?_
          refine lv_aload_n F.1.1 F.1.2.1 dX0_part_29 rfl (lv_at hl 0 rfl) ?_
          refine lv_iload_n F.1.1 F.1.2.1 dX0_part_30 rfl (lv_at hl 1 rfl) ?_
          refine kCr (As := [.int (nI v)]) F hw hA (met_X0_which v hv) (cwV 1 F.1.2.2.2.2 (lw_V q233 q235 qs3 q21 q236) rfl rfl rfl (by decide +kernel) ⟨Nat.le_of_ble_eq_true rfl, Nat.le_of_ble_eq_true rfl⟩) cRcD rfl hl.1 rfl (Nat.le_of_ble_eq_true rfl) dX0_part_31 ⟨Nat.le_of_ble_eq_true rfl, Nat.le_of_ble_eq_true rfl⟩ (fun H locs hw => ?_)
          refine kCv (As := [.ref (ad 1 (whN v))]) F hw hA (n_tk 12 (whN v) (by decide) hwh) (cwV 1 F.1.2.2.2.2 (lw_V q144 q145 q146 q23 q147) rfl rfl rfl (by decide +kernel) ⟨Nat.le_of_ble_eq_true rfl, Nat.le_of_ble_eq_true rfl⟩) (cRcN 12 (by decide)) rfl hl.1 rfl (Nat.le_of_ble_eq_true rfl) dX0_part_34 ⟨Nat.le_of_ble_eq_true rfl, Nat.le_of_ble_eq_true rfl⟩ (fun u H locs hp hw => ?_)
          refine lv_aload_n F.1.1 F.1.2.1 dX0_part_37 rfl (lv_at hl 0 rfl) ?_
          refine kGd (v := .ref (ad 1 12)) F hw 18 (by decide) rfl q83 (fun _ h9 => h9) dX0_part_38 ?_
          refine kCv (As := []) F hw hA (n_close 12 (by decide)) (cwV 0 F.1.2.2.2.2 (lw_V q199 q200 q201 q23 q202) rfl rfl rfl (by decide +kernel) ⟨Nat.le_of_ble_eq_true rfl, Nat.le_of_ble_eq_true rfl⟩) (cRcN 12 (by decide)) rfl hl.1 rfl (Nat.le_of_ble_eq_true rfl) dX0_part_41 ⟨Nat.le_of_ble_eq_true rfl, Nat.le_of_ble_eq_true rfl⟩ (fun S H locs hp hw => ?_)
          refine lv_aload_n F.1.1 F.1.2.1 dX0_part_44 rfl (lv_at hl 0 rfl) ?_
          refine kGd (v := .ref (ad 1 12)) F hw 18 (by decide) rfl q83 (fun _ h9 => h9) dX0_part_45 ?_
          refine lv_iload_n F.1.1 F.1.2.1 dX0_part_48 rfl (lv_at hl 2 rfl) ?_
          refine kCl_ (As := [.int (nI q)]) F hw hA (met_X2_at 12 (by decide) q hq) (cwV 1 F.1.2.2.2.2 (lw_V q213 q214 q215 q23 q216) rfl rfl rfl (by decide +kernel) ⟨Nat.le_of_ble_eq_true rfl, Nat.le_of_ble_eq_true rfl⟩) (cRcN 12 (by decide)) rfl hl.1 rfl (Nat.le_of_ble_eq_true rfl) dX0_part_49 ⟨Nat.le_of_ble_eq_true rfl, Nat.le_of_ble_eq_true rfl⟩ (fun r49 u49 H locs hp49 hw => ?_)
          exact kLret F hr hlocks (clP 12 (tkP 12 (whN v) P), S) hw ⟨fun i h9 => sh_ne h9, fun _ => by rw [nI_clamp (by omega), nI_clamp (by omega)]; exact hp49, fun h9 => absurd hyes h9⟩ dX0_part_52
        · refine lv_lconst (v := 0) F.1.1 F.1.2.1 dX0_part_23 (by decide) ?_
          have hno : ¬ paC ph w k := fun h9 => by
            first
            | exact h9.1 c4
            | exact h9.2.1 c8
            | exact h9.2.2.1 c13
            | exact h9.2.2.2 (by rw [← hp17]; exact c20)
          exact kLret F hr hlocks (P, S) hw ⟨fun i h9 => rfl, fun h9 => absurd h9 hno, fun _ => rfl⟩ dX0_part_24

def tdC (w k : Int32) : Prop := ¬ w < 0 ∧ ¬ nI 3 < w ∧ ¬ isL k = 0
def tdV (w q : Nat) (sc pt : Nat → Int64) (P : Nat → Nat → Int64) : Int64 := if w = 0 then sc q else if w = 1 then pt q else if w = 2 then claF sc q else tdF q pt P

abbrev rX0_told : Room := { frames := 3, cells := 0, slots := 0, locals := 67 }
/-- told -/
theorem met_X0_told {l : Launch} {G : va_G} {cJ cI : ClassId} {ad : Nat → Nat → Nat} {P S : Nat → Nat → Int64} {rw : Nat → Int64} {sc pt : Nat → Int64} {ph md rs : Int32} {sz : Nat} (w k : Int32) : kMl l yX0_told cX0_told 3 rX0_told G cJ cI [.ref (ad 0 0), .int w, .int k] (cW cJ ad P S rw ((sc, pt, ph, md, rs))) sz (fun r (u : (Nat → Nat → Int64) × (Nat → Nat → Int64)) => (∀ i, i ≠ 12 → u.1 i = P i) ∧ (tdC w k → r = tdV w.toNatClampNeg k.toNatClampNeg sc pt P) ∧ (¬ tdC w k → r = 0)) (fun u => cW cJ ad (u.1) (u.2) rw ((sc, pt, ph, md, rs))) := by
  refine kStart (by decide) (Nat.le_of_ble_eq_true rfl) ?_
  intro p e s m below meth c ls F hr hlocks hin hsz hA hw hl
  have hl : lv_has ls 3 [(0, .ref (ad 0 0)), (1, .int w), (2, .int k)] := hl
  refine lv_iload_n F.1.1 F.1.2.1 dX0_told_0 rfl (lv_at hl 1 rfl) ?_
  refine lv_if_lt (tgt := 16) F.1.1 F.1.2.1 dX0_told_1 (by decide) (fun c1 => ?_) (fun c1 => ?_)
  · refine lv_lconst (v := 0) F.1.1 F.1.2.1 dX0_told_16 (by decide) ?_
    have hno : ¬ tdC w k := fun h9 => by
      first
      | exact h9.1 c1
      | exact h9.2.1 c6
      | exact h9.2.2 (by rw [← hp10]; exact c13)
    exact kLret F hr hlocks (P, S) hw ⟨fun i h9 => rfl, fun h9 => absurd h9 hno, fun _ => rfl⟩ dX0_told_17
  · refine lv_iload_n F.1.1 F.1.2.1 dX0_told_4 rfl (lv_at hl 1 rfl) ?_
    refine lv_iconst (v := nI 3) F.1.1 F.1.2.1 dX0_told_5 (by decide) ?_
    refine lv_icmp_gt (tgt := 16) F.1.1 F.1.2.1 dX0_told_6 (by decide) (fun c6 => ?_) (fun c6 => ?_)
    · refine lv_lconst (v := 0) F.1.1 F.1.2.1 dX0_told_16 (by decide) ?_
      have hno : ¬ tdC w k := fun h9 => by
        first
        | exact h9.1 c1
        | exact h9.2.1 c6
        | exact h9.2.2 (by rw [← hp10]; exact c13)
      exact kLret F hr hlocks (P, S) hw ⟨fun i h9 => rfl, fun h9 => absurd h9 hno, fun _ => rfl⟩ dX0_told_17
    · refine lv_iload_n F.1.1 F.1.2.1 dX0_told_9 rfl (lv_at hl 2 rfl) ?_
      refine kCSi (As := [.int k]) F hw hA (met_X0_isLong _) (va_cwS 1 F.1.2.2.2.2 (lw_S q127 q128 q21 q129) rfl rfl rfl (by decide +kernel) ⟨Nat.le_of_ble_eq_true rfl, Nat.le_of_ble_eq_true rfl⟩) rfl hl.1 rfl (Nat.le_of_ble_eq_true rfl) dX0_told_10 ⟨Nat.le_of_ble_eq_true rfl, Nat.le_of_ble_eq_true rfl⟩ (fun r10 u10 H locs hp10 hw => ?_)
      refine lv_if_ne (tgt := 18) F.1.1 F.1.2.1 dX0_told_13 (by decide) (fun c13 => ?_) (fun c13 => ?_)
      · have hyes : tdC w k := ⟨c1, c6, by rw [← hp10]; exact c13⟩
        obtain ⟨q, hq, rfl⟩ := isL_in hyes.2.2
        obtain ⟨v, hv5, rfl⟩ := nI_of hyes.1
        have hv : v < 4 := Nat.lt_of_not_le (fun h9 => c6 (nI_lt h9 hv5))
        clear hv5 c1 c6 hp10
        rcases (show v = 0 ∨ v = 1 ∨ v = 2 ∨ v = 3 by omega) with rfl | rfl | rfl | rfl
        · refine lv_iload_n F.1.1 F.1.2.1 dX0_told_18 rfl (lv_at hl 1 rfl) ?_
          refine lv_iconst (v := nI 3) F.1.1 F.1.2.1 dX0_told_19 (by decide) ?_
          refine lv_icmp_ne (tgt := 41) F.1.1 F.1.2.1 dX0_told_20 (by decide) (fun _ => ?_) (fun c9 => absurd c9 (kne (by omega) (by omega) (by omega)))
          refine lv_iload_n F.1.1 F.1.2.1 dX0_told_41 rfl (lv_at hl 1 rfl) ?_
          refine lv_if_ne (tgt := 54) F.1.1 F.1.2.1 dX0_told_42 (by decide) (fun c9 => absurd (kz0 (by omega)) c9) (fun _ => ?_)
          refine lv_aload_n F.1.1 F.1.2.1 dX0_told_45 rfl (lv_at hl 0 rfl) ?_
          refine kGd (v := .ref (ad 0 1)) F hw 0 (by decide) rfl q65 (fun _ h9 => h9) dX0_told_46 ?_
          refine lv_iload_n F.1.1 F.1.2.1 dX0_told_49 rfl (lv_at hl 2 rfl) ?_
          refine kLc F hw q rfl (by omega) dX0_told_50 ?_
          refine lv_goto (tgt := 89) F.1.1 F.1.2.1 dX0_told_51 (by decide) ?_
          exact kLret F hr hlocks (P, S) hw ⟨fun i h9 => rfl, fun _ => by rw [nI_clamp (by omega), nI_clamp (by omega)]; rfl, fun h9 => absurd hyes h9⟩ dX0_told_89
        · refine lv_iload_n F.1.1 F.1.2.1 dX0_told_18 rfl (lv_at hl 1 rfl) ?_
          refine lv_iconst (v := nI 3) F.1.1 F.1.2.1 dX0_told_19 (by decide) ?_
          refine lv_icmp_ne (tgt := 41) F.1.1 F.1.2.1 dX0_told_20 (by decide) (fun _ => ?_) (fun c9 => absurd c9 (kne (by omega) (by omega) (by omega)))
          refine lv_iload_n F.1.1 F.1.2.1 dX0_told_41 rfl (lv_at hl 1 rfl) ?_
          refine lv_if_ne (tgt := 54) F.1.1 F.1.2.1 dX0_told_42 (by decide) (fun _ => ?_) (fun c9 => absurd c9 (nI_ne0 (by omega) (by omega)))
          refine lv_iload_n F.1.1 F.1.2.1 dX0_told_54 rfl (lv_at hl 1 rfl) ?_
          refine lv_iconst (v := nI 1) F.1.1 F.1.2.1 dX0_told_55 (by decide) ?_
          refine lv_icmp_ne (tgt := 68) F.1.1 F.1.2.1 dX0_told_56 (by decide) (fun c9 => absurd (keq (by omega)) c9) (fun _ => ?_)
          refine lv_aload_n F.1.1 F.1.2.1 dX0_told_59 rfl (lv_at hl 0 rfl) ?_
          refine kGd (v := .ref (ad 0 2)) F hw 1 (by decide) rfl q66 (fun _ h9 => h9) dX0_told_60 ?_
          refine lv_iload_n F.1.1 F.1.2.1 dX0_told_63 rfl (lv_at hl 2 rfl) ?_
          refine kLt F hw q rfl (by omega) dX0_told_64 ?_
          refine lv_goto (tgt := 89) F.1.1 F.1.2.1 dX0_told_65 (by decide) ?_
          exact kLret F hr hlocks (P, S) hw ⟨fun i h9 => rfl, fun _ => by rw [nI_clamp (by omega), nI_clamp (by omega)]; rfl, fun h9 => absurd hyes h9⟩ dX0_told_89
        · refine lv_iload_n F.1.1 F.1.2.1 dX0_told_18 rfl (lv_at hl 1 rfl) ?_
          refine lv_iconst (v := nI 3) F.1.1 F.1.2.1 dX0_told_19 (by decide) ?_
          refine lv_icmp_ne (tgt := 41) F.1.1 F.1.2.1 dX0_told_20 (by decide) (fun _ => ?_) (fun c9 => absurd c9 (kne (by omega) (by omega) (by omega)))
          refine lv_iload_n F.1.1 F.1.2.1 dX0_told_41 rfl (lv_at hl 1 rfl) ?_
          refine lv_if_ne (tgt := 54) F.1.1 F.1.2.1 dX0_told_42 (by decide) (fun _ => ?_) (fun c9 => absurd c9 (nI_ne0 (by omega) (by omega)))
          refine lv_iload_n F.1.1 F.1.2.1 dX0_told_54 rfl (lv_at hl 1 rfl) ?_
          refine lv_iconst (v := nI 1) F.1.1 F.1.2.1 dX0_told_55 (by decide) ?_
          refine lv_icmp_ne (tgt := 68) F.1.1 F.1.2.1 dX0_told_56 (by decide) (fun _ => ?_) (fun c9 => absurd c9 (kne (by omega) (by omega) (by omega)))
          refine lv_iload_n F.1.1 F.1.2.1 dX0_told_68 rfl (lv_at hl 1 rfl) ?_
          refine lv_iconst (v := nI 2) F.1.1 F.1.2.1 dX0_told_69 (by decide) ?_
          refine lv_icmp_ne (tgt := 81) F.1.1 F.1.2.1 dX0_told_70 (by decide) (fun c9 => absurd (keq (by omega)) c9) (fun _ => ?_)
          refine lv_aload_n F.1.1 F.1.2.1 dX0_told_73 rfl (lv_at hl 0 rfl) ?_
          refine lv_iload_n F.1.1 F.1.2.1 dX0_told_74 rfl (lv_at hl 2 rfl) ?_
          refine kCl_ (As := [.int (nI q)]) F hw hA (met_X0_clamped q hq) (cwV 1 F.1.2.2.2.2 (lw_V q159 q161 qs1 q21 q162) rfl rfl rfl (by decide +kernel) ⟨Nat.le_of_ble_eq_true rfl, Nat.le_of_ble_eq_true rfl⟩) cRcD rfl hl.1 rfl (Nat.le_of_ble_eq_true rfl) dX0_told_75 ⟨Nat.le_of_ble_eq_true rfl, Nat.le_of_ble_eq_true rfl⟩ (fun r75 u75 H locs hp75 hw => ?_)
          refine lv_goto (tgt := 89) F.1.1 F.1.2.1 dX0_told_78 (by decide) ?_
          exact kLret F hr hlocks (P, S) hw ⟨fun i h9 => rfl, fun _ => by rw [nI_clamp (by omega), nI_clamp (by omega)]; exact hp75, fun h9 => absurd hyes h9⟩ dX0_told_89
        · refine lv_iload_n F.1.1 F.1.2.1 dX0_told_18 rfl (lv_at hl 1 rfl) ?_
          refine lv_iconst (v := nI 3) F.1.1 F.1.2.1 dX0_told_19 (by decide) ?_
          refine lv_icmp_ne (tgt := 41) F.1.1 F.1.2.1 dX0_told_20 (by decide) (fun c9 => absurd (keq (by omega)) c9) (fun _ => ?_)
          refine lv_aload_n F.1.1 F.1.2.1 dX0_told_23 rfl (lv_at hl 0 rfl) ?_
          refine kGd (v := .ref (ad 1 12)) F hw 18 (by decide) rfl q83 (fun _ h9 => h9) dX0_told_24 ?_
          refine lv_aload_n F.1.1 F.1.2.1 dX0_told_27 rfl (lv_at hl 0 rfl) ?_
          refine kGd (v := .ref (ad 0 2)) F hw 1 (by decide) rfl q66 (fun _ h9 => h9) dX0_told_28 ?_
          refine kCv (As := [.ref (ad 0 2)]) F hw hA (n_tl 12 (by decide)) (cwV 1 F.1.2.2.2.2 (lw_V q138 q139 q140 q23 q141) rfl rfl rfl (by decide +kernel) ⟨Nat.le_of_ble_eq_true rfl, Nat.le_of_ble_eq_true rfl⟩) (cRcN 12 (by decide)) rfl hl.1 rfl (Nat.le_of_ble_eq_true rfl) dX0_told_31 ⟨Nat.le_of_ble_eq_true rfl, Nat.le_of_ble_eq_true rfl⟩ (fun u H locs hp hw => ?_)
          refine lv_aload_n F.1.1 F.1.2.1 dX0_told_34 rfl (lv_at hl 0 rfl) ?_
          refine kGd (v := .ref (ad 1 12)) F hw 18 (by decide) rfl q83 (fun _ h9 => h9) dX0_told_35 ?_
          refine kCv (As := []) F hw hA (n_close 12 (by decide)) (cwV 0 F.1.2.2.2.2 (lw_V q199 q200 q201 q23 q202) rfl rfl rfl (by decide +kernel) ⟨Nat.le_of_ble_eq_true rfl, Nat.le_of_ble_eq_true rfl⟩) (cRcN 12 (by decide)) rfl hl.1 rfl (Nat.le_of_ble_eq_true rfl) dX0_told_38 ⟨Nat.le_of_ble_eq_true rfl, Nat.le_of_ble_eq_true rfl⟩ (fun S H locs hp hw => ?_)
          refine lv_iload_n F.1.1 F.1.2.1 dX0_told_41 rfl (lv_at hl 1 rfl) ?_
          refine lv_if_ne (tgt := 54) F.1.1 F.1.2.1 dX0_told_42 (by decide) (fun _ => ?_) (fun c9 => absurd c9 (nI_ne0 (by omega) (by omega)))
          refine lv_iload_n F.1.1 F.1.2.1 dX0_told_54 rfl (lv_at hl 1 rfl) ?_
          refine lv_iconst (v := nI 1) F.1.1 F.1.2.1 dX0_told_55 (by decide) ?_
          refine lv_icmp_ne (tgt := 68) F.1.1 F.1.2.1 dX0_told_56 (by decide) (fun _ => ?_) (fun c9 => absurd c9 (kne (by omega) (by omega) (by omega)))
          refine lv_iload_n F.1.1 F.1.2.1 dX0_told_68 rfl (lv_at hl 1 rfl) ?_
          refine lv_iconst (v := nI 2) F.1.1 F.1.2.1 dX0_told_69 (by decide) ?_
          refine lv_icmp_ne (tgt := 81) F.1.1 F.1.2.1 dX0_told_70 (by decide) (fun _ => ?_) (fun c9 => absurd c9 (kne (by omega) (by omega) (by omega)))
          refine lv_aload_n F.1.1 F.1.2.1 dX0_told_81 rfl (lv_at hl 0 rfl) ?_
          refine kGd (v := .ref (ad 1 12)) F hw 18 (by decide) rfl q83 (fun _ h9 => h9) dX0_told_82 ?_
          refine lv_iload_n F.1.1 F.1.2.1 dX0_told_85 rfl (lv_at hl 2 rfl) ?_
          refine kCl_ (As := [.int (nI q)]) F hw hA (met_X2_at 12 (by decide) q hq) (cwV 1 F.1.2.2.2.2 (lw_V q213 q214 q215 q23 q216) rfl rfl rfl (by decide +kernel) ⟨Nat.le_of_ble_eq_true rfl, Nat.le_of_ble_eq_true rfl⟩) (cRcN 12 (by decide)) rfl hl.1 rfl (Nat.le_of_ble_eq_true rfl) dX0_told_86 ⟨Nat.le_of_ble_eq_true rfl, Nat.le_of_ble_eq_true rfl⟩ (fun r86 u86 H locs hp86 hw => ?_)
          exact kLret F hr hlocks (clP 12 (tlP 12 pt P), S) hw ⟨fun i h9 => td_ne h9, fun _ => by rw [nI_clamp (by omega), nI_clamp (by omega)]; exact hp86, fun h9 => absurd hyes h9⟩ dX0_told_89
      · refine lv_lconst (v := 0) F.1.1 F.1.2.1 dX0_told_16 (by decide) ?_
        have hno : ¬ tdC w k := fun h9 => by
          first
          | exact h9.1 c1
          | exact h9.2.1 c6
          | exact h9.2.2 (by rw [← hp10]; exact c13)
        exact kLret F hr hlocks (P, S) hw ⟨fun i h9 => rfl, fun h9 => absurd h9 hno, fun _ => rfl⟩ dX0_told_17

def ckP (P : Nat → Nat → Int64) : Nat → Nat → Int64 := clP 12 (tkP 12 2 (clP 5 (sP 5 5 1 (mP 11 2 5 P))))
def ckF (P : Nat → Nat → Int64) : Int32 := if orF (ckP P 12) 16 = 0 then if orF (ckP P 11) 16 = 0 then 1 else 0 else if orF (ckP P 5) 16 = 0 then 1 else 0
theorem iz1 {c : Prop} [Decidable c] {r : Int32} (h : r = if c then 1 else 0) (h0 : r = 0) : ¬ c := fun hc => by rw [if_pos hc] at h; rw [h] at h0; exact absurd h0 (by decide)
theorem iz2 {c : Prop} [Decidable c] {r : Int32} (h : r = if c then 1 else 0) (h0 : ¬ r = 0) : c := by
  by_cases hc : c
  · exact hc
  · rw [if_neg hc] at h; exact absurd h h0

abbrev rX0_check : Room := { frames := 3, cells := 0, slots := 0, locals := 67 }
/-- check -/
theorem met_X0_check {l : Launch} {G : va_G} {cJ cI : ClassId} {ad : Nat → Nat → Nat} {P S : Nat → Nat → Int64} {rw : Nat → Int64} {sc pt : Nat → Int64} {ph md rs : Int32} {sz : Nat}  : kMi l yX0_check cX0_check 1 .int rX0_check G cJ cI [.ref (ad 0 0)] (cW cJ ad P S rw ((sc, pt, ph, md, rs))) sz (fun r (u : (Nat → Nat → Int64) × (Nat → Nat → Int64) × (Nat → Int64)) => (ph = nI 2 → r = ckF P ∧ u.1 = ckP P) ∧ (¬ ph = nI 2 → r = 1 ∧ u.1 = P)) (fun u => cW cJ ad (u.1) (u.2.1) (u.2.2) ((sc, pt, ph, md, rs))) := by
  refine kStart (by decide) (Nat.le_of_ble_eq_true rfl) ?_
  intro p e s m below meth c ls F hr hlocks hin hsz hA hw hl
  have hl : lv_has ls 1 [(0, .ref (ad 0 0))] := hl
  refine lv_aload_n F.1.1 F.1.2.1 dX0_check_0 rfl (lv_at hl 0 rfl) ?_
  refine kGd (v := .int ph) F hw 2 (by decide) rfl q67 (fun _ h9 => h9) dX0_check_1 ?_
  refine lv_iconst (v := nI 2) F.1.1 F.1.2.1 dX0_check_4 (by decide) ?_
  refine lv_icmp_eq (tgt := 10) F.1.1 F.1.2.1 dX0_check_5 (by decide) (fun c5 => ?_) (fun c5 => ?_)
  · refine lv_aload_n F.1.1 F.1.2.1 dX0_check_10 rfl (lv_at hl 0 rfl) ?_
    refine kGd (v := .ref (ad 0 3)) F hw 5 (by decide) rfl q70 (fun _ h9 => h9) dX0_check_11 ?_
    refine lv_aload_n F.1.1 F.1.2.1 dX0_check_14 rfl (lv_at hl 0 rfl) ?_
    refine kGd (v := .ref (ad 1 11)) F hw 17 (by decide) rfl q82 (fun _ h9 => h9) dX0_check_15 ?_
    refine lv_aload_n F.1.1 F.1.2.1 dX0_check_18 rfl (lv_at hl 0 rfl) ?_
    refine kGd (v := .ref (ad 1 2)) F hw 8 (by decide) rfl q73 (fun _ h9 => h9) dX0_check_19 ?_
    refine lv_aload_n F.1.1 F.1.2.1 dX0_check_22 rfl (lv_at hl 0 rfl) ?_
    refine kGd (v := .ref (ad 1 5)) F hw 11 (by decide) rfl q76 (fun _ h9 => h9) dX0_check_23 ?_
    refine kCv (As := [.ref (ad 1 11), .ref (ad 1 2), .ref (ad 1 5)]) F hw hA (n_mul 11 2 5 (by decide) (by decide) (by decide)) (cwV 3 F.1.2.2.2.2 (lw_V q178 q179 q180 q22 q181) rfl rfl rfl (by decide +kernel) ⟨Nat.le_of_ble_eq_true rfl, Nat.le_of_ble_eq_true rfl⟩) cRcP rfl hl.1 rfl (Nat.le_of_ble_eq_true rfl) dX0_check_26 ⟨Nat.le_of_ble_eq_true rfl, Nat.le_of_ble_eq_true rfl⟩ (fun rw H locs hp hw => ?_)
    refine lv_aload_n F.1.1 F.1.2.1 dX0_check_29 rfl (lv_at hl 0 rfl) ?_
    refine kGd (v := .ref (ad 1 5)) F hw 11 (by decide) rfl q76 (fun _ h9 => h9) dX0_check_30 ?_
    refine lv_aload_n F.1.1 F.1.2.1 dX0_check_33 rfl (lv_at hl 0 rfl) ?_
    refine kGd (v := .ref (ad 1 5)) F hw 11 (by decide) rfl q76 (fun _ h9 => h9) dX0_check_34 ?_
    refine lv_aload_n F.1.1 F.1.2.1 dX0_check_37 rfl (lv_at hl 0 rfl) ?_
    refine kGd (v := .ref (ad 1 1)) F hw 7 (by decide) rfl q72 (fun _ h9 => h9) dX0_check_38 ?_
    refine kCv (As := [.ref (ad 1 5), .ref (ad 1 1)]) F hw hA (n_sub 5 5 1 (by decide) (by decide) (by decide)) (cwV 2 F.1.2.2.2.2 (lw_V q174 q175 q176 q23 q177) rfl rfl rfl (by decide +kernel) ⟨Nat.le_of_ble_eq_true rfl, Nat.le_of_ble_eq_true rfl⟩) (cRcN 5 (by decide)) rfl hl.1 rfl (Nat.le_of_ble_eq_true rfl) dX0_check_41 ⟨Nat.le_of_ble_eq_true rfl, Nat.le_of_ble_eq_true rfl⟩ (fun u H locs hp hw => ?_)
    refine lv_aload_n F.1.1 F.1.2.1 dX0_check_44 rfl (lv_at hl 0 rfl) ?_
    refine kGd (v := .ref (ad 1 5)) F hw 11 (by decide) rfl q76 (fun _ h9 => h9) dX0_check_45 ?_
    refine kCv (As := []) F hw hA (n_close 5 (by decide)) (cwV 0 F.1.2.2.2.2 (lw_V q199 q200 q201 q23 q202) rfl rfl rfl (by decide +kernel) ⟨Nat.le_of_ble_eq_true rfl, Nat.le_of_ble_eq_true rfl⟩) (cRcN 5 (by decide)) rfl hl.1 rfl (Nat.le_of_ble_eq_true rfl) dX0_check_48 ⟨Nat.le_of_ble_eq_true rfl, Nat.le_of_ble_eq_true rfl⟩ (fun S H locs hp hw => ?_)
    refine lv_aload_n F.1.1 F.1.2.1 dX0_check_51 rfl (lv_at hl 0 rfl) ?_
    refine kGd (v := .ref (ad 1 12)) F hw 18 (by decide) rfl q83 (fun _ h9 => h9) dX0_check_52 ?_
    refine lv_aload_n F.1.1 F.1.2.1 dX0_check_55 rfl (lv_at hl 0 rfl) ?_
    refine kGd (v := .ref (ad 1 2)) F hw 8 (by decide) rfl q73 (fun _ h9 => h9) dX0_check_56 ?_
    refine kCv (As := [.ref (ad 1 2)]) F hw hA (n_tk 12 2 (by decide) (by decide)) (cwV 1 F.1.2.2.2.2 (lw_V q144 q145 q146 q23 q147) rfl rfl rfl (by decide +kernel) ⟨Nat.le_of_ble_eq_true rfl, Nat.le_of_ble_eq_true rfl⟩) (cRcN 12 (by decide)) rfl hl.1 rfl (Nat.le_of_ble_eq_true rfl) dX0_check_59 ⟨Nat.le_of_ble_eq_true rfl, Nat.le_of_ble_eq_true rfl⟩ (fun u H locs hp hw => ?_)
    refine lv_aload_n F.1.1 F.1.2.1 dX0_check_62 rfl (lv_at hl 0 rfl) ?_
    refine kGd (v := .ref (ad 1 12)) F hw 18 (by decide) rfl q83 (fun _ h9 => h9) dX0_check_63 ?_
    refine kCv (As := []) F hw hA (n_close 12 (by decide)) (cwV 0 F.1.2.2.2.2 (lw_V q199 q200 q201 q23 q202) rfl rfl rfl (by decide +kernel) ⟨Nat.le_of_ble_eq_true rfl, Nat.le_of_ble_eq_true rfl⟩) (cRcN 12 (by decide)) rfl hl.1 rfl (Nat.le_of_ble_eq_true rfl) dX0_check_66 ⟨Nat.le_of_ble_eq_true rfl, Nat.le_of_ble_eq_true rfl⟩ (fun S H locs hp hw => ?_)
    refine lv_aload_n F.1.1 F.1.2.1 dX0_check_69 rfl (lv_at hl 0 rfl) ?_
    refine kGd (v := .ref (ad 1 12)) F hw 18 (by decide) rfl q83 (fun _ h9 => h9) dX0_check_70 ?_
    refine kCi (As := []) F hw hA (met_X2_isZero 12 (by decide)) (cwV 0 F.1.2.2.2.2 (lw_V q249 q250 q251 q23 q252) rfl rfl rfl (by decide +kernel) ⟨Nat.le_of_ble_eq_true rfl, Nat.le_of_ble_eq_true rfl⟩) (cRcN 12 (by decide)) rfl hl.1 rfl (Nat.le_of_ble_eq_true rfl) dX0_check_73 ⟨Nat.le_of_ble_eq_true rfl, Nat.le_of_ble_eq_true rfl⟩ (fun r73 u73 H locs hp73 hw => ?_)
    refine lv_if_eq (tgt := 97) F.1.1 F.1.2.1 dX0_check_76 (by decide) (fun c76 => ?_) (fun c76 => ?_)
    · refine lv_aload_n F.1.1 F.1.2.1 dX0_check_97 rfl (lv_at hl 0 rfl) ?_
      refine kGd (v := .ref (ad 1 5)) F hw 11 (by decide) rfl q76 (fun _ h9 => h9) dX0_check_98 ?_
      refine kCi (As := []) F hw hA (met_X2_isZero 5 (by decide)) (cwV 0 F.1.2.2.2.2 (lw_V q249 q250 q251 q23 q252) rfl rfl rfl (by decide +kernel) ⟨Nat.le_of_ble_eq_true rfl, Nat.le_of_ble_eq_true rfl⟩) (cRcN 5 (by decide)) rfl hl.1 rfl (Nat.le_of_ble_eq_true rfl) dX0_check_101 ⟨Nat.le_of_ble_eq_true rfl, Nat.le_of_ble_eq_true rfl⟩ (fun r101 u101 H locs hp101 hw => ?_)
      refine lv_if_eq (tgt := 111) F.1.1 F.1.2.1 dX0_check_104 (by decide) (fun c104 => ?_) (fun c104 => ?_)
      · refine lv_iconst (v := nI 0) F.1.1 F.1.2.1 dX0_check_111 (by decide) ?_
        exact kIret F hr hlocks (ckP P, S, rw) hw ⟨fun _ => ⟨by
    first
    | (unfold ckF ckP; rw [if_neg (iz1 hp73 c76), if_neg (iz1 hp101 c104)]; rfl)
    | (unfold ckF ckP; rw [if_neg (iz1 hp73 c76), if_pos (iz2 hp101 c104)]; rfl)
    | (unfold ckF ckP; rw [if_pos (iz2 hp73 c76), if_neg (iz1 hp83 c86)]; rfl)
    | (unfold ckF ckP; rw [if_pos (iz2 hp73 c76), if_pos (iz2 hp83 c86)]; rfl), rfl⟩, fun h9 => absurd c5 h9⟩ dX0_check_112
      · refine lv_iconst (v := nI 1) F.1.1 F.1.2.1 dX0_check_107 (by decide) ?_
        refine lv_goto (tgt := 112) F.1.1 F.1.2.1 dX0_check_108 (by decide) ?_
        exact kIret F hr hlocks (ckP P, S, rw) hw ⟨fun _ => ⟨by
    first
    | (unfold ckF ckP; rw [if_neg (iz1 hp73 c76), if_neg (iz1 hp101 c104)]; rfl)
    | (unfold ckF ckP; rw [if_neg (iz1 hp73 c76), if_pos (iz2 hp101 c104)]; rfl)
    | (unfold ckF ckP; rw [if_pos (iz2 hp73 c76), if_neg (iz1 hp83 c86)]; rfl)
    | (unfold ckF ckP; rw [if_pos (iz2 hp73 c76), if_pos (iz2 hp83 c86)]; rfl), rfl⟩, fun h9 => absurd c5 h9⟩ dX0_check_112
    · refine lv_aload_n F.1.1 F.1.2.1 dX0_check_79 rfl (lv_at hl 0 rfl) ?_
      refine kGd (v := .ref (ad 1 11)) F hw 17 (by decide) rfl q82 (fun _ h9 => h9) dX0_check_80 ?_
      refine kCi (As := []) F hw hA (met_X2_isZero 11 (by decide)) (cwV 0 F.1.2.2.2.2 (lw_V q249 q250 q251 q23 q252) rfl rfl rfl (by decide +kernel) ⟨Nat.le_of_ble_eq_true rfl, Nat.le_of_ble_eq_true rfl⟩) (cRcN 11 (by decide)) rfl hl.1 rfl (Nat.le_of_ble_eq_true rfl) dX0_check_83 ⟨Nat.le_of_ble_eq_true rfl, Nat.le_of_ble_eq_true rfl⟩ (fun r83 u83 H locs hp83 hw => ?_)
      refine lv_if_eq (tgt := 93) F.1.1 F.1.2.1 dX0_check_86 (by decide) (fun c86 => ?_) (fun c86 => ?_)
      · refine lv_iconst (v := nI 0) F.1.1 F.1.2.1 dX0_check_93 (by decide) ?_
        refine lv_goto (tgt := 112) F.1.1 F.1.2.1 dX0_check_94 (by decide) ?_
        exact kIret F hr hlocks (ckP P, S, rw) hw ⟨fun _ => ⟨by
    first
    | (unfold ckF ckP; rw [if_neg (iz1 hp73 c76), if_neg (iz1 hp101 c104)]; rfl)
    | (unfold ckF ckP; rw [if_neg (iz1 hp73 c76), if_pos (iz2 hp101 c104)]; rfl)
    | (unfold ckF ckP; rw [if_pos (iz2 hp73 c76), if_neg (iz1 hp83 c86)]; rfl)
    | (unfold ckF ckP; rw [if_pos (iz2 hp73 c76), if_pos (iz2 hp83 c86)]; rfl), rfl⟩, fun h9 => absurd c5 h9⟩ dX0_check_112
      · refine lv_iconst (v := nI 1) F.1.1 F.1.2.1 dX0_check_89 (by decide) ?_
        refine lv_goto (tgt := 112) F.1.1 F.1.2.1 dX0_check_90 (by decide) ?_
        exact kIret F hr hlocks (ckP P, S, rw) hw ⟨fun _ => ⟨by
    first
    | (unfold ckF ckP; rw [if_neg (iz1 hp73 c76), if_neg (iz1 hp101 c104)]; rfl)
    | (unfold ckF ckP; rw [if_neg (iz1 hp73 c76), if_pos (iz2 hp101 c104)]; rfl)
    | (unfold ckF ckP; rw [if_pos (iz2 hp73 c76), if_neg (iz1 hp83 c86)]; rfl)
    | (unfold ckF ckP; rw [if_pos (iz2 hp73 c76), if_pos (iz2 hp83 c86)]; rfl), rfl⟩, fun h9 => absurd c5 h9⟩ dX0_check_112
  · refine lv_iconst (v := nI 1) F.1.1 F.1.2.1 dX0_check_8 (by decide) ?_
    exact kIret F hr hlocks (P, S, rw) hw ⟨fun h9 => absurd h9 c5, fun _ => ⟨rfl, rfl⟩⟩ dX0_check_9
end
section
/-! ===== the model's world: 5 cells; its pure transformers ===== -/
set_option maxRecDepth 100000
def mD (am : Nat → Nat) (ph md rs : Int32) : List Value := [.int ph, .int md, .int rs, .ref (am 1), .ref (am 2), .ref (am 3), .ref (am 4)]
def mF (cJ cI : ClassId) (am : Nat → Nat) (fs : List Value) (D : Nat → Int32) (U sc pt : Nat → Int64) (k : Nat) : Nat × va_E :=
  if k = 0 then (am 0, .inr (3, fs))
  else if k = 1 then (am 1, .inl (cJ, 4, .inr (.inl sc)))
  else if k = 2 then (am 2, .inl (cJ, 4, .inr (.inl pt)))
  else if k = 3 then (am 3, .inl (cI, 208, .inl D))
  else (am 4, .inl (cJ, 32, .inr (.inl U)))
abbrev mW (cJ cI : ClassId) (am : Nat → Nat) (D : Nat → Int32) (U : Nat → Int64) (X : CX) : va_W := wl 5 (mF cJ cI am (mD am X.2.2.1 X.2.2.2.1 X.2.2.2.2) D U X.1 X.2.1)
section MF
variable {cJ cI : ClassId} {am : Nat → Nat} {fs : List Value} {D : Nat → Int32} {U sc pt : Nat → Int64}
theorem mF_up_c (g : Nat → Int64) : va_up (mF cJ cI am fs D U sc pt) 1 (am 1, .inl (cJ, 4, .inr (.inl g))) = mF cJ cI am fs D U g pt := by
  funext k
  by_cases hk : k = 1
  · subst hk
    rw [va_up_self]; rfl
  · rw [va_up_ne _ _ hk]
    unfold mF
    simp only [hk, if_false]
theorem mF_up_t (g : Nat → Int64) : va_up (mF cJ cI am fs D U sc pt) 2 (am 2, .inl (cJ, 4, .inr (.inl g))) = mF cJ cI am fs D U sc g := by
  funext k
  by_cases hk : k = 2
  · subst hk
    rw [va_up_self]; rfl
  · rw [va_up_ne _ _ hk]
    unfold mF
    simp only [hk, if_false]
theorem mF_up_d (g : Nat → Int32) : va_up (mF cJ cI am fs D U sc pt) 3 (am 3, .inl (cI, 208, .inl g)) = mF cJ cI am fs g U sc pt := by
  funext k
  by_cases hk : k = 3
  · subst hk
    rw [va_up_self]; rfl
  · rw [va_up_ne _ _ hk]
    unfold mF
    simp only [hk, if_false]
theorem mF_up_f (fs' : List Value) : va_up (mF cJ cI am fs D U sc pt) 0 (am 0, .inr (3, fs')) = mF cJ cI am fs' D U sc pt := by
  funext k
  by_cases hk : k = 0
  · subst hk
    rw [va_up_self]; rfl
  · rw [va_up_ne _ _ hk]
    unfold mF
    simp only [hk, if_false]
theorem mF_up_u (g : Nat → Int64) : wl 5 (va_up (mF cJ cI am fs D U sc pt) 4 (am 4, .inl (cJ, 32, .inr (.inl g)))) = wl 5 (mF cJ cI am fs D g sc pt) := by rfl
theorem mRc {X : CX} : kRc (mW cJ cI am D U X) (am 0) RX3 := ⟨0, 3, _, _, by rw [wl_at (by omega)]; rfl, rfl, rfl⟩
end MF
section MG
variable {p : Program} {l : Launch} {e : Env} {R : Room} {s : State} {m : MethodId} {args : Array Value} {below : List Frame} {meth : Method} {c : Code} {H : Heap} {locs : List Loc} {cells slots : Nat} {Q : State → Prop}
variable {cc : ByteArray} {nL : Nat} {pc : Nat} {ls : Array Slot} {rest : List Value} {G : va_G} {cJ cI : ClassId} {A : Nat → Prop} {own : String}
variable {am : Nat → Nat} {D : Nat → Int32} {U : Nat → Int64} {X : CX}
theorem mGf (F : kF p m c cc nL s args own G cJ cI) (hw : kW G A s H locs (mW cJ cI am D U X)) (k : Nat) (hk : k < 7) {v : Value} (hv : (mD am X.2.2.1 X.2.2.2.1 X.2.2.2.2)[k]? = some v) {idx : Nat} (hl : Cond.fieldLink own idx "LadderDeskModel" (TX3 k).2.1 (TX3 k).2.2.1 ∈ lw_all) (hsame : ∀ x, s.fieldFound? (TX3 k).1 (TX3 k).2.1 (TX3 k).2.2.1 = some x → s.fieldFound? "LadderDeskModel" (TX3 k).2.1 (TX3 k).2.2.1 = some x) (hdg : decode cc pc = .ok (.getfield idx, 3))
    (kk : W p l e R s m args below meth c H locs cells slots Q (F0 m (pc + 3) ls (v :: rest))) : W p l e R s m args below meth c H locs cells slots Q (F0 m pc ls (.ref (am 0) :: rest)) :=
  va_get (D := G) (ci := 3) (v := v) (C := RX3) (T := TX3) (N := 7) F.1.1 F.1.2.1 F.1.2.2.2.2 in_X3 F.1.2.2.2.1 F.2.1 hw.1 0 (by rw [wl_at (by omega)]; rfl) rfl k hk (F.1.2.2.2.2 _ hl) hsame hv hdg kk
theorem mPf (F : kF p m c cc nL s args own G cJ cI) (hw : kW G A s H locs (mW cJ cI am D U X)) (k : Nat) (hk : k < 7) (hfin : (TX3 k).2.2.2 = false) (hd : parseFieldDescriptor (TX3 k).2.2.1 = some .int) {v : Int32} {idx : Nat} (hl : Cond.fieldLink own idx "LadderDeskModel" (TX3 k).2.1 (TX3 k).2.2.1 ∈ lw_all) (hsame : ∀ x, s.fieldFound? (TX3 k).1 (TX3 k).2.1 (TX3 k).2.2.1 = some x → s.fieldFound? "LadderDeskModel" (TX3 k).2.1 (TX3 k).2.2.1 = some x) (hdg : decode cc pc = .ok (.putfield idx, 3)) (X' : CX) (hX1 : X'.1 = X.1) (hX2 : X'.2.1 = X.2.1) (hX : (mD am X.2.2.1 X.2.2.2.1 X.2.2.2.2).set k (.int v) = mD am X'.2.2.1 X'.2.2.2.1 X'.2.2.2.2)
    (kk : ∀ (H1 : Heap) (locs1 : List Loc), kW G A s H1 locs1 (mW cJ cI am D U X') → W p l e R s m args below meth c H1 locs1 cells slots Q (F0 m (pc + 3) ls rest)) : W p l e R s m args below meth c H locs cells slots Q (F0 m pc ls (.int v :: .ref (am 0) :: rest)) :=
  va_put (D := G) (ci := 3) (v := .int v) (ty := .int) (C := RX3) (T := TX3) (N := 7) (fs := mD am X.2.2.1 X.2.2.2.1 X.2.2.2.2) F.1.1 F.1.2.1 F.1.2.2.2.2 in_X3 tyX3 tyX3_ok nmX3 F.1.2.2.2.1 F.2.1 hw.1 hw.2.1 hw.2.2 0 (by rw [wl_at (by omega)]; rfl) rfl k hk (F.1.2.2.2.2 _ hl) hsame hfin hd rfl rfl hk hdg (fun H1 locs1 hP hD hS => kk H1 locs1 (by
    rw [wl_set, hX, mF_up_f] at hP hD
    rw [← hX1, ← hX2] at hP hD
    exact ⟨hP, hD, hS⟩))
theorem mLc (F : kF p m c cc nL s args own G cJ cI) (hw : kW G A s H locs (mW cJ cI am D U X)) {x : Int32} (j : Nat) (hx : x = nI j) (hj : j < 4) (hdg : decode cc pc = .ok (.laload, 1))
    (kk : W p l e R s m args below meth c H locs cells slots Q (F0 m (pc + 1) ls (.long (X.1 j) :: rest))) : W p l e R s m args below meth c H locs cells slots Q (F0 m pc ls (.int x :: .ref (am 1) :: rest)) :=
  kLdJ F hw 1 (by omega) (N := 4) (g := X.1) rfl hx hj (by decide) hdg kk
theorem mLt (F : kF p m c cc nL s args own G cJ cI) (hw : kW G A s H locs (mW cJ cI am D U X)) {x : Int32} (j : Nat) (hx : x = nI j) (hj : j < 4) (hdg : decode cc pc = .ok (.laload, 1))
    (kk : W p l e R s m args below meth c H locs cells slots Q (F0 m (pc + 1) ls (.long (X.2.1 j) :: rest))) : W p l e R s m args below meth c H locs cells slots Q (F0 m pc ls (.int x :: .ref (am 2) :: rest)) :=
  kLdJ F hw 2 (by omega) (N := 4) (g := X.2.1) rfl hx hj (by decide) hdg kk
theorem mLu (F : kF p m c cc nL s args own G cJ cI) (hw : kW G A s H locs (mW cJ cI am D U X)) {x : Int32} (j : Nat) (hx : x = nI j) (hj : j < 32) (hdg : decode cc pc = .ok (.laload, 1))
    (kk : W p l e R s m args below meth c H locs cells slots Q (F0 m (pc + 1) ls (.long (U j) :: rest))) : W p l e R s m args below meth c H locs cells slots Q (F0 m pc ls (.int x :: .ref (am 4) :: rest)) :=
  kLdJ F hw 4 (by omega) (N := 32) (g := U) rfl hx hj (by decide) hdg kk
theorem mLd (F : kF p m c cc nL s args own G cJ cI) (hw : kW G A s H locs (mW cJ cI am D U X)) {x : Int32} (j : Nat) (hx : x = nI j) (hj : j < 208) (hdg : decode cc pc = .ok (.iaload, 1))
    (kk : W p l e R s m args below meth c H locs cells slots Q (F0 m (pc + 1) ls (.int (D j) :: rest))) : W p l e R s m args below meth c H locs cells slots Q (F0 m pc ls (.int x :: .ref (am 3) :: rest)) :=
  kLdI F hw 3 (by omega) (N := 208) (g := D) rfl hx hj (by decide) hdg kk
theorem mSc (F : kF p m c cc nL s args own G cJ cI) (hw : kW G A s H locs (mW cJ cI am D U X)) {x : Int32} (j : Nat) {v : Int64} (hx : x = nI j) (hj : j < 4) (hdg : decode cc pc = .ok (.lastore, 1))
    (kk : ∀ (H1 : Heap) (locs1 : List Loc), kW G A s H1 locs1 (mW cJ cI am D U (vp_updL X.1 j v, X.2)) → W p l e R s m args below meth c H1 locs1 cells slots Q (F0 m (pc + 1) ls rest)) : W p l e R s m args below meth c H locs cells slots Q (F0 m pc ls (.long v :: .int x :: .ref (am 1) :: rest)) :=
  kStJ F hw 1 (by omega) (N := 4) (g := X.1) rfl hx hj (by decide) hdg (fun H1 locs1 h => kk H1 locs1 (by rw [mF_up_c] at h; exact h))
theorem mSt (F : kF p m c cc nL s args own G cJ cI) (hw : kW G A s H locs (mW cJ cI am D U X)) {x : Int32} (j : Nat) {v : Int64} (hx : x = nI j) (hj : j < 4) (hdg : decode cc pc = .ok (.lastore, 1))
    (kk : ∀ (H1 : Heap) (locs1 : List Loc), kW G A s H1 locs1 (mW cJ cI am D U (X.1, vp_updL X.2.1 j v, X.2.2)) → W p l e R s m args below meth c H1 locs1 cells slots Q (F0 m (pc + 1) ls rest)) : W p l e R s m args below meth c H locs cells slots Q (F0 m pc ls (.long v :: .int x :: .ref (am 2) :: rest)) :=
  kStJ F hw 2 (by omega) (N := 4) (g := X.2.1) rfl hx hj (by decide) hdg (fun H1 locs1 h => kk H1 locs1 (by rw [mF_up_t] at h; exact h))
theorem mSu (F : kF p m c cc nL s args own G cJ cI) (hw : kW G A s H locs (mW cJ cI am D U X)) {x : Int32} (j : Nat) {v : Int64} (hx : x = nI j) (hj : j < 32) (hdg : decode cc pc = .ok (.lastore, 1))
    (kk : ∀ (H1 : Heap) (locs1 : List Loc), kW G A s H1 locs1 (mW cJ cI am D (vp_updL U j v) X) → W p l e R s m args below meth c H1 locs1 cells slots Q (F0 m (pc + 1) ls rest)) : W p l e R s m args below meth c H locs cells slots Q (F0 m pc ls (.long v :: .int x :: .ref (am 4) :: rest)) :=
  kStJ F hw 4 (by omega) (N := 32) (g := U) rfl hx hj (by decide) hdg (fun H1 locs1 h => kk H1 locs1 (by rw [mF_up_u] at h; exact h))
theorem mSd (F : kF p m c cc nL s args own G cJ cI) (hw : kW G A s H locs (mW cJ cI am D U X)) {x : Int32} (j : Nat) {v : Int32} (hx : x = nI j) (hj : j < 208) (hdg : decode cc pc = .ok (.iastore, 1))
    (kk : ∀ (H1 : Heap) (locs1 : List Loc), kW G A s H1 locs1 (mW cJ cI am (upd D j v) U X) → W p l e R s m args below meth c H1 locs1 cells slots Q (F0 m (pc + 1) ls rest)) : W p l e R s m args below meth c H locs cells slots Q (F0 m pc ls (.int v :: .int x :: .ref (am 3) :: rest)) :=
  kStI F hw 3 (by omega) (N := 208) (g := D) rfl hx hj (by decide) hdg (fun H1 locs1 h => kk H1 locs1 (by rw [mF_up_d] at h; exact h))
end MG
/-! pure -/
/-- D with the first k digits of number t from f -/
def flD (D : Nat → Int32) (t k : Nat) (f : Nat → Int32) : Nat → Int32 := fun j => if 16 * t ≤ j ∧ j < 16 * t + k then f (j - 16 * t) else D j
theorem flD_0 (D : Nat → Int32) (t : Nat) (f : Nat → Int32) : flD D t 0 f = D := by
  funext j
  unfold flD
  rw [if_neg (by omega)]
theorem flD_rd (D : Nat → Int32) (t k a : Nat) (f : Nat → Int32) (hk : k < 16) : flD D t k f (16 * a + k) = D (16 * a + k) := by
  unfold flD
  rw [if_neg (by omega)]
theorem flD_s (D : Nat → Int32) (t k : Nat) (f : Nat → Int32) : upd (flD D t k f) (16 * t + k) (f k) = flD D t (k + 1) f := by
  funext j
  by_cases h : j = 16 * t + k
  · subst h
    rw [pk_us]
    unfold flD
    rw [if_pos (by omega), show 16 * t + k - 16 * t = k by omega]
  · rw [pk_un h]
    unfold flD
    by_cases h1 : 16 * t ≤ j ∧ j < 16 * t + k
    · rw [if_pos h1, if_pos (by omega)]
    · rw [if_neg h1, if_neg (by omega)]
/-- number t of D -/
theorem flD_at {D : Nat → Int32} {t k j : Nat} {f : Nat → Int32} (h : j < k) : flD D t k f (16 * t + j) = f j := by
  unfold flD
  rw [if_pos (by omega), show 16 * t + j - 16 * t = j by omega]
theorem flD_ne {D : Nat → Int32} {t a j : Nat} {f : Nat → Int32} (h : a ≠ t) (hj : j < 16) : flD D t 16 f (16 * a + j) = D (16 * a + j) := by
  unfold flD
  rw [if_neg (by omega)]
def pI (q : Nat) : Int32 := if q = 0 then nI 65517 else if q = 15 then nI 32767 else nI 65535
/-- isGreat over the first n sums -/
def grF (U : Nat → Int64) : Nat → Int32
  | 0 => 1
  | n + 1 => if U n = (pI n).toInt64 then grF U n else if (pI n).toInt64 < U n then 1 else 0
theorem grF_congr {U V : Nat → Int64} {N : Nat} (h : agR N U V) : ∀ n, n ≤ N → grF U n = grF V n
  | 0, _ => rfl
  | n + 1, hn => by
    unfold grF
    rw [h n (by omega), grF_congr h n (by omega)]
/-- the carry into place k; the digit at place k -/
def cyF (V : Nat → Int64) : Nat → Int64
  | 0 => 0
  | k + 1 => (V k + cyF V k) >>> (16 : Int64)
def psF (V : Nat → Int64) (k : Nat) : Int64 := (V k + cyF V k) &&& 65535
/-- one turn of store -/
def tuF (V : Nat → Int64) : Nat → Int64 := vp_updL (vp_updL (fl V 16 (psF V)) 15 (psF V 15 &&& 32767)) 0 (vp_updL (fl V 16 (psF V)) 15 (psF V 15 &&& 32767) 0 + (19 : Int64) * (cyF V 16 * (2 : Int64) + (psF V 15 >>> (15 : Int64))))
/-- what is taken away at place k -/
def gpF (g : Int32) (k : Nat) : Int32 := if g = 0 then nI 0 else pI k
def boF (V : Nat → Int64) (g : Int32) : Nat → Int64
  | 0 => 0
  | k + 1 => (V k - (gpF g k).toInt64 + boF V g k) >>> (16 : Int64)
def dgF (V : Nat → Int64) (g : Int32) (k : Nat) : Int32 := ((V k - (gpF g k).toInt64 + boF V g k) &&& 65535).toInt32
def v3F (V : Nat → Int64) : Nat → Int64 := it (fun _ V => tuF V) 3 V
def v4F (V : Nat → Int64) : Nat → Int64 := fl (v3F V) 16 (psF (v3F V))
/-- the digits that store makes of the sums V -/
def stF (V : Nat → Int64) : Nat → Int32 := dgF (v4F V) (grF (v4F V) 16)
def dL (D : Nat → Int32) (a i : Nat) : Int64 := (D (16 * a + i)).toInt64
/-- subtract: the borrow into place k; the digit -/
def sbF (D : Nat → Int32) (a b : Nat) : Nat → Int64
  | 0 => 0
  | k + 1 => ((D (16 * a + k)).toInt64 + (pI k).toInt64 - (D (16 * b + k)).toInt64 + sbF D a b k) >>> (16 : Int64)
def sdF (D : Nat → Int32) (a b k : Nat) : Int64 := ((D (16 * a + k)).toInt64 + (pI k).toInt64 - (D (16 * b + k)).toInt64 + sbF D a b k) &&& 65535
def zrF (D : Nat → Int32) (a : Nat) : Nat → Int32
  | 0 => nI 1
  | k + 1 => if zrF D a k = 0 then nI 0 else if D (16 * a + k) = 0 then nI 1 else nI 0
def smF (D : Nat → Int32) (a b : Nat) : Nat → Int32
  | 0 => nI 1
  | k + 1 => if smF D a b k = 0 then nI 0 else if D (16 * a + k) = D (16 * b + k) then nI 1 else nI 0
def loF (D : Nat → Int32) (n q m : Nat) : Int64 := it (fun m v => v * (65536 : Int64) + (D (16 * n + 4 * q + (3 - m))).toInt64) m 0
def btF (sc : Nat → Int64) (b : Nat) : Int32 := if b < 3 ∨ b = 255 then 0 else if b = 254 ∨ ((sc (b / 64) >>> ((nI (b % 64)).toInt64 &&& 63)) &&& 1) = 1 then 1 else 0
/-! what the methods do to D -/
def dSet (t : Nat) (v : Int32) (D : Nat → Int32) : Nat → Int32 := flD D t 16 (fun k => if k = 0 then v else nI 0)
def dCpy (t a : Nat) (D : Nat → Int32) : Nat → Int32 := flD D t 16 (fun k => D (16 * a + k))
def dSto (t : Nat) (V : Nat → Int64) (D : Nat → Int32) : Nat → Int32 := flD D t 16 (stF V)
def dAdd (t a b : Nat) (D : Nat → Int32) : Nat → Int32 := dSto t (fun k => dL D a k + dL D b k) D
def dSub (t a b : Nat) (D : Nat → Int32) : Nat → Int32 := dSto t (vp_updL (sdF D a b) 15 (sdF D a b 15 + sbF D a b 16 * (65536 : Int64))) D
def dMul (t a b : Nat) (D : Nat → Int32) : Nat → Int32 := dSto t (it foSt 16 (mulR (dL D a) (dL D b))) D
def dMuS (t a : Nat) (v : Int32) (D : Nat → Int32) : Nat → Int32 := dSto t (fun k => dL D a k * v.toInt64) D
def dMkU (pt : Nat → Int64) (D : Nat → Int32) : Nat → Int32 := dSto 4 (vp_updL (tkL pt) 15 (tkL pt 15 &&& 32767)) D
def dSwp (a b : Nat) (D : Nat → Int32) : Nat → Int32 := dCpy b 12 (dCpy a b (dCpy 12 a D))
def dChg (z : Int32) (D : Nat → Int32) : Nat → Int32 := if z = 0 then D else dSwp 1 3 (dSwp 0 2 D)
end
section
/-! ===== LadderDeskModel: arithmetic ===== -/
set_option maxRecDepth 100000

theorem ofp0 {q : Nat} (hq : q < 16) (h : nI q = 0) : q = 0 := (nI_eq (by omega) (by omega)).mp (h.trans nI_0.symm)
theorem ofp1 {q : Nat} (h : ¬ nI q = 0) : ¬ q = 0 := fun e => h (kz0 e)
theorem ofp2 {q : Nat} (hq : q < 16) (h : nI q = nI 15) : q = 15 := (nI_eq (by omega) (by omega)).mp h
theorem ofp3 {q : Nat} (h : ¬ nI q = nI 15) : ¬ q = 15 := fun e => h (keq e)

abbrev rX3_ofP : Room := { frames := 0, cells := 0, slots := 0, locals := 0 }
/-- ofP -/
theorem met_X3_ofP {l : Launch} {G : va_G} {cJ cI : ClassId} {w : va_W} {sz : Nat} (q : Nat) (hq : q < 16) : kMi l yX3_ofP cX3_ofP 1 .int rX3_ofP G cJ cI [.int (nI q)] (w) sz (fun r (_ : Unit) => r = pI q) (fun _ => w) := by
  refine kStart (by decide) (Nat.le_of_ble_eq_true rfl) ?_
  intro p e s m below meth c ls F hr hlocks hin hsz hA hw hl
  have hl : lv_has ls 1 [(0, .int (nI q))] := hl
  refine lv_iload_n F.1.1 F.1.2.1 dX3_ofP_0 rfl (lv_at hl 0 rfl) ?_
  refine lv_if_ne (tgt := 9) F.1.1 F.1.2.1 dX3_ofP_1 (by decide) (fun c1 => ?_) (fun c1 => ?_)
  · refine lv_iload_n F.1.1 F.1.2.1 dX3_ofP_9 rfl (lv_at hl 0 rfl) ?_
    refine lv_bipush (v := nI 15) F.1.1 F.1.2.1 dX3_ofP_10 (by decide) ?_
    refine lv_icmp_ne (tgt := 21) F.1.1 F.1.2.1 dX3_ofP_12 (by decide) (fun c12 => ?_) (fun c12 => ?_)
    · refine lv_ldc (v := 65535) F.1.1 F.1.2.1 F.1.2.2.2.1 (F.1.2.2.2.2 _ q317) dX3_ofP_21 ?_
      refine kTi (show (65535 : Int32) = nI 65535 by decide) ?_
      exact kIret F hr hlocks () hw (by unfold pI; first | (rw [if_pos (ofp0 hq c1)]) | (rw [if_neg (ofp1 c1), if_pos (ofp2 hq c12)]) | (rw [if_neg (ofp1 c1), if_neg (ofp3 c12)])) dX3_ofP_23
    · refine lv_sipush (v := nI 32767) F.1.1 F.1.2.1 dX3_ofP_15 (by decide) ?_
      refine lv_goto (tgt := 23) F.1.1 F.1.2.1 dX3_ofP_18 (by decide) ?_
      exact kIret F hr hlocks () hw (by unfold pI; first | (rw [if_pos (ofp0 hq c1)]) | (rw [if_neg (ofp1 c1), if_pos (ofp2 hq c12)]) | (rw [if_neg (ofp1 c1), if_neg (ofp3 c12)])) dX3_ofP_23
  · refine lv_ldc (v := 65517) F.1.1 F.1.2.1 F.1.2.2.2.1 (F.1.2.2.2.2 _ q316) dX3_ofP_4 ?_
    refine kTi (show (65517 : Int32) = nI 65517 by decide) ?_
    refine lv_goto (tgt := 23) F.1.1 F.1.2.1 dX3_ofP_6 (by decide) ?_
    exact kIret F hr hlocks () hw (by unfold pI; first | (rw [if_pos (ofp0 hq c1)]) | (rw [if_neg (ofp1 c1), if_pos (ofp2 hq c12)]) | (rw [if_neg (ofp1 c1), if_neg (ofp3 c12)])) dX3_ofP_23

abbrev rX3_isGreat : Room := { frames := 1, cells := 0, slots := 0, locals := 20 }
abbrev rX3_store : Room := { frames := 2, cells := 0, slots := 0, locals := 41 }
abbrev rX3_subtract : Room := { frames := 3, cells := 0, slots := 0, locals := 70 }

theorem gr_eq {U : Nat → Int64} {n : Nat} (h : U n = (pI n).toInt64) : grF U (n + 1) = grF U n := if_pos h
theorem gr_gt {U : Nat → Int64} {n : Nat} (h : ¬ U n = (pI n).toInt64) (h2 : (pI n).toInt64 < U n) : grF U (n + 1) = 1 := by
  unfold grF
  rw [if_neg h, if_pos h2]
theorem gr_le {U : Nat → Int64} {n : Nat} (h : ¬ U n = (pI n).toInt64) (h2 : ¬ (pI n).toInt64 < U n) : grF U (n + 1) = 0 := by
  unfold grF
  rw [if_neg h, if_neg h2]
theorem gr_z {U : Nat → Int64} {z : Nat} (h : z < 16) : grF U (16 - z) = grF U (16 - 1 - z + 1) := by rw [show 16 - z = 16 - 1 - z + 1 by omega]

section XJ
variable {p : Program} {l : Launch} {e : Env} {R : Room} {s : State} {m : MethodId} {args : Array Value} {below : List Frame} {meth : Method} {c : Code} {cells slots : Nat} {Q : State → Prop}
variable {G : va_G} {cJ cI : ClassId} {A : Nat → Prop} {am : Nat → Nat} {D : Nat → Int32} {U : Nat → Int64} {X : CX}

theorem lp_isGreat (F : kF p m c cX3_isGreat 2 s args RX3 G cJ cI) (hA : ∀ q : Nat, s.heap.size ≤ q → A q) (hcs : cells ≤ rX3_isGreat.cells ∧ slots ≤ rX3_isGreat.slots) (kr : ∀ (H : Heap) (locs : List Loc) (ls : Array Slot) (v : Int32), v = grF U 16 → narrow .boolean (.int v) = .int v → kW G A s H locs (mW cJ cI am D U X) → W p l e rX3_isGreat s m args below meth c H locs cells slots Q (F0 m 42 ls [.int v]))
    (kk : ∀  (H : Heap) (locs : List Loc) (ls : Array Slot), grF U (16 - 16) = grF U 16 → kW G A s H locs (mW cJ cI am D U X) → lv_has ls 2 [(0, .ref (am 0)), (1, .int (dnI 16 16))] → W p l e rX3_isGreat s m args below meth c H locs cells slots Q (F0 m 49 ls [])) :
    ∀ (n z : Nat), n + z = 16 → ∀  (H : Heap) (locs : List Loc) (ls : Array Slot), grF U (16 - z) = grF U 16 → kW G A s H locs (mW cJ cI am D U X) → lv_has ls 2 [(0, .ref (am 0)), (1, .int (dnI 16 z))] → W p l e rX3_isGreat s m args below meth c H locs cells slots Q (F0 m 3 ls []) := by
  intro n
  induction n with
  | zero =>
    intro z hk  H locs ls hex hw hl
    obtain rfl : z = 16 := by omega
    refine lv_iload_n F.1.1 F.1.2.1 dX3_isGreat_3 rfl (lv_at hl 1 rfl) ?_
    refine lv_if_lt (tgt := 49) F.1.1 F.1.2.1 dX3_isGreat_4 (by decide) (fun _ => ?_) (fun c9 => absurd dn_end c9)
    exact kk  H locs ls hex hw (lv_sub hl [0, 1] rfl)
  | succ n ih =>
    intro z hk  H locs ls hex hw hl
    refine lv_iload_n F.1.1 F.1.2.1 dX3_isGreat_3 rfl (lv_at hl 1 rfl) ?_
    refine lv_if_lt (tgt := 49) F.1.1 F.1.2.1 dX3_isGreat_4 (by decide) (fun c9 => absurd c9 (dn_nlt (by omega) (by decide))) (fun _ => ?_)
    rw [dn_lt (by omega)] at hl
    rw [gr_z (by omega)] at hex
    refine lv_aload_n F.1.1 F.1.2.1 dX3_isGreat_7 rfl (lv_at hl 0 rfl) ?_
    refine mGf (v := .ref (am 4)) F hw 6 (by decide) rfl q265 (fun _ h9 => h9) dX3_isGreat_8 ?_
    refine lv_iload_n F.1.1 F.1.2.1 dX3_isGreat_11 rfl (lv_at hl 1 rfl) ?_
    refine mLu F hw (16 - 1 - z) rfl (by omega) dX3_isGreat_12 ?_
    refine lv_iload_n F.1.1 F.1.2.1 dX3_isGreat_13 rfl (lv_at hl 1 rfl) ?_
    refine kCSi (As := [.int (nI (16 - 1 - z))]) F hw hA (met_X3_ofP _ (by omega)) (va_cwS 1 F.1.2.2.2.2 (lw_S q313 q314 q24 q315) rfl rfl rfl (by decide +kernel) ⟨Nat.le_of_ble_eq_true rfl, Nat.le_of_ble_eq_true rfl⟩) rfl hl.1 rfl (Nat.le_of_ble_eq_true rfl) dX3_isGreat_14 hcs (fun r14 u14 H locs hp14 hw => ?_)
    subst hp14
    refine lv_i2l F.1.1 F.1.2.1 dX3_isGreat_17 rfl ?_
    refine W.lcmp F.1.1 F.1.2.1 dX3_isGreat_18 ?_
    refine lv_if_eq (tgt := 43) F.1.1 F.1.2.1 dX3_isGreat_19 (by decide) (fun c19 => ?_) (fun c19 => ?_)
    · have c19 := (lg_cmp_eq _ _).mp c19
      refine lv_iinc (v := dnI 16 (z + 1)) (lv' := [(1, .int (dnI 16 (z + 1))), (0, .ref (am 0))]) F.1.1 F.1.2.1 dX3_isGreat_43 hl (k := 1) rfl (dn_s (by omega)) (by decide) rfl (fun ls hl => ?_)
      refine lv_goto (tgt := 3) F.1.1 F.1.2.1 dX3_isGreat_46 (by decide) ?_
      exact ih (z + 1) (by omega)  _ _ _ (by rw [show 16 - (z + 1) = 16 - 1 - z by omega, ← gr_eq c19]; exact hex) hw (lv_sub hl [1, 0] rfl)
    · have c19 := mt (lg_cmp_eq _ _).mpr c19
      refine lv_aload_n F.1.1 F.1.2.1 dX3_isGreat_22 rfl (lv_at hl 0 rfl) ?_
      refine mGf (v := .ref (am 4)) F hw 6 (by decide) rfl q265 (fun _ h9 => h9) dX3_isGreat_23 ?_
      refine lv_iload_n F.1.1 F.1.2.1 dX3_isGreat_26 rfl (lv_at hl 1 rfl) ?_
      refine mLu F hw (16 - 1 - z) rfl (by omega) dX3_isGreat_27 ?_
      refine lv_iload_n F.1.1 F.1.2.1 dX3_isGreat_28 rfl (lv_at hl 1 rfl) ?_
      refine kCSi (As := [.int (nI (16 - 1 - z))]) F hw hA (met_X3_ofP _ (by omega)) (va_cwS 1 F.1.2.2.2.2 (lw_S q313 q314 q24 q315) rfl rfl rfl (by decide +kernel) ⟨Nat.le_of_ble_eq_true rfl, Nat.le_of_ble_eq_true rfl⟩) rfl hl.1 rfl (Nat.le_of_ble_eq_true rfl) dX3_isGreat_29 hcs (fun r29 u29 H locs hp29 hw => ?_)
      subst hp29
      refine lv_i2l F.1.1 F.1.2.1 dX3_isGreat_32 rfl ?_
      refine W.lcmp F.1.1 F.1.2.1 dX3_isGreat_33 ?_
      refine lv_if_le (tgt := 41) F.1.1 F.1.2.1 dX3_isGreat_34 (by decide) (fun c34 => ?_) (fun c34 => ?_)
      · have c34 := (lg_cmp_le _ _).mp c34
        refine lv_iconst (v := nI 0) F.1.1 F.1.2.1 dX3_isGreat_41 (by decide) ?_
        exact kr H locs ls _ (by first | (rw [← hex, gr_gt c19 (Int64.not_le.mp c34)]; rfl) | (rw [← hex, gr_le c19 (Int64.not_lt.mpr c34)]; rfl)) rfl hw
      · have c34 := mt (lg_cmp_le _ _).mpr c34
        refine lv_iconst (v := nI 1) F.1.1 F.1.2.1 dX3_isGreat_37 (by decide) ?_
        refine lv_goto (tgt := 42) F.1.1 F.1.2.1 dX3_isGreat_38 (by decide) ?_
        exact kr H locs ls _ (by first | (rw [← hex, gr_gt c19 (Int64.not_le.mp c34)]; rfl) | (rw [← hex, gr_le c19 (Int64.not_lt.mpr c34)]; rfl)) rfl hw

end XJ

/-- isGreat -/
theorem met_X3_isGreat {l : Launch} {G : va_G} {cJ cI : ClassId} {am : Nat → Nat} {D : Nat → Int32} {U : Nat → Int64} {X : CX} {sz : Nat}  : kMi l yX3_isGreat cX3_isGreat 2 .boolean rX3_isGreat G cJ cI [.ref (am 0)] (mW cJ cI am D U X) sz (fun r (_ : Unit) => r = grF U 16) (fun _ => mW cJ cI am D U X) := by
  refine kStart (by decide) (Nat.le_of_ble_eq_true rfl) ?_
  intro p e s m below meth c ls F hr hlocks hin hsz hA hw hl
  have hl : lv_has ls 2 [(0, .ref (am 0))] := hl
  refine lv_bipush (v := nI 15) F.1.1 F.1.2.1 dX3_isGreat_0 (by decide) ?_
  refine lv_istore_n (lv' := [(1, .int (nI 15)), (0, .ref (am 0))]) F.1.1 F.1.2.1 dX3_isGreat_2 rfl hl (by decide) rfl (fun ls hl => ?_)
  refine lp_isGreat F hA ⟨Nat.le_of_ble_eq_true rfl, Nat.le_of_ble_eq_true rfl⟩ (fun H locs ls v h8 h9 hw => kZret F hr hlocks h9 () hw h8 dX3_isGreat_42) (fun  H locs ls hex hw hl => ?_) 16 0 rfl  _ _ _ rfl hw (lv_sub hl [1, 0] rfl)
  refine lv_iconst (v := nI 1) F.1.1 F.1.2.1 dX3_isGreat_49 (by decide) ?_
  exact kZret F hr hlocks rfl () hw hex dX3_isGreat_50

theorem ps_st {V U : Nat → Int64} {k n : Nat} (hk : k < n) (h : agR n U (fl V k (psF V))) : agR n (vp_updL U k ((U k + cyF V k) &&& 65535)) (fl V (k + 1) (psF V)) := by
  rw [← fl_s]
  refine ag_upd h ?_
  rw [h k hk, fl_ge (by omega)]
  rfl
theorem ps_cy {V U : Nat → Int64} {k n : Nat} (hk : k < n) (h : agR n U (fl V k (psF V))) : (U k + cyF V k) >>> (16 : Int64) = cyF V (k + 1) := by
  rw [h k hk, fl_ge (by omega)]
  rfl
theorem bo_s {V U : Nat → Int64} {g : Int32} {k n : Nat} (hk : k < n) (h : agR n U V) : (U k - (gpF g k).toInt64 + boF V g k) >>> (16 : Int64) = boF V g (k + 1) := by
  rw [h k hk]
  rfl
theorem dg_s {V U : Nat → Int64} {g : Int32} {k n : Nat} (hk : k < n) (h : agR n U V) : ((U k - (gpF g k).toInt64 + boF V g k) &&& 65535).toInt32 = dgF V g k := by
  rw [h k hk]
  rfl

section XK
variable {p : Program} {l : Launch} {e : Env} {R : Room} {s : State} {m : MethodId} {args : Array Value} {below : List Frame} {meth : Method} {c : Code} {cells slots : Nat} {Q : State → Prop}
variable {G : va_G} {cJ cI : ClassId} {A : Nat → Prop} {am : Nat → Nat} {D : Nat → Int32} {U : Nat → Int64} {X : CX}

theorem lp_pass1 (F : kF p m c cX3_store 10 s args RX3 G cJ cI) (t : Nat) (tn : Int32) (V : Nat → Int64)
    (kk : ∀ (U : Nat → Int64) (H : Heap) (locs : List Loc) (ls : Array Slot), agR 16 U (fl V 16 (psF V)) → kW G A s H locs (mW cJ cI am D U X) → lv_has ls 10 [(0, .ref (am 0)), (1, .int (nI t)), (2, .int tn), (3, .long (cyF V 16)), (5, .int (nI 16))] → W p l e rX3_store s m args below meth c H locs cells slots Q (F0 m 55 ls [])) :
    ∀ (n z : Nat), n + z = 16 → ∀ (U : Nat → Int64) (H : Heap) (locs : List Loc) (ls : Array Slot), agR 16 U (fl V z (psF V)) → kW G A s H locs (mW cJ cI am D U X) → lv_has ls 10 [(0, .ref (am 0)), (1, .int (nI t)), (2, .int tn), (3, .long (cyF V z)), (5, .int (nI z))] → W p l e rX3_store s m args below meth c H locs cells slots Q (F0 m 12 ls []) := by
  intro n
  induction n with
  | zero =>
    intro z hk U H locs ls hex hw hl
    obtain rfl : z = 16 := by omega
    refine lv_iload F.1.1 F.1.2.1 dX3_store_12 (lv_at hl 4 rfl) ?_
    refine lv_bipush (v := nI 16) F.1.1 F.1.2.1 dX3_store_14 (by decide) ?_
    refine lv_icmp_ge (tgt := 55) F.1.1 F.1.2.1 dX3_store_16 (by decide) (fun _ => ?_) (fun c9 => absurd (nI_le (by omega) (by omega)) c9)
    exact kk _ H locs ls hex hw (lv_sub hl [0, 1, 2, 3, 4] rfl)
  | succ n ih =>
    intro z hk U H locs ls hex hw hl
    refine lv_iload F.1.1 F.1.2.1 dX3_store_12 (lv_at hl 4 rfl) ?_
    refine lv_bipush (v := nI 16) F.1.1 F.1.2.1 dX3_store_14 (by decide) ?_
    refine lv_icmp_ge (tgt := 55) F.1.1 F.1.2.1 dX3_store_16 (by decide) (fun c9 => absurd c9 (nI_ge (by omega) (by omega))) (fun _ => ?_)
    refine lv_aload_n F.1.1 F.1.2.1 dX3_store_19 rfl (lv_at hl 0 rfl) ?_
    refine mGf (v := .ref (am 4)) F hw 6 (by decide) rfl q265 (fun _ h9 => h9) dX3_store_20 ?_
    refine lv_iload F.1.1 F.1.2.1 dX3_store_23 (lv_at hl 4 rfl) ?_
    refine mLu F hw z rfl (by omega) dX3_store_25 ?_
    refine lv_lload_n F.1.1 F.1.2.1 dX3_store_26 rfl (lv_at hl 3 rfl) ?_
    refine lv_ladd F.1.1 F.1.2.1 dX3_store_27 ?_
    refine lv_topl (fun t1 et1 => ?_)
    refine lv_lstore (lv' := [(6, .long t1), (0, .ref (am 0)), (1, .int (nI t)), (2, .int tn), (3, .long (cyF V z)), (5, .int (nI z))]) F.1.1 F.1.2.1 dX3_store_28 hl (by decide) rfl (fun ls hl => ?_)
    refine lv_aload_n F.1.1 F.1.2.1 dX3_store_30 rfl (lv_at hl 1 rfl) ?_
    refine mGf (v := .ref (am 4)) F hw 6 (by decide) rfl q265 (fun _ h9 => h9) dX3_store_31 ?_
    refine lv_iload F.1.1 F.1.2.1 dX3_store_34 (lv_at hl 5 rfl) ?_
    refine lv_lload F.1.1 F.1.2.1 dX3_store_36 (lv_at hl 0 rfl) ?_
    refine lv_ldc2 (v := 65535) F.1.1 F.1.2.1 F.1.2.2.2.1 (F.1.2.2.2.2 _ q301) dX3_store_38 ?_
    refine lv_land F.1.1 F.1.2.1 dX3_store_41 ?_
    refine mSu F hw z rfl (by omega) dX3_store_42 (fun H locs hw => ?_)
    refine lv_lload F.1.1 F.1.2.1 dX3_store_43 (lv_at hl 0 rfl) ?_
    refine lv_bipush (v := nI 16) F.1.1 F.1.2.1 dX3_store_45 (by decide) ?_
    refine lv_lshr F.1.1 F.1.2.1 dX3_store_47 (k_lshr16 _) ?_
    refine lv_topl (fun t2 et2 => ?_)
    refine lv_lstore_n (lv' := [(3, .long t2), (6, .long t1), (0, .ref (am 0)), (1, .int (nI t)), (2, .int tn), (5, .int (nI z))]) F.1.1 F.1.2.1 dX3_store_48 rfl hl (by decide) rfl (fun ls hl => ?_)
    refine lv_iinc (v := nI (z + 1)) (lv' := [(5, .int (nI (z + 1))), (3, .long t2), (6, .long t1), (0, .ref (am 0)), (1, .int (nI t)), (2, .int tn)]) F.1.1 F.1.2.1 dX3_store_49 hl (k := 5) rfl (nI_1 _) (by decide) rfl (fun ls hl => ?_)
    refine lv_goto (tgt := 12) F.1.1 F.1.2.1 dX3_store_52 (by decide) ?_
    subst et2
    subst et1
    rw [ps_cy (by omega) hex] at hl
    exact ih (z + 1) (by omega) _ _ _ _ (ps_st (by omega) hex) hw (lv_sub hl [3, 4, 5, 1, 0] rfl)

theorem lp_turn (F : kF p m c cX3_store 10 s args RX3 G cJ cI) (t : Nat) (V : Nat → Int64)
    (kk : ∀ (U : Nat → Int64) (H : Heap) (locs : List Loc) (ls : Array Slot), agR 16 U (it (fun _ V => tuF V) 3 V) → kW G A s H locs (mW cJ cI am D U X) → lv_has ls 10 [(0, .ref (am 0)), (1, .int (nI t)), (2, .int (nI 3))] → W p l e rX3_store s m args below meth c H locs cells slots Q (F0 m 116 ls [])) :
    ∀ (n k : Nat), n + k = 3 → ∀ (U : Nat → Int64) (H : Heap) (locs : List Loc) (ls : Array Slot), agR 16 U (it (fun _ V => tuF V) k V) → kW G A s H locs (mW cJ cI am D U X) → lv_has ls 10 [(0, .ref (am 0)), (1, .int (nI t)), (2, .int (nI k))] → W p l e rX3_store s m args below meth c H locs cells slots Q (F0 m 2 ls []) := by
  intro n
  induction n with
  | zero =>
    intro k hk U H locs ls hex hw hl
    obtain rfl : k = 3 := by omega
    refine lv_iload_n F.1.1 F.1.2.1 dX3_store_2 rfl (lv_at hl 2 rfl) ?_
    refine lv_iconst (v := nI 3) F.1.1 F.1.2.1 dX3_store_3 (by decide) ?_
    refine lv_icmp_ge (tgt := 116) F.1.1 F.1.2.1 dX3_store_4 (by decide) (fun _ => ?_) (fun c9 => absurd (nI_le (by omega) (by omega)) c9)
    exact kk _ H locs ls hex hw (lv_sub hl [0, 1, 2] rfl)
  | succ n ih =>
    intro k hk U H locs ls hex hw hl
    refine lv_iload_n F.1.1 F.1.2.1 dX3_store_2 rfl (lv_at hl 2 rfl) ?_
    refine lv_iconst (v := nI 3) F.1.1 F.1.2.1 dX3_store_3 (by decide) ?_
    refine lv_icmp_ge (tgt := 116) F.1.1 F.1.2.1 dX3_store_4 (by decide) (fun c9 => absurd c9 (nI_ge (by omega) (by omega))) (fun _ => ?_)
    refine lv_lconst (v := 0) F.1.1 F.1.2.1 dX3_store_7 (by decide) ?_
    refine lv_lstore_n (lv' := [(3, .long 0), (0, .ref (am 0)), (1, .int (nI t)), (2, .int (nI k))]) F.1.1 F.1.2.1 dX3_store_8 rfl hl (by decide) rfl (fun ls hl => ?_)
    refine lv_iconst (v := nI 0) F.1.1 F.1.2.1 dX3_store_9 (by decide) ?_
    refine lv_istore (lv' := [(5, .int (nI 0)), (3, .long 0), (0, .ref (am 0)), (1, .int (nI t)), (2, .int (nI k))]) F.1.1 F.1.2.1 dX3_store_10 hl (by decide) rfl (fun ls hl => ?_)
    refine lp_pass1 F t _ (it (fun _ V => tuF V) k V) (fun U H locs ls hex hw hl => ?_) 16 0 rfl _ _ _ _ (by rw [fl_0]; exact hex) hw (lv_sub hl [2, 3, 4, 1, 0] rfl)
    refine lv_lload_n F.1.1 F.1.2.1 dX3_store_55 rfl (lv_at hl 3 rfl) ?_
    refine lv_ldc2 (v := 2) F.1.1 F.1.2.1 F.1.2.2.2.1 (F.1.2.2.2.2 _ q307) dX3_store_56 ?_
    refine lv_lmul F.1.1 F.1.2.1 dX3_store_59 ?_
    refine lv_aload_n F.1.1 F.1.2.1 dX3_store_60 rfl (lv_at hl 0 rfl) ?_
    refine mGf (v := .ref (am 4)) F hw 6 (by decide) rfl q265 (fun _ h9 => h9) dX3_store_61 ?_
    refine lv_bipush (v := nI 15) F.1.1 F.1.2.1 dX3_store_64 (by decide) ?_
    refine mLu F hw 15 rfl (by omega) dX3_store_66 ?_
    refine lv_bipush (v := nI 15) F.1.1 F.1.2.1 dX3_store_67 (by decide) ?_
    refine lv_lshr F.1.1 F.1.2.1 dX3_store_69 (k_lshr15 _) ?_
    refine lv_ladd F.1.1 F.1.2.1 dX3_store_70 ?_
    refine lv_topl (fun t1 et1 => ?_)
    refine lv_lstore (lv' := [(5, .long t1), (0, .ref (am 0)), (1, .int (nI t)), (2, .int (nI k)), (3, .long (cyF (it (fun _ V => tuF V) k V) 16))]) F.1.1 F.1.2.1 dX3_store_71 hl (by decide) rfl (fun ls hl => ?_)
    refine lv_aload_n F.1.1 F.1.2.1 dX3_store_73 rfl (lv_at hl 1 rfl) ?_
    refine mGf (v := .ref (am 4)) F hw 6 (by decide) rfl q265 (fun _ h9 => h9) dX3_store_74 ?_
    refine lv_bipush (v := nI 15) F.1.1 F.1.2.1 dX3_store_77 (by decide) ?_
    refine lv_aload_n F.1.1 F.1.2.1 dX3_store_79 rfl (lv_at hl 1 rfl) ?_
    refine mGf (v := .ref (am 4)) F hw 6 (by decide) rfl q265 (fun _ h9 => h9) dX3_store_80 ?_
    refine lv_bipush (v := nI 15) F.1.1 F.1.2.1 dX3_store_83 (by decide) ?_
    refine mLu F hw 15 rfl (by omega) dX3_store_85 ?_
    refine lv_ldc2 (v := 32767) F.1.1 F.1.2.1 F.1.2.2.2.1 (F.1.2.2.2.2 _ q302) dX3_store_86 ?_
    refine lv_land F.1.1 F.1.2.1 dX3_store_89 ?_
    refine mSu F hw 15 rfl (by omega) dX3_store_90 (fun H locs hw => ?_)
    refine lv_aload_n F.1.1 F.1.2.1 dX3_store_91 rfl (lv_at hl 1 rfl) ?_
    refine mGf (v := .ref (am 4)) F hw 6 (by decide) rfl q265 (fun _ h9 => h9) dX3_store_92 ?_
    refine lv_iconst (v := nI 0) F.1.1 F.1.2.1 dX3_store_95 (by decide) ?_
    refine lv_aload_n F.1.1 F.1.2.1 dX3_store_96 rfl (lv_at hl 1 rfl) ?_
    refine mGf (v := .ref (am 4)) F hw 6 (by decide) rfl q265 (fun _ h9 => h9) dX3_store_97 ?_
    refine lv_iconst (v := nI 0) F.1.1 F.1.2.1 dX3_store_100 (by decide) ?_
    refine mLu F hw 0 rfl (by omega) dX3_store_101 ?_
    refine lv_ldc2 (v := 19) F.1.1 F.1.2.1 F.1.2.2.2.1 (F.1.2.2.2.2 _ q308) dX3_store_102 ?_
    refine lv_lload F.1.1 F.1.2.1 dX3_store_105 (lv_at hl 0 rfl) ?_
    refine lv_lmul F.1.1 F.1.2.1 dX3_store_107 ?_
    refine lv_ladd F.1.1 F.1.2.1 dX3_store_108 ?_
    refine mSu F hw 0 rfl (by omega) dX3_store_109 (fun H locs hw => ?_)
    refine lv_iinc (v := nI (k + 1)) (lv' := [(2, .int (nI (k + 1))), (5, .long t1), (0, .ref (am 0)), (1, .int (nI t)), (3, .long (cyF (it (fun _ V => tuF V) k V) 16))]) F.1.1 F.1.2.1 dX3_store_110 hl (k := 3) rfl (nI_1 _) (by decide) rfl (fun ls hl => ?_)
    refine lv_goto (tgt := 2) F.1.1 F.1.2.1 dX3_store_113 (by decide) ?_
    subst et1
    exact ih (k + 1) (by omega) _ _ _ _ (by rw [it_s]; exact ag_upd (ag_upd hex (by rw [hex _ (by omega), fl_lt (by omega)])) (by rw [ag_upd hex (show U 15 &&& 32767 = psF (it (fun _ V => tuF V) k V) 15 &&& 32767 by rw [hex _ (by omega), fl_lt (by omega)]) _ (by omega), hex 15 (by omega), fl_lt (by omega)])) hw (lv_sub hl [2, 3, 0] rfl)

theorem lp_pass2 (F : kF p m c cX3_store 10 s args RX3 G cJ cI) (t : Nat) (V : Nat → Int64)
    (kk : ∀ (U : Nat → Int64) (H : Heap) (locs : List Loc) (ls : Array Slot), agR 16 U (fl V 16 (psF V)) → kW G A s H locs (mW cJ cI am D U X) → lv_has ls 10 [(0, .ref (am 0)), (1, .int (nI t)), (2, .long (cyF V 16)), (4, .int (nI 16))] → W p l e rX3_store s m args below meth c H locs cells slots Q (F0 m 164 ls [])) :
    ∀ (n z : Nat), n + z = 16 → ∀ (U : Nat → Int64) (H : Heap) (locs : List Loc) (ls : Array Slot), agR 16 U (fl V z (psF V)) → kW G A s H locs (mW cJ cI am D U X) → lv_has ls 10 [(0, .ref (am 0)), (1, .int (nI t)), (2, .long (cyF V z)), (4, .int (nI z))] → W p l e rX3_store s m args below meth c H locs cells slots Q (F0 m 121 ls []) := by
  intro n
  induction n with
  | zero =>
    intro z hk U H locs ls hex hw hl
    obtain rfl : z = 16 := by omega
    refine lv_iload F.1.1 F.1.2.1 dX3_store_121 (lv_at hl 3 rfl) ?_
    refine lv_bipush (v := nI 16) F.1.1 F.1.2.1 dX3_store_123 (by decide) ?_
    refine lv_icmp_ge (tgt := 164) F.1.1 F.1.2.1 dX3_store_125 (by decide) (fun _ => ?_) (fun c9 => absurd (nI_le (by omega) (by omega)) c9)
    exact kk _ H locs ls hex hw (lv_sub hl [0, 1, 2, 3] rfl)
  | succ n ih =>
    intro z hk U H locs ls hex hw hl
    refine lv_iload F.1.1 F.1.2.1 dX3_store_121 (lv_at hl 3 rfl) ?_
    refine lv_bipush (v := nI 16) F.1.1 F.1.2.1 dX3_store_123 (by decide) ?_
    refine lv_icmp_ge (tgt := 164) F.1.1 F.1.2.1 dX3_store_125 (by decide) (fun c9 => absurd c9 (nI_ge (by omega) (by omega))) (fun _ => ?_)
    refine lv_aload_n F.1.1 F.1.2.1 dX3_store_128 rfl (lv_at hl 0 rfl) ?_
    refine mGf (v := .ref (am 4)) F hw 6 (by decide) rfl q265 (fun _ h9 => h9) dX3_store_129 ?_
    refine lv_iload F.1.1 F.1.2.1 dX3_store_132 (lv_at hl 3 rfl) ?_
    refine mLu F hw z rfl (by omega) dX3_store_134 ?_
    refine lv_lload_n F.1.1 F.1.2.1 dX3_store_135 rfl (lv_at hl 2 rfl) ?_
    refine lv_ladd F.1.1 F.1.2.1 dX3_store_136 ?_
    refine lv_topl (fun t1 et1 => ?_)
    refine lv_lstore (lv' := [(5, .long t1), (0, .ref (am 0)), (1, .int (nI t)), (2, .long (cyF V z)), (4, .int (nI z))]) F.1.1 F.1.2.1 dX3_store_137 hl (by decide) rfl (fun ls hl => ?_)
    refine lv_aload_n F.1.1 F.1.2.1 dX3_store_139 rfl (lv_at hl 1 rfl) ?_
    refine mGf (v := .ref (am 4)) F hw 6 (by decide) rfl q265 (fun _ h9 => h9) dX3_store_140 ?_
    refine lv_iload F.1.1 F.1.2.1 dX3_store_143 (lv_at hl 4 rfl) ?_
    refine lv_lload F.1.1 F.1.2.1 dX3_store_145 (lv_at hl 0 rfl) ?_
    refine lv_ldc2 (v := 65535) F.1.1 F.1.2.1 F.1.2.2.2.1 (F.1.2.2.2.2 _ q301) dX3_store_147 ?_
    refine lv_land F.1.1 F.1.2.1 dX3_store_150 ?_
    refine mSu F hw z rfl (by omega) dX3_store_151 (fun H locs hw => ?_)
    refine lv_lload F.1.1 F.1.2.1 dX3_store_152 (lv_at hl 0 rfl) ?_
    refine lv_bipush (v := nI 16) F.1.1 F.1.2.1 dX3_store_154 (by decide) ?_
    refine lv_lshr F.1.1 F.1.2.1 dX3_store_156 (k_lshr16 _) ?_
    refine lv_topl (fun t2 et2 => ?_)
    refine lv_lstore_n (lv' := [(2, .long t2), (5, .long t1), (0, .ref (am 0)), (1, .int (nI t)), (4, .int (nI z))]) F.1.1 F.1.2.1 dX3_store_157 rfl hl (by decide) rfl (fun ls hl => ?_)
    refine lv_iinc (v := nI (z + 1)) (lv' := [(4, .int (nI (z + 1))), (2, .long t2), (5, .long t1), (0, .ref (am 0)), (1, .int (nI t))]) F.1.1 F.1.2.1 dX3_store_158 hl (k := 4) rfl (nI_1 _) (by decide) rfl (fun ls hl => ?_)
    refine lv_goto (tgt := 121) F.1.1 F.1.2.1 dX3_store_161 (by decide) ?_
    subst et2
    subst et1
    rw [ps_cy (by omega) hex] at hl
    exact ih (z + 1) (by omega) _ _ _ _ (ps_st (by omega) hex) hw (lv_sub hl [3, 4, 1, 0] rfl)

theorem lp_borrow (F : kF p m c cX3_store 10 s args RX3 G cJ cI) (hA : ∀ q : Nat, s.heap.size ≤ q → A q) (hcs : cells ≤ rX3_store.cells ∧ slots ≤ rX3_store.slots) (t : Nat) (ht : t < 13) (V : Nat → Int64) (g : Int32) (hV : agR 16 U V)
    (kk : ∀  (H : Heap) (locs : List Loc) (ls : Array Slot), kW G A s H locs (mW cJ cI am (flD D t 16 (dgF V g)) U X) → lv_has ls 10 [(0, .ref (am 0)), (1, .int (nI t)), (4, .int g), (5, .long (boF V g 16)), (7, .int (nI 16))] → W p l e rX3_store s m args below meth c H locs cells slots Q (F0 m 243 ls [])) :
    ∀ (n k : Nat), n + k = 16 → ∀  (H : Heap) (locs : List Loc) (ls : Array Slot), kW G A s H locs (mW cJ cI am (flD D t k (dgF V g)) U X) → lv_has ls 10 [(0, .ref (am 0)), (1, .int (nI t)), (4, .int g), (5, .long (boF V g k)), (7, .int (nI k))] → W p l e rX3_store s m args below meth c H locs cells slots Q (F0 m 176 ls []) := by
  intro n
  induction n with
  | zero =>
    intro k hk  H locs ls hw hl
    obtain rfl : k = 16 := by omega
    refine lv_iload F.1.1 F.1.2.1 dX3_store_176 (lv_at hl 4 rfl) ?_
    refine lv_bipush (v := nI 16) F.1.1 F.1.2.1 dX3_store_178 (by decide) ?_
    refine lv_icmp_ge (tgt := 243) F.1.1 F.1.2.1 dX3_store_180 (by decide) (fun _ => ?_) (fun c9 => absurd (nI_le (by omega) (by omega)) c9)
    exact kk  H locs ls hw (lv_sub hl [0, 1, 2, 3, 4] rfl)
  | succ n ih =>
    intro k hk  H locs ls hw hl
    refine lv_iload F.1.1 F.1.2.1 dX3_store_176 (lv_at hl 4 rfl) ?_
    refine lv_bipush (v := nI 16) F.1.1 F.1.2.1 dX3_store_178 (by decide) ?_
    refine lv_icmp_ge (tgt := 243) F.1.1 F.1.2.1 dX3_store_180 (by decide) (fun c9 => absurd c9 (nI_ge (by omega) (by omega))) (fun _ => ?_)
    refine lv_aload_n F.1.1 F.1.2.1 dX3_store_183 rfl (lv_at hl 0 rfl) ?_
    refine mGf (v := .ref (am 4)) F hw 6 (by decide) rfl q265 (fun _ h9 => h9) dX3_store_184 ?_
    refine lv_iload F.1.1 F.1.2.1 dX3_store_187 (lv_at hl 4 rfl) ?_
    refine mLu F hw k rfl (by omega) dX3_store_189 ?_
    have J204 : ∀ (H : Heap) (locs : List Loc), kW G A s H locs (mW cJ cI am (flD D t k (dgF V g)) U X) → W p l e rX3_store s m args below meth c H locs cells slots Q (F0 m 204 ls [.int (gpF g k), .long (U k)]) := by
      intro H locs hw
      refine lv_i2l F.1.1 F.1.2.1 dX3_store_204 rfl ?_
      refine lv_lsub F.1.1 F.1.2.1 dX3_store_205 ?_
      refine lv_lload F.1.1 F.1.2.1 dX3_store_206 (lv_at hl 3 rfl) ?_
      refine lv_ladd F.1.1 F.1.2.1 dX3_store_208 ?_
      refine lv_topl (fun t1 et1 => ?_)
      refine lv_lstore (lv' := [(8, .long t1), (0, .ref (am 0)), (1, .int (nI t)), (4, .int g), (5, .long (boF V g k)), (7, .int (nI k))]) F.1.1 F.1.2.1 dX3_store_209 hl (by decide) rfl (fun ls hl => ?_)
      refine lv_aload_n F.1.1 F.1.2.1 dX3_store_211 rfl (lv_at hl 1 rfl) ?_
      refine mGf (v := .ref (am 3)) F hw 5 (by decide) rfl q264 (fun _ h9 => h9) dX3_store_212 ?_
      refine lv_bipush (v := nI 16) F.1.1 F.1.2.1 dX3_store_215 (by decide) ?_
      refine lv_iload_n F.1.1 F.1.2.1 dX3_store_217 rfl (lv_at hl 2 rfl) ?_
      refine lv_imul F.1.1 F.1.2.1 dX3_store_218 ?_
      refine kTi (pk_mul _ _) ?_
      refine lv_iload F.1.1 F.1.2.1 dX3_store_219 (lv_at hl 5 rfl) ?_
      refine lv_iadd F.1.1 F.1.2.1 dX3_store_221 ?_
      refine kTi (nI_add _ _) ?_
      refine lv_lload F.1.1 F.1.2.1 dX3_store_222 (lv_at hl 0 rfl) ?_
      refine lv_ldc2 (v := 65535) F.1.1 F.1.2.1 F.1.2.2.2.1 (F.1.2.2.2.2 _ q301) dX3_store_224 ?_
      refine lv_land F.1.1 F.1.2.1 dX3_store_227 ?_
      refine lv_l2i F.1.1 F.1.2.1 dX3_store_228 rfl ?_
      refine mSd F hw (16 * t + k) rfl (by omega) dX3_store_229 (fun H locs hw => ?_)
      refine lv_lload F.1.1 F.1.2.1 dX3_store_230 (lv_at hl 0 rfl) ?_
      refine lv_bipush (v := nI 16) F.1.1 F.1.2.1 dX3_store_232 (by decide) ?_
      refine lv_lshr F.1.1 F.1.2.1 dX3_store_234 (k_lshr16 _) ?_
      refine lv_topl (fun t2 et2 => ?_)
      refine lv_lstore (lv' := [(5, .long t2), (8, .long t1), (0, .ref (am 0)), (1, .int (nI t)), (4, .int g), (7, .int (nI k))]) F.1.1 F.1.2.1 dX3_store_235 hl (by decide) rfl (fun ls hl => ?_)
      refine lv_iinc (v := nI (k + 1)) (lv' := [(7, .int (nI (k + 1))), (5, .long t2), (8, .long t1), (0, .ref (am 0)), (1, .int (nI t)), (4, .int g)]) F.1.1 F.1.2.1 dX3_store_237 hl (k := 5) rfl (nI_1 _) (by decide) rfl (fun ls hl => ?_)
      refine lv_goto (tgt := 176) F.1.1 F.1.2.1 dX3_store_240 (by decide) ?_
      subst et2
      subst et1
      rw [bo_s (by omega) hV] at hl
      exact ih (k + 1) (by omega)  _ _ _ (by rw [← flD_s, ← dg_s (by omega) hV]; exact hw) (lv_sub hl [3, 4, 5, 1, 0] rfl)
    refine lv_iload F.1.1 F.1.2.1 dX3_store_190 (lv_at hl 2 rfl) ?_
    refine lv_if_eq (tgt := 203) F.1.1 F.1.2.1 dX3_store_192 (by decide) (fun c192 => ?_) (fun c192 => ?_)
    · refine lv_iconst (v := nI 0) F.1.1 F.1.2.1 dX3_store_203 (by decide) ?_
      exact kTi (by first | exact (if_pos c192).symm | exact hp197.trans (if_neg c192).symm) (J204 H locs hw)
    · refine lv_iload F.1.1 F.1.2.1 dX3_store_195 (lv_at hl 4 rfl) ?_
      refine kCSi (As := [.int (nI k)]) F hw hA (met_X3_ofP k (by omega)) (va_cwS 1 F.1.2.2.2.2 (lw_S q313 q314 q24 q315) rfl rfl rfl (by decide +kernel) ⟨Nat.le_of_ble_eq_true rfl, Nat.le_of_ble_eq_true rfl⟩) rfl hl.1 rfl (Nat.le_of_ble_eq_true rfl) dX3_store_197 hcs (fun r197 u197 H locs hp197 hw => ?_)
      refine lv_goto (tgt := 204) F.1.1 F.1.2.1 dX3_store_200 (by decide) ?_
      exact kTi (by first | exact (if_pos c192).symm | exact hp197.trans (if_neg c192).symm) (J204 H locs hw)

end XK

/-- store -/
theorem met_X3_store {l : Launch} {G : va_G} {cJ cI : ClassId} {am : Nat → Nat} {D : Nat → Int32} {U : Nat → Int64} {X : CX} {sz : Nat} (t : Nat) (ht : t < 13) (V : Nat → Int64) (hV : agR 16 U V) : kMv l yX3_store cX3_store 10 rX3_store G cJ cI [.ref (am 0), .int (nI t)] (mW cJ cI am D U X) sz (fun _ : Nat → Int64 => True) (fun U => mW cJ cI am (dSto t V D) U X) := by
  refine kStart (by decide) (Nat.le_of_ble_eq_true rfl) ?_
  intro p e s m below meth c ls F hr hlocks hin hsz hA hw hl
  have hl : lv_has ls 10 [(0, .ref (am 0)), (1, .int (nI t))] := hl
  refine lv_iconst (v := nI 0) F.1.1 F.1.2.1 dX3_store_0 (by decide) ?_
  refine lv_istore_n (lv' := [(2, .int (nI 0)), (0, .ref (am 0)), (1, .int (nI t))]) F.1.1 F.1.2.1 dX3_store_1 rfl hl (by decide) rfl (fun ls hl => ?_)
  refine lp_turn F t V (fun U H locs ls hex hw hl => ?_) 3 0 rfl _ _ _ _ hV hw (lv_sub hl [1, 2, 0] rfl)
  refine lv_lconst (v := 0) F.1.1 F.1.2.1 dX3_store_116 (by decide) ?_
  refine lv_lstore_n (lv' := [(2, .long 0), (0, .ref (am 0)), (1, .int (nI t))]) F.1.1 F.1.2.1 dX3_store_117 rfl hl (by decide) rfl (fun ls hl => ?_)
  refine lv_iconst (v := nI 0) F.1.1 F.1.2.1 dX3_store_118 (by decide) ?_
  refine lv_istore (lv' := [(4, .int (nI 0)), (2, .long 0), (0, .ref (am 0)), (1, .int (nI t))]) F.1.1 F.1.2.1 dX3_store_119 hl (by decide) rfl (fun ls hl => ?_)
  refine lp_pass2 F t (v3F V) (fun U H locs ls hex hw hl => ?_) 16 0 rfl _ _ _ _ (by rw [fl_0]; exact hex) hw (lv_sub hl [2, 3, 1, 0] rfl)
  refine lv_aload_n F.1.1 F.1.2.1 dX3_store_164 rfl (lv_at hl 0 rfl) ?_
  refine kCi (As := []) F hw hA met_X3_isGreat (cwV 0 F.1.2.2.2.2 (lw_V q309 q311 qs6 q24 q312) rfl rfl rfl (by decide +kernel) ⟨Nat.le_of_ble_eq_true rfl, Nat.le_of_ble_eq_true rfl⟩) mRc rfl hl.1 rfl (Nat.le_of_ble_eq_true rfl) dX3_store_165 ⟨Nat.le_of_ble_eq_true rfl, Nat.le_of_ble_eq_true rfl⟩ (fun r165 u165 H locs hp165 hw => ?_)
  rw [grF_congr hex 16 (Nat.le_refl 16)] at hp165
  refine lv_istore (lv' := [(4, .int r165), (0, .ref (am 0)), (1, .int (nI t)), (2, .long (cyF (v3F V) 16))]) F.1.1 F.1.2.1 dX3_store_168 hl (by decide) rfl (fun ls hl => ?_)
  refine lv_lconst (v := 0) F.1.1 F.1.2.1 dX3_store_170 (by decide) ?_
  refine lv_lstore (lv' := [(5, .long 0), (4, .int r165), (0, .ref (am 0)), (1, .int (nI t)), (2, .long (cyF (v3F V) 16))]) F.1.1 F.1.2.1 dX3_store_171 hl (by decide) rfl (fun ls hl => ?_)
  refine lv_iconst (v := nI 0) F.1.1 F.1.2.1 dX3_store_173 (by decide) ?_
  refine lv_istore (lv' := [(7, .int (nI 0)), (5, .long 0), (4, .int r165), (0, .ref (am 0)), (1, .int (nI t)), (2, .long (cyF (v3F V) 16))]) F.1.1 F.1.2.1 dX3_store_174 hl (by decide) rfl (fun ls hl => ?_)
  refine lp_borrow F hA ⟨Nat.le_of_ble_eq_true rfl, Nat.le_of_ble_eq_true rfl⟩ t ht (v4F V) r165 hex (fun  H locs ls hw hl => ?_) 16 0 rfl  _ _ _ (by rw [flD_0]; exact hw) (lv_sub hl [3, 4, 2, 1, 0] rfl)
  exact kVret F hr hlocks U (by rw [hp165] at hw; exact hw) trivial dX3_store_243

section XL
variable {p : Program} {l : Launch} {e : Env} {R : Room} {s : State} {m : MethodId} {args : Array Value} {below : List Frame} {meth : Method} {c : Code} {cells slots : Nat} {Q : State → Prop}
variable {G : va_G} {cJ cI : ClassId} {A : Nat → Prop} {am : Nat → Nat} {D : Nat → Int32} {U : Nat → Int64} {X : CX}

theorem lp_setSmall (F : kF p m c cX3_setSmall 4 s args RX3 G cJ cI) (t : Nat) (ht : t < 13) (v : Int32)
    (kk : ∀  (H : Heap) (locs : List Loc) (ls : Array Slot), kW G A s H locs (mW cJ cI am (flD D t 16 (fun j => if j = 0 then v else nI 0)) U X) → lv_has ls 4 [(0, .ref (am 0)), (1, .int (nI t)), (2, .int v), (3, .int (nI 16))] → W p l e R s m args below meth c H locs cells slots Q (F0 m 34 ls [])) :
    ∀ (n k : Nat), n + k = 16 → ∀  (H : Heap) (locs : List Loc) (ls : Array Slot), kW G A s H locs (mW cJ cI am (flD D t k (fun j => if j = 0 then v else nI 0)) U X) → lv_has ls 4 [(0, .ref (am 0)), (1, .int (nI t)), (2, .int v), (3, .int (nI k))] → W p l e R s m args below meth c H locs cells slots Q (F0 m 2 ls []) := by
  intro n
  induction n with
  | zero =>
    intro k hk  H locs ls hw hl
    obtain rfl : k = 16 := by omega
    refine lv_iload_n F.1.1 F.1.2.1 dX3_setSmall_2 rfl (lv_at hl 3 rfl) ?_
    refine lv_bipush (v := nI 16) F.1.1 F.1.2.1 dX3_setSmall_3 (by decide) ?_
    refine lv_icmp_ge (tgt := 34) F.1.1 F.1.2.1 dX3_setSmall_5 (by decide) (fun _ => ?_) (fun c9 => absurd (nI_le (by omega) (by omega)) c9)
    exact kk  H locs ls hw (lv_sub hl [0, 1, 2, 3] rfl)
  | succ n ih =>
    intro k hk  H locs ls hw hl
    refine lv_iload_n F.1.1 F.1.2.1 dX3_setSmall_2 rfl (lv_at hl 3 rfl) ?_
    refine lv_bipush (v := nI 16) F.1.1 F.1.2.1 dX3_setSmall_3 (by decide) ?_
    refine lv_icmp_ge (tgt := 34) F.1.1 F.1.2.1 dX3_setSmall_5 (by decide) (fun c9 => absurd c9 (nI_ge (by omega) (by omega))) (fun _ => ?_)
    refine lv_aload_n F.1.1 F.1.2.1 dX3_setSmall_8 rfl (lv_at hl 0 rfl) ?_
    refine mGf (v := .ref (am 3)) F hw 5 (by decide) rfl q264 (fun _ h9 => h9) dX3_setSmall_9 ?_
    refine lv_bipush (v := nI 16) F.1.1 F.1.2.1 dX3_setSmall_12 (by decide) ?_
    refine lv_iload_n F.1.1 F.1.2.1 dX3_setSmall_14 rfl (lv_at hl 1 rfl) ?_
    refine lv_imul F.1.1 F.1.2.1 dX3_setSmall_15 ?_
    refine kTi (pk_mul _ _) ?_
    refine lv_iload_n F.1.1 F.1.2.1 dX3_setSmall_16 rfl (lv_at hl 3 rfl) ?_
    refine lv_iadd F.1.1 F.1.2.1 dX3_setSmall_17 ?_
    refine kTi (nI_add _ _) ?_
    have J27 : W p l e R s m args below meth c H locs cells slots Q (F0 m 27 ls [.int (if k = 0 then v else nI 0), .int (nI (16 * t + k)), .ref (am 3)]) := by
      refine mSd F hw (16 * t + k) rfl (by omega) dX3_setSmall_27 (fun H locs hw => ?_)
      refine lv_iinc (v := nI (k + 1)) (lv' := [(3, .int (nI (k + 1))), (0, .ref (am 0)), (1, .int (nI t)), (2, .int v)]) F.1.1 F.1.2.1 dX3_setSmall_28 hl (k := 3) rfl (nI_1 _) (by decide) rfl (fun ls hl => ?_)
      refine lv_goto (tgt := 2) F.1.1 F.1.2.1 dX3_setSmall_31 (by decide) ?_
      exact ih (k + 1) (by omega)  _ _ _ (by rw [← flD_s]; exact hw) (lv_sub hl [1, 2, 3, 0] rfl)
    refine lv_iload_n F.1.1 F.1.2.1 dX3_setSmall_18 rfl (lv_at hl 3 rfl) ?_
    refine lv_if_ne (tgt := 26) F.1.1 F.1.2.1 dX3_setSmall_19 (by decide) (fun c19 => ?_) (fun c19 => ?_)
    · refine lv_iconst (v := nI 0) F.1.1 F.1.2.1 dX3_setSmall_26 (by decide) ?_
      exact kTi (by first | exact (if_neg (ofp1 c19)).symm | exact (if_pos (ofp0 (by omega) c19)).symm) J27
    · refine lv_iload_n F.1.1 F.1.2.1 dX3_setSmall_22 rfl (lv_at hl 2 rfl) ?_
      refine lv_goto (tgt := 27) F.1.1 F.1.2.1 dX3_setSmall_23 (by decide) ?_
      exact kTi (by first | exact (if_neg (ofp1 c19)).symm | exact (if_pos (ofp0 (by omega) c19)).symm) J27

theorem lp_copy (F : kF p m c cX3_copy 4 s args RX3 G cJ cI) (t : Nat) (ht : t < 13) (a : Nat) (ha : a < 13)
    (kk : ∀  (H : Heap) (locs : List Loc) (ls : Array Slot), kW G A s H locs (mW cJ cI am (flD D t 16 (fun j => D (16 * a + j))) U X) → lv_has ls 4 [(0, .ref (am 0)), (1, .int (nI t)), (2, .int (nI a)), (3, .int (nI 16))] → W p l e R s m args below meth c H locs cells slots Q (F0 m 36 ls [])) :
    ∀ (n k : Nat), n + k = 16 → ∀  (H : Heap) (locs : List Loc) (ls : Array Slot), kW G A s H locs (mW cJ cI am (flD D t k (fun j => D (16 * a + j))) U X) → lv_has ls 4 [(0, .ref (am 0)), (1, .int (nI t)), (2, .int (nI a)), (3, .int (nI k))] → W p l e R s m args below meth c H locs cells slots Q (F0 m 2 ls []) := by
  intro n
  induction n with
  | zero =>
    intro k hk  H locs ls hw hl
    obtain rfl : k = 16 := by omega
    refine lv_iload_n F.1.1 F.1.2.1 dX3_copy_2 rfl (lv_at hl 3 rfl) ?_
    refine lv_bipush (v := nI 16) F.1.1 F.1.2.1 dX3_copy_3 (by decide) ?_
    refine lv_icmp_ge (tgt := 36) F.1.1 F.1.2.1 dX3_copy_5 (by decide) (fun _ => ?_) (fun c9 => absurd (nI_le (by omega) (by omega)) c9)
    exact kk  H locs ls hw (lv_sub hl [0, 1, 2, 3] rfl)
  | succ n ih =>
    intro k hk  H locs ls hw hl
    refine lv_iload_n F.1.1 F.1.2.1 dX3_copy_2 rfl (lv_at hl 3 rfl) ?_
    refine lv_bipush (v := nI 16) F.1.1 F.1.2.1 dX3_copy_3 (by decide) ?_
    refine lv_icmp_ge (tgt := 36) F.1.1 F.1.2.1 dX3_copy_5 (by decide) (fun c9 => absurd c9 (nI_ge (by omega) (by omega))) (fun _ => ?_)
    refine lv_aload_n F.1.1 F.1.2.1 dX3_copy_8 rfl (lv_at hl 0 rfl) ?_
    refine mGf (v := .ref (am 3)) F hw 5 (by decide) rfl q264 (fun _ h9 => h9) dX3_copy_9 ?_
    refine lv_bipush (v := nI 16) F.1.1 F.1.2.1 dX3_copy_12 (by decide) ?_
    refine lv_iload_n F.1.1 F.1.2.1 dX3_copy_14 rfl (lv_at hl 1 rfl) ?_
    refine lv_imul F.1.1 F.1.2.1 dX3_copy_15 ?_
    refine kTi (pk_mul _ _) ?_
    refine lv_iload_n F.1.1 F.1.2.1 dX3_copy_16 rfl (lv_at hl 3 rfl) ?_
    refine lv_iadd F.1.1 F.1.2.1 dX3_copy_17 ?_
    refine kTi (nI_add _ _) ?_
    refine lv_aload_n F.1.1 F.1.2.1 dX3_copy_18 rfl (lv_at hl 0 rfl) ?_
    refine mGf (v := .ref (am 3)) F hw 5 (by decide) rfl q264 (fun _ h9 => h9) dX3_copy_19 ?_
    refine lv_bipush (v := nI 16) F.1.1 F.1.2.1 dX3_copy_22 (by decide) ?_
    refine lv_iload_n F.1.1 F.1.2.1 dX3_copy_24 rfl (lv_at hl 2 rfl) ?_
    refine lv_imul F.1.1 F.1.2.1 dX3_copy_25 ?_
    refine kTi (pk_mul _ _) ?_
    refine lv_iload_n F.1.1 F.1.2.1 dX3_copy_26 rfl (lv_at hl 3 rfl) ?_
    refine lv_iadd F.1.1 F.1.2.1 dX3_copy_27 ?_
    refine kTi (nI_add _ _) ?_
    refine mLd F hw (16 * a + k) rfl (by omega) dX3_copy_28 ?_
    refine mSd F hw (16 * t + k) rfl (by omega) dX3_copy_29 (fun H locs hw => ?_)
    refine lv_iinc (v := nI (k + 1)) (lv' := [(3, .int (nI (k + 1))), (0, .ref (am 0)), (1, .int (nI t)), (2, .int (nI a))]) F.1.1 F.1.2.1 dX3_copy_30 hl (k := 3) rfl (nI_1 _) (by decide) rfl (fun ls hl => ?_)
    refine lv_goto (tgt := 2) F.1.1 F.1.2.1 dX3_copy_33 (by decide) ?_
    exact ih (k + 1) (by omega)  _ _ _ (by rw [← flD_s]; rw [flD_rd _ _ _ _ _ (by omega)] at hw; exact hw) (lv_sub hl [1, 2, 3, 0] rfl)

theorem lp_madd (F : kF p m c cX3_add 5 s args RX3 G cJ cI) (t : Nat) (ht : t < 13) (a : Nat) (ha : a < 13) (b : Nat) (hb : b < 13)
    (kk : ∀  (H : Heap) (locs : List Loc) (ls : Array Slot), kW G A s H locs (mW cJ cI am D (fl U 16 (fun j => dL D a j + dL D b j)) X) → lv_has ls 5 [(0, .ref (am 0)), (1, .int (nI t)), (2, .int (nI a)), (3, .int (nI b)), (4, .int (nI 16))] → W p l e R s m args below meth c H locs cells slots Q (F0 m 50 ls [])) :
    ∀ (n k : Nat), n + k = 16 → ∀  (H : Heap) (locs : List Loc) (ls : Array Slot), kW G A s H locs (mW cJ cI am D (fl U k (fun j => dL D a j + dL D b j)) X) → lv_has ls 5 [(0, .ref (am 0)), (1, .int (nI t)), (2, .int (nI a)), (3, .int (nI b)), (4, .int (nI k))] → W p l e R s m args below meth c H locs cells slots Q (F0 m 3 ls []) := by
  intro n
  induction n with
  | zero =>
    intro k hk  H locs ls hw hl
    obtain rfl : k = 16 := by omega
    refine lv_iload F.1.1 F.1.2.1 dX3_add_3 (lv_at hl 4 rfl) ?_
    refine lv_bipush (v := nI 16) F.1.1 F.1.2.1 dX3_add_5 (by decide) ?_
    refine lv_icmp_ge (tgt := 50) F.1.1 F.1.2.1 dX3_add_7 (by decide) (fun _ => ?_) (fun c9 => absurd (nI_le (by omega) (by omega)) c9)
    exact kk  H locs ls hw (lv_sub hl [0, 1, 2, 3, 4] rfl)
  | succ n ih =>
    intro k hk  H locs ls hw hl
    refine lv_iload F.1.1 F.1.2.1 dX3_add_3 (lv_at hl 4 rfl) ?_
    refine lv_bipush (v := nI 16) F.1.1 F.1.2.1 dX3_add_5 (by decide) ?_
    refine lv_icmp_ge (tgt := 50) F.1.1 F.1.2.1 dX3_add_7 (by decide) (fun c9 => absurd c9 (nI_ge (by omega) (by omega))) (fun _ => ?_)
    refine lv_aload_n F.1.1 F.1.2.1 dX3_add_10 rfl (lv_at hl 0 rfl) ?_
    refine mGf (v := .ref (am 4)) F hw 6 (by decide) rfl q265 (fun _ h9 => h9) dX3_add_11 ?_
    refine lv_iload F.1.1 F.1.2.1 dX3_add_14 (lv_at hl 4 rfl) ?_
    refine lv_aload_n F.1.1 F.1.2.1 dX3_add_16 rfl (lv_at hl 0 rfl) ?_
    refine mGf (v := .ref (am 3)) F hw 5 (by decide) rfl q264 (fun _ h9 => h9) dX3_add_17 ?_
    refine lv_bipush (v := nI 16) F.1.1 F.1.2.1 dX3_add_20 (by decide) ?_
    refine lv_iload_n F.1.1 F.1.2.1 dX3_add_22 rfl (lv_at hl 2 rfl) ?_
    refine lv_imul F.1.1 F.1.2.1 dX3_add_23 ?_
    refine kTi (pk_mul _ _) ?_
    refine lv_iload F.1.1 F.1.2.1 dX3_add_24 (lv_at hl 4 rfl) ?_
    refine lv_iadd F.1.1 F.1.2.1 dX3_add_26 ?_
    refine kTi (nI_add _ _) ?_
    refine mLd F hw (16 * a + k) rfl (by omega) dX3_add_27 ?_
    refine lv_i2l F.1.1 F.1.2.1 dX3_add_28 rfl ?_
    refine lv_aload_n F.1.1 F.1.2.1 dX3_add_29 rfl (lv_at hl 0 rfl) ?_
    refine mGf (v := .ref (am 3)) F hw 5 (by decide) rfl q264 (fun _ h9 => h9) dX3_add_30 ?_
    refine lv_bipush (v := nI 16) F.1.1 F.1.2.1 dX3_add_33 (by decide) ?_
    refine lv_iload_n F.1.1 F.1.2.1 dX3_add_35 rfl (lv_at hl 3 rfl) ?_
    refine lv_imul F.1.1 F.1.2.1 dX3_add_36 ?_
    refine kTi (pk_mul _ _) ?_
    refine lv_iload F.1.1 F.1.2.1 dX3_add_37 (lv_at hl 4 rfl) ?_
    refine lv_iadd F.1.1 F.1.2.1 dX3_add_39 ?_
    refine kTi (nI_add _ _) ?_
    refine mLd F hw (16 * b + k) rfl (by omega) dX3_add_40 ?_
    refine lv_i2l F.1.1 F.1.2.1 dX3_add_41 rfl ?_
    refine lv_ladd F.1.1 F.1.2.1 dX3_add_42 ?_
    refine mSu F hw k rfl (by omega) dX3_add_43 (fun H locs hw => ?_)
    refine lv_iinc (v := nI (k + 1)) (lv' := [(4, .int (nI (k + 1))), (0, .ref (am 0)), (1, .int (nI t)), (2, .int (nI a)), (3, .int (nI b))]) F.1.1 F.1.2.1 dX3_add_44 hl (k := 4) rfl (nI_1 _) (by decide) rfl (fun ls hl => ?_)
    refine lv_goto (tgt := 3) F.1.1 F.1.2.1 dX3_add_47 (by decide) ?_
    exact ih (k + 1) (by omega)  _ _ _ (by rw [← fl_s]; exact hw) (lv_sub hl [1, 2, 3, 4, 0] rfl)

theorem lp_mmulS (F : kF p m c cX3_multiplySmall 5 s args RX3 G cJ cI) (t : Nat) (ht : t < 13) (a : Nat) (ha : a < 13) (v : Int32)
    (kk : ∀  (H : Heap) (locs : List Loc) (ls : Array Slot), kW G A s H locs (mW cJ cI am D (fl U 16 (fun j => dL D a j * v.toInt64)) X) → lv_has ls 5 [(0, .ref (am 0)), (1, .int (nI t)), (2, .int (nI a)), (3, .int v), (4, .int (nI 16))] → W p l e R s m args below meth c H locs cells slots Q (F0 m 39 ls [])) :
    ∀ (n k : Nat), n + k = 16 → ∀  (H : Heap) (locs : List Loc) (ls : Array Slot), kW G A s H locs (mW cJ cI am D (fl U k (fun j => dL D a j * v.toInt64)) X) → lv_has ls 5 [(0, .ref (am 0)), (1, .int (nI t)), (2, .int (nI a)), (3, .int v), (4, .int (nI k))] → W p l e R s m args below meth c H locs cells slots Q (F0 m 3 ls []) := by
  intro n
  induction n with
  | zero =>
    intro k hk  H locs ls hw hl
    obtain rfl : k = 16 := by omega
    refine lv_iload F.1.1 F.1.2.1 dX3_multiplySmall_3 (lv_at hl 4 rfl) ?_
    refine lv_bipush (v := nI 16) F.1.1 F.1.2.1 dX3_multiplySmall_5 (by decide) ?_
    refine lv_icmp_ge (tgt := 39) F.1.1 F.1.2.1 dX3_multiplySmall_7 (by decide) (fun _ => ?_) (fun c9 => absurd (nI_le (by omega) (by omega)) c9)
    exact kk  H locs ls hw (lv_sub hl [0, 1, 2, 3, 4] rfl)
  | succ n ih =>
    intro k hk  H locs ls hw hl
    refine lv_iload F.1.1 F.1.2.1 dX3_multiplySmall_3 (lv_at hl 4 rfl) ?_
    refine lv_bipush (v := nI 16) F.1.1 F.1.2.1 dX3_multiplySmall_5 (by decide) ?_
    refine lv_icmp_ge (tgt := 39) F.1.1 F.1.2.1 dX3_multiplySmall_7 (by decide) (fun c9 => absurd c9 (nI_ge (by omega) (by omega))) (fun _ => ?_)
    refine lv_aload_n F.1.1 F.1.2.1 dX3_multiplySmall_10 rfl (lv_at hl 0 rfl) ?_
    refine mGf (v := .ref (am 4)) F hw 6 (by decide) rfl q265 (fun _ h9 => h9) dX3_multiplySmall_11 ?_
    refine lv_iload F.1.1 F.1.2.1 dX3_multiplySmall_14 (lv_at hl 4 rfl) ?_
    refine lv_aload_n F.1.1 F.1.2.1 dX3_multiplySmall_16 rfl (lv_at hl 0 rfl) ?_
    refine mGf (v := .ref (am 3)) F hw 5 (by decide) rfl q264 (fun _ h9 => h9) dX3_multiplySmall_17 ?_
    refine lv_bipush (v := nI 16) F.1.1 F.1.2.1 dX3_multiplySmall_20 (by decide) ?_
    refine lv_iload_n F.1.1 F.1.2.1 dX3_multiplySmall_22 rfl (lv_at hl 2 rfl) ?_
    refine lv_imul F.1.1 F.1.2.1 dX3_multiplySmall_23 ?_
    refine kTi (pk_mul _ _) ?_
    refine lv_iload F.1.1 F.1.2.1 dX3_multiplySmall_24 (lv_at hl 4 rfl) ?_
    refine lv_iadd F.1.1 F.1.2.1 dX3_multiplySmall_26 ?_
    refine kTi (nI_add _ _) ?_
    refine mLd F hw (16 * a + k) rfl (by omega) dX3_multiplySmall_27 ?_
    refine lv_i2l F.1.1 F.1.2.1 dX3_multiplySmall_28 rfl ?_
    refine lv_iload_n F.1.1 F.1.2.1 dX3_multiplySmall_29 rfl (lv_at hl 3 rfl) ?_
    refine lv_i2l F.1.1 F.1.2.1 dX3_multiplySmall_30 rfl ?_
    refine lv_lmul F.1.1 F.1.2.1 dX3_multiplySmall_31 ?_
    refine mSu F hw k rfl (by omega) dX3_multiplySmall_32 (fun H locs hw => ?_)
    refine lv_iinc (v := nI (k + 1)) (lv' := [(4, .int (nI (k + 1))), (0, .ref (am 0)), (1, .int (nI t)), (2, .int (nI a)), (3, .int v)]) F.1.1 F.1.2.1 dX3_multiplySmall_33 hl (k := 4) rfl (nI_1 _) (by decide) rfl (fun ls hl => ?_)
    refine lv_goto (tgt := 3) F.1.1 F.1.2.1 dX3_multiplySmall_36 (by decide) ?_
    exact ih (k + 1) (by omega)  _ _ _ (by rw [← fl_s]; exact hw) (lv_sub hl [1, 2, 3, 4, 0] rfl)

theorem lp_msub (F : kF p m c cX3_subtract 9 s args RX3 G cJ cI) (hA : ∀ q : Nat, s.heap.size ≤ q → A q) (hcs : cells ≤ rX3_subtract.cells ∧ slots ≤ rX3_subtract.slots) (t : Nat) (ht : t < 13) (a : Nat) (ha : a < 13) (b : Nat) (hb : b < 13)
    (kk : ∀  (H : Heap) (locs : List Loc) (ls : Array Slot), kW G A s H locs (mW cJ cI am D (fl U 16 (sdF D a b)) X) → lv_has ls 9 [(0, .ref (am 0)), (1, .int (nI t)), (2, .int (nI a)), (3, .int (nI b)), (4, .long (sbF D a b 16)), (6, .int (nI 16))] → W p l e rX3_subtract s m args below meth c H locs cells slots Q (F0 m 78 ls [])) :
    ∀ (n k : Nat), n + k = 16 → ∀  (H : Heap) (locs : List Loc) (ls : Array Slot), kW G A s H locs (mW cJ cI am D (fl U k (sdF D a b)) X) → lv_has ls 9 [(0, .ref (am 0)), (1, .int (nI t)), (2, .int (nI a)), (3, .int (nI b)), (4, .long (sbF D a b k)), (6, .int (nI k))] → W p l e rX3_subtract s m args below meth c H locs cells slots Q (F0 m 6 ls []) := by
  intro n
  induction n with
  | zero =>
    intro k hk  H locs ls hw hl
    obtain rfl : k = 16 := by omega
    refine lv_iload F.1.1 F.1.2.1 dX3_subtract_6 (lv_at hl 5 rfl) ?_
    refine lv_bipush (v := nI 16) F.1.1 F.1.2.1 dX3_subtract_8 (by decide) ?_
    refine lv_icmp_ge (tgt := 78) F.1.1 F.1.2.1 dX3_subtract_10 (by decide) (fun _ => ?_) (fun c9 => absurd (nI_le (by omega) (by omega)) c9)
    exact kk  H locs ls hw (lv_sub hl [0, 1, 2, 3, 4, 5] rfl)
  | succ n ih =>
    intro k hk  H locs ls hw hl
    refine lv_iload F.1.1 F.1.2.1 dX3_subtract_6 (lv_at hl 5 rfl) ?_
    refine lv_bipush (v := nI 16) F.1.1 F.1.2.1 dX3_subtract_8 (by decide) ?_
    refine lv_icmp_ge (tgt := 78) F.1.1 F.1.2.1 dX3_subtract_10 (by decide) (fun c9 => absurd c9 (nI_ge (by omega) (by omega))) (fun _ => ?_)
    refine lv_aload_n F.1.1 F.1.2.1 dX3_subtract_13 rfl (lv_at hl 0 rfl) ?_
    refine mGf (v := .ref (am 3)) F hw 5 (by decide) rfl q264 (fun _ h9 => h9) dX3_subtract_14 ?_
    refine lv_bipush (v := nI 16) F.1.1 F.1.2.1 dX3_subtract_17 (by decide) ?_
    refine lv_iload_n F.1.1 F.1.2.1 dX3_subtract_19 rfl (lv_at hl 2 rfl) ?_
    refine lv_imul F.1.1 F.1.2.1 dX3_subtract_20 ?_
    refine kTi (pk_mul _ _) ?_
    refine lv_iload F.1.1 F.1.2.1 dX3_subtract_21 (lv_at hl 5 rfl) ?_
    refine lv_iadd F.1.1 F.1.2.1 dX3_subtract_23 ?_
    refine kTi (nI_add _ _) ?_
    refine mLd F hw (16 * a + k) rfl (by omega) dX3_subtract_24 ?_
    refine lv_i2l F.1.1 F.1.2.1 dX3_subtract_25 rfl ?_
    refine lv_iload F.1.1 F.1.2.1 dX3_subtract_26 (lv_at hl 5 rfl) ?_
    refine kCSi (As := [.int (nI k)]) F hw hA (met_X3_ofP k (by omega)) (va_cwS 1 F.1.2.2.2.2 (lw_S q313 q314 q24 q315) rfl rfl rfl (by decide +kernel) ⟨Nat.le_of_ble_eq_true rfl, Nat.le_of_ble_eq_true rfl⟩) rfl hl.1 rfl (Nat.le_of_ble_eq_true rfl) dX3_subtract_28 hcs (fun r28 u28 H locs hp28 hw => ?_)
    subst hp28
    refine lv_i2l F.1.1 F.1.2.1 dX3_subtract_31 rfl ?_
    refine lv_ladd F.1.1 F.1.2.1 dX3_subtract_32 ?_
    refine lv_aload_n F.1.1 F.1.2.1 dX3_subtract_33 rfl (lv_at hl 0 rfl) ?_
    refine mGf (v := .ref (am 3)) F hw 5 (by decide) rfl q264 (fun _ h9 => h9) dX3_subtract_34 ?_
    refine lv_bipush (v := nI 16) F.1.1 F.1.2.1 dX3_subtract_37 (by decide) ?_
    refine lv_iload_n F.1.1 F.1.2.1 dX3_subtract_39 rfl (lv_at hl 3 rfl) ?_
    refine lv_imul F.1.1 F.1.2.1 dX3_subtract_40 ?_
    refine kTi (pk_mul _ _) ?_
    refine lv_iload F.1.1 F.1.2.1 dX3_subtract_41 (lv_at hl 5 rfl) ?_
    refine lv_iadd F.1.1 F.1.2.1 dX3_subtract_43 ?_
    refine kTi (nI_add _ _) ?_
    refine mLd F hw (16 * b + k) rfl (by omega) dX3_subtract_44 ?_
    refine lv_i2l F.1.1 F.1.2.1 dX3_subtract_45 rfl ?_
    refine lv_lsub F.1.1 F.1.2.1 dX3_subtract_46 ?_
    refine lv_lload F.1.1 F.1.2.1 dX3_subtract_47 (lv_at hl 4 rfl) ?_
    refine lv_ladd F.1.1 F.1.2.1 dX3_subtract_49 ?_
    refine lv_topl (fun t1 et1 => ?_)
    refine lv_lstore (lv' := [(7, .long t1), (0, .ref (am 0)), (1, .int (nI t)), (2, .int (nI a)), (3, .int (nI b)), (4, .long (sbF D a b k)), (6, .int (nI k))]) F.1.1 F.1.2.1 dX3_subtract_50 hl (by decide) rfl (fun ls hl => ?_)
    refine lv_aload_n F.1.1 F.1.2.1 dX3_subtract_52 rfl (lv_at hl 1 rfl) ?_
    refine mGf (v := .ref (am 4)) F hw 6 (by decide) rfl q265 (fun _ h9 => h9) dX3_subtract_53 ?_
    refine lv_iload F.1.1 F.1.2.1 dX3_subtract_56 (lv_at hl 6 rfl) ?_
    refine lv_lload F.1.1 F.1.2.1 dX3_subtract_58 (lv_at hl 0 rfl) ?_
    refine lv_ldc2 (v := 65535) F.1.1 F.1.2.1 F.1.2.2.2.1 (F.1.2.2.2.2 _ q301) dX3_subtract_60 ?_
    refine lv_land F.1.1 F.1.2.1 dX3_subtract_63 ?_
    refine mSu F hw k rfl (by omega) dX3_subtract_64 (fun H locs hw => ?_)
    refine lv_lload F.1.1 F.1.2.1 dX3_subtract_65 (lv_at hl 0 rfl) ?_
    refine lv_bipush (v := nI 16) F.1.1 F.1.2.1 dX3_subtract_67 (by decide) ?_
    refine lv_lshr F.1.1 F.1.2.1 dX3_subtract_69 (k_lshr16 _) ?_
    refine lv_topl (fun t2 et2 => ?_)
    refine lv_lstore (lv' := [(4, .long t2), (7, .long t1), (0, .ref (am 0)), (1, .int (nI t)), (2, .int (nI a)), (3, .int (nI b)), (6, .int (nI k))]) F.1.1 F.1.2.1 dX3_subtract_70 hl (by decide) rfl (fun ls hl => ?_)
    refine lv_iinc (v := nI (k + 1)) (lv' := [(6, .int (nI (k + 1))), (4, .long t2), (7, .long t1), (0, .ref (am 0)), (1, .int (nI t)), (2, .int (nI a)), (3, .int (nI b))]) F.1.1 F.1.2.1 dX3_subtract_72 hl (k := 6) rfl (nI_1 _) (by decide) rfl (fun ls hl => ?_)
    refine lv_goto (tgt := 6) F.1.1 F.1.2.1 dX3_subtract_75 (by decide) ?_
    subst et2
    subst et1
    exact ih (k + 1) (by omega)  _ _ _ (by rw [← fl_s]; exact hw) (lv_sub hl [3, 4, 5, 6, 1, 0] rfl)

theorem lp_mm0 (F : kF p m c cX3_multiply 6 s args RX3 G cJ cI) (t : Nat) (ht : t < 13) (a : Nat) (ha : a < 13) (b : Nat) (hb : b < 13)
    (kk : ∀  (H : Heap) (locs : List Loc) (ls : Array Slot), kW G A s H locs (mW cJ cI am D (fl U 32 (fun _ => 0)) X) → lv_has ls 6 [(0, .ref (am 0)), (1, .int (nI t)), (2, .int (nI a)), (3, .int (nI b)), (4, .int (nI 32))] → W p l e R s m args below meth c H locs cells slots Q (F0 m 24 ls [])) :
    ∀ (n k : Nat), n + k = 32 → ∀  (H : Heap) (locs : List Loc) (ls : Array Slot), kW G A s H locs (mW cJ cI am D (fl U k (fun _ => 0)) X) → lv_has ls 6 [(0, .ref (am 0)), (1, .int (nI t)), (2, .int (nI a)), (3, .int (nI b)), (4, .int (nI k))] → W p l e R s m args below meth c H locs cells slots Q (F0 m 3 ls []) := by
  intro n
  induction n with
  | zero =>
    intro k hk  H locs ls hw hl
    obtain rfl : k = 32 := by omega
    refine lv_iload F.1.1 F.1.2.1 dX3_multiply_3 (lv_at hl 4 rfl) ?_
    refine lv_bipush (v := nI 32) F.1.1 F.1.2.1 dX3_multiply_5 (by decide) ?_
    refine lv_icmp_ge (tgt := 24) F.1.1 F.1.2.1 dX3_multiply_7 (by decide) (fun _ => ?_) (fun c9 => absurd (nI_le (by omega) (by omega)) c9)
    exact kk  H locs ls hw (lv_sub hl [0, 1, 2, 3, 4] rfl)
  | succ n ih =>
    intro k hk  H locs ls hw hl
    refine lv_iload F.1.1 F.1.2.1 dX3_multiply_3 (lv_at hl 4 rfl) ?_
    refine lv_bipush (v := nI 32) F.1.1 F.1.2.1 dX3_multiply_5 (by decide) ?_
    refine lv_icmp_ge (tgt := 24) F.1.1 F.1.2.1 dX3_multiply_7 (by decide) (fun c9 => absurd c9 (nI_ge (by omega) (by omega))) (fun _ => ?_)
    refine lv_aload_n F.1.1 F.1.2.1 dX3_multiply_10 rfl (lv_at hl 0 rfl) ?_
    refine mGf (v := .ref (am 4)) F hw 6 (by decide) rfl q265 (fun _ h9 => h9) dX3_multiply_11 ?_
    refine lv_iload F.1.1 F.1.2.1 dX3_multiply_14 (lv_at hl 4 rfl) ?_
    refine lv_lconst (v := 0) F.1.1 F.1.2.1 dX3_multiply_16 (by decide) ?_
    refine mSu F hw k rfl (by omega) dX3_multiply_17 (fun H locs hw => ?_)
    refine lv_iinc (v := nI (k + 1)) (lv' := [(4, .int (nI (k + 1))), (0, .ref (am 0)), (1, .int (nI t)), (2, .int (nI a)), (3, .int (nI b))]) F.1.1 F.1.2.1 dX3_multiply_18 hl (k := 4) rfl (nI_1 _) (by decide) rfl (fun ls hl => ?_)
    refine lv_goto (tgt := 3) F.1.1 F.1.2.1 dX3_multiply_21 (by decide) ?_
    exact ih (k + 1) (by omega)  _ _ _ (by rw [← fl_s]; exact hw) (lv_sub hl [1, 2, 3, 4, 0] rfl)

theorem lp_mm1 (F : kF p m c cX3_multiply 6 s args RX3 G cJ cI) (t : Nat) (ht : t < 13) (a : Nat) (ha : a < 13) (b : Nat) (hb : b < 13) (k : Nat) (hk16 : k < 16) (r0 : Nat → Int64)
    (kk : ∀ (U : Nat → Int64) (H : Heap) (locs : List Loc) (ls : Array Slot), agR 32 U (it (mulSt (dL D a) (dL D b) k) 16 r0) → kW G A s H locs (mW cJ cI am D U X) → lv_has ls 6 [(0, .ref (am 0)), (1, .int (nI t)), (2, .int (nI a)), (3, .int (nI b)), (4, .int (nI k)), (5, .int (nI 16))] → W p l e R s m args below meth c H locs cells slots Q (F0 m 98 ls [])) :
    ∀ (n z : Nat), n + z = 16 → ∀ (U : Nat → Int64) (H : Heap) (locs : List Loc) (ls : Array Slot), agR 32 U (it (mulSt (dL D a) (dL D b) k) z r0) → kW G A s H locs (mW cJ cI am D U X) → lv_has ls 6 [(0, .ref (am 0)), (1, .int (nI t)), (2, .int (nI a)), (3, .int (nI b)), (4, .int (nI k)), (5, .int (nI z))] → W p l e R s m args below meth c H locs cells slots Q (F0 m 37 ls []) := by
  intro n
  induction n with
  | zero =>
    intro z hk U H locs ls hex hw hl
    obtain rfl : z = 16 := by omega
    refine lv_iload F.1.1 F.1.2.1 dX3_multiply_37 (lv_at hl 5 rfl) ?_
    refine lv_bipush (v := nI 16) F.1.1 F.1.2.1 dX3_multiply_39 (by decide) ?_
    refine lv_icmp_ge (tgt := 98) F.1.1 F.1.2.1 dX3_multiply_41 (by decide) (fun _ => ?_) (fun c9 => absurd (nI_le (by omega) (by omega)) c9)
    exact kk _ H locs ls hex hw (lv_sub hl [0, 1, 2, 3, 4, 5] rfl)
  | succ n ih =>
    intro z hk U H locs ls hex hw hl
    refine lv_iload F.1.1 F.1.2.1 dX3_multiply_37 (lv_at hl 5 rfl) ?_
    refine lv_bipush (v := nI 16) F.1.1 F.1.2.1 dX3_multiply_39 (by decide) ?_
    refine lv_icmp_ge (tgt := 98) F.1.1 F.1.2.1 dX3_multiply_41 (by decide) (fun c9 => absurd c9 (nI_ge (by omega) (by omega))) (fun _ => ?_)
    refine lv_aload_n F.1.1 F.1.2.1 dX3_multiply_44 rfl (lv_at hl 0 rfl) ?_
    refine mGf (v := .ref (am 4)) F hw 6 (by decide) rfl q265 (fun _ h9 => h9) dX3_multiply_45 ?_
    refine lv_iload F.1.1 F.1.2.1 dX3_multiply_48 (lv_at hl 4 rfl) ?_
    refine lv_iload F.1.1 F.1.2.1 dX3_multiply_50 (lv_at hl 5 rfl) ?_
    refine lv_iadd F.1.1 F.1.2.1 dX3_multiply_52 ?_
    refine kTi (nI_add _ _) ?_
    refine lv_aload_n F.1.1 F.1.2.1 dX3_multiply_53 rfl (lv_at hl 0 rfl) ?_
    refine mGf (v := .ref (am 4)) F hw 6 (by decide) rfl q265 (fun _ h9 => h9) dX3_multiply_54 ?_
    refine lv_iload F.1.1 F.1.2.1 dX3_multiply_57 (lv_at hl 4 rfl) ?_
    refine lv_iload F.1.1 F.1.2.1 dX3_multiply_59 (lv_at hl 5 rfl) ?_
    refine lv_iadd F.1.1 F.1.2.1 dX3_multiply_61 ?_
    refine kTi (nI_add _ _) ?_
    refine mLu F hw (k + z) rfl (by omega) dX3_multiply_62 ?_
    refine lv_aload_n F.1.1 F.1.2.1 dX3_multiply_63 rfl (lv_at hl 0 rfl) ?_
    refine mGf (v := .ref (am 3)) F hw 5 (by decide) rfl q264 (fun _ h9 => h9) dX3_multiply_64 ?_
    refine lv_bipush (v := nI 16) F.1.1 F.1.2.1 dX3_multiply_67 (by decide) ?_
    refine lv_iload_n F.1.1 F.1.2.1 dX3_multiply_69 rfl (lv_at hl 2 rfl) ?_
    refine lv_imul F.1.1 F.1.2.1 dX3_multiply_70 ?_
    refine kTi (pk_mul _ _) ?_
    refine lv_iload F.1.1 F.1.2.1 dX3_multiply_71 (lv_at hl 4 rfl) ?_
    refine lv_iadd F.1.1 F.1.2.1 dX3_multiply_73 ?_
    refine kTi (nI_add _ _) ?_
    refine mLd F hw (16 * a + k) rfl (by omega) dX3_multiply_74 ?_
    refine lv_i2l F.1.1 F.1.2.1 dX3_multiply_75 rfl ?_
    refine lv_aload_n F.1.1 F.1.2.1 dX3_multiply_76 rfl (lv_at hl 0 rfl) ?_
    refine mGf (v := .ref (am 3)) F hw 5 (by decide) rfl q264 (fun _ h9 => h9) dX3_multiply_77 ?_
    refine lv_bipush (v := nI 16) F.1.1 F.1.2.1 dX3_multiply_80 (by decide) ?_
    refine lv_iload_n F.1.1 F.1.2.1 dX3_multiply_82 rfl (lv_at hl 3 rfl) ?_
    refine lv_imul F.1.1 F.1.2.1 dX3_multiply_83 ?_
    refine kTi (pk_mul _ _) ?_
    refine lv_iload F.1.1 F.1.2.1 dX3_multiply_84 (lv_at hl 5 rfl) ?_
    refine lv_iadd F.1.1 F.1.2.1 dX3_multiply_86 ?_
    refine kTi (nI_add _ _) ?_
    refine mLd F hw (16 * b + z) rfl (by omega) dX3_multiply_87 ?_
    refine lv_i2l F.1.1 F.1.2.1 dX3_multiply_88 rfl ?_
    refine lv_lmul F.1.1 F.1.2.1 dX3_multiply_89 ?_
    refine lv_ladd F.1.1 F.1.2.1 dX3_multiply_90 ?_
    refine mSu F hw (k + z) rfl (by omega) dX3_multiply_91 (fun H locs hw => ?_)
    refine lv_iinc (v := nI (z + 1)) (lv' := [(5, .int (nI (z + 1))), (0, .ref (am 0)), (1, .int (nI t)), (2, .int (nI a)), (3, .int (nI b)), (4, .int (nI k))]) F.1.1 F.1.2.1 dX3_multiply_92 hl (k := 5) rfl (nI_1 _) (by decide) rfl (fun ls hl => ?_)
    refine lv_goto (tgt := 37) F.1.1 F.1.2.1 dX3_multiply_95 (by decide) ?_
    exact ih (z + 1) (by omega) _ _ _ _ (by rw [it_s]; exact ag_upd hex (by rw [hex _ (by omega)]; rfl)) hw (lv_sub hl [1, 2, 3, 4, 5, 0] rfl)

theorem lp_mm2 (F : kF p m c cX3_multiply 6 s args RX3 G cJ cI) (t : Nat) (ht : t < 13) (a : Nat) (ha : a < 13) (b : Nat) (hb : b < 13)
    (kk : ∀ (U : Nat → Int64) (H : Heap) (locs : List Loc) (ls : Array Slot), agR 32 U (it (mulO (dL D a) (dL D b)) 16 (fun _ => 0)) → kW G A s H locs (mW cJ cI am D U X) → lv_has ls 6 [(0, .ref (am 0)), (1, .int (nI t)), (2, .int (nI a)), (3, .int (nI b)), (4, .int (nI 16))] → W p l e R s m args below meth c H locs cells slots Q (F0 m 104 ls [])) :
    ∀ (n k : Nat), n + k = 16 → ∀ (U : Nat → Int64) (H : Heap) (locs : List Loc) (ls : Array Slot), agR 32 U (it (mulO (dL D a) (dL D b)) k (fun _ => 0)) → kW G A s H locs (mW cJ cI am D U X) → lv_has ls 6 [(0, .ref (am 0)), (1, .int (nI t)), (2, .int (nI a)), (3, .int (nI b)), (4, .int (nI k))] → W p l e R s m args below meth c H locs cells slots Q (F0 m 27 ls []) := by
  intro n
  induction n with
  | zero =>
    intro k hk U H locs ls hex hw hl
    obtain rfl : k = 16 := by omega
    refine lv_iload F.1.1 F.1.2.1 dX3_multiply_27 (lv_at hl 4 rfl) ?_
    refine lv_bipush (v := nI 16) F.1.1 F.1.2.1 dX3_multiply_29 (by decide) ?_
    refine lv_icmp_ge (tgt := 104) F.1.1 F.1.2.1 dX3_multiply_31 (by decide) (fun _ => ?_) (fun c9 => absurd (nI_le (by omega) (by omega)) c9)
    exact kk _ H locs ls hex hw (lv_sub hl [0, 1, 2, 3, 4] rfl)
  | succ n ih =>
    intro k hk U H locs ls hex hw hl
    refine lv_iload F.1.1 F.1.2.1 dX3_multiply_27 (lv_at hl 4 rfl) ?_
    refine lv_bipush (v := nI 16) F.1.1 F.1.2.1 dX3_multiply_29 (by decide) ?_
    refine lv_icmp_ge (tgt := 104) F.1.1 F.1.2.1 dX3_multiply_31 (by decide) (fun c9 => absurd c9 (nI_ge (by omega) (by omega))) (fun _ => ?_)
    refine lv_iconst (v := nI 0) F.1.1 F.1.2.1 dX3_multiply_34 (by decide) ?_
    refine lv_istore (lv' := [(5, .int (nI 0)), (0, .ref (am 0)), (1, .int (nI t)), (2, .int (nI a)), (3, .int (nI b)), (4, .int (nI k))]) F.1.1 F.1.2.1 dX3_multiply_35 hl (by decide) rfl (fun ls hl => ?_)
    refine lp_mm1 F t ht a ha b hb k (by omega) _ (fun U H locs ls hex hw hl => ?_) 16 0 rfl _ _ _ _ hex hw (lv_sub hl [1, 2, 3, 4, 5, 0] rfl)
    refine lv_iinc (v := nI (k + 1)) (lv' := [(4, .int (nI (k + 1))), (0, .ref (am 0)), (1, .int (nI t)), (2, .int (nI a)), (3, .int (nI b)), (5, .int (nI 16))]) F.1.1 F.1.2.1 dX3_multiply_98 hl (k := 4) rfl (nI_1 _) (by decide) rfl (fun ls hl => ?_)
    refine lv_goto (tgt := 27) F.1.1 F.1.2.1 dX3_multiply_101 (by decide) ?_
    exact ih (k + 1) (by omega) _ _ _ _ hex hw (lv_sub hl [1, 2, 3, 4, 0] rfl)

theorem lp_mm3 (F : kF p m c cX3_multiply 6 s args RX3 G cJ cI) (t : Nat) (ht : t < 13) (a : Nat) (ha : a < 13) (b : Nat) (hb : b < 13) (r0 : Nat → Int64)
    (kk : ∀ (U : Nat → Int64) (H : Heap) (locs : List Loc) (ls : Array Slot), agR 32 U (it foSt 16 r0) → kW G A s H locs (mW cJ cI am D U X) → lv_has ls 6 [(0, .ref (am 0)), (1, .int (nI t)), (2, .int (nI a)), (3, .int (nI b)), (4, .int (nI 16))] → W p l e R s m args below meth c H locs cells slots Q (F0 m 149 ls [])) :
    ∀ (n k : Nat), n + k = 16 → ∀ (U : Nat → Int64) (H : Heap) (locs : List Loc) (ls : Array Slot), agR 32 U (it foSt k r0) → kW G A s H locs (mW cJ cI am D U X) → lv_has ls 6 [(0, .ref (am 0)), (1, .int (nI t)), (2, .int (nI a)), (3, .int (nI b)), (4, .int (nI k))] → W p l e R s m args below meth c H locs cells slots Q (F0 m 107 ls []) := by
  intro n
  induction n with
  | zero =>
    intro k hk U H locs ls hex hw hl
    obtain rfl : k = 16 := by omega
    refine lv_iload F.1.1 F.1.2.1 dX3_multiply_107 (lv_at hl 4 rfl) ?_
    refine lv_bipush (v := nI 16) F.1.1 F.1.2.1 dX3_multiply_109 (by decide) ?_
    refine lv_icmp_ge (tgt := 149) F.1.1 F.1.2.1 dX3_multiply_111 (by decide) (fun _ => ?_) (fun c9 => absurd (nI_le (by omega) (by omega)) c9)
    exact kk _ H locs ls hex hw (lv_sub hl [0, 1, 2, 3, 4] rfl)
  | succ n ih =>
    intro k hk U H locs ls hex hw hl
    refine lv_iload F.1.1 F.1.2.1 dX3_multiply_107 (lv_at hl 4 rfl) ?_
    refine lv_bipush (v := nI 16) F.1.1 F.1.2.1 dX3_multiply_109 (by decide) ?_
    refine lv_icmp_ge (tgt := 149) F.1.1 F.1.2.1 dX3_multiply_111 (by decide) (fun c9 => absurd c9 (nI_ge (by omega) (by omega))) (fun _ => ?_)
    refine lv_aload_n F.1.1 F.1.2.1 dX3_multiply_114 rfl (lv_at hl 0 rfl) ?_
    refine mGf (v := .ref (am 4)) F hw 6 (by decide) rfl q265 (fun _ h9 => h9) dX3_multiply_115 ?_
    refine lv_iload F.1.1 F.1.2.1 dX3_multiply_118 (lv_at hl 4 rfl) ?_
    refine lv_aload_n F.1.1 F.1.2.1 dX3_multiply_120 rfl (lv_at hl 0 rfl) ?_
    refine mGf (v := .ref (am 4)) F hw 6 (by decide) rfl q265 (fun _ h9 => h9) dX3_multiply_121 ?_
    refine lv_iload F.1.1 F.1.2.1 dX3_multiply_124 (lv_at hl 4 rfl) ?_
    refine mLu F hw k rfl (by omega) dX3_multiply_126 ?_
    refine lv_ldc2 (v := 38) F.1.1 F.1.2.1 F.1.2.2.2.1 (F.1.2.2.2.2 _ q359) dX3_multiply_127 ?_
    refine lv_aload_n F.1.1 F.1.2.1 dX3_multiply_130 rfl (lv_at hl 0 rfl) ?_
    refine mGf (v := .ref (am 4)) F hw 6 (by decide) rfl q265 (fun _ h9 => h9) dX3_multiply_131 ?_
    refine lv_bipush (v := nI 16) F.1.1 F.1.2.1 dX3_multiply_134 (by decide) ?_
    refine lv_iload F.1.1 F.1.2.1 dX3_multiply_136 (lv_at hl 4 rfl) ?_
    refine lv_iadd F.1.1 F.1.2.1 dX3_multiply_138 ?_
    refine kTi (nI_add _ _) ?_
    refine mLu F hw (16 + k) rfl (by omega) dX3_multiply_139 ?_
    refine lv_lmul F.1.1 F.1.2.1 dX3_multiply_140 ?_
    refine lv_ladd F.1.1 F.1.2.1 dX3_multiply_141 ?_
    refine mSu F hw k rfl (by omega) dX3_multiply_142 (fun H locs hw => ?_)
    refine lv_iinc (v := nI (k + 1)) (lv' := [(4, .int (nI (k + 1))), (0, .ref (am 0)), (1, .int (nI t)), (2, .int (nI a)), (3, .int (nI b))]) F.1.1 F.1.2.1 dX3_multiply_143 hl (k := 4) rfl (nI_1 _) (by decide) rfl (fun ls hl => ?_)
    refine lv_goto (tgt := 107) F.1.1 F.1.2.1 dX3_multiply_146 (by decide) ?_
    exact ih (k + 1) (by omega) _ _ _ _ (by rw [it_s]; exact ag_upd hex (by rw [hex _ (by omega), hex _ (by omega), Nat.add_comm 16 k])) hw (lv_sub hl [1, 2, 3, 4, 0] rfl)

theorem lp_makeU (F : kF p m c cX3_makeU 2 s args RX3 G cJ cI) 
    (kk : ∀  (H : Heap) (locs : List Loc) (ls : Array Slot), kW G A s H locs (mW cJ cI am D (fl U 16 (tkL X.2.1)) X) → lv_has ls 2 [(0, .ref (am 0)), (1, .int (nI 16))] → W p l e R s m args below meth c H locs cells slots Q (F0 m 39 ls [])) :
    ∀ (n k : Nat), n + k = 16 → ∀  (H : Heap) (locs : List Loc) (ls : Array Slot), kW G A s H locs (mW cJ cI am D (fl U k (tkL X.2.1)) X) → lv_has ls 2 [(0, .ref (am 0)), (1, .int (nI k))] → W p l e R s m args below meth c H locs cells slots Q (F0 m 2 ls []) := by
  intro n
  induction n with
  | zero =>
    intro k hk  H locs ls hw hl
    obtain rfl : k = 16 := by omega
    refine lv_iload_n F.1.1 F.1.2.1 dX3_makeU_2 rfl (lv_at hl 1 rfl) ?_
    refine lv_bipush (v := nI 16) F.1.1 F.1.2.1 dX3_makeU_3 (by decide) ?_
    refine lv_icmp_ge (tgt := 39) F.1.1 F.1.2.1 dX3_makeU_5 (by decide) (fun _ => ?_) (fun c9 => absurd (nI_le (by omega) (by omega)) c9)
    exact kk  H locs ls hw (lv_sub hl [0, 1] rfl)
  | succ n ih =>
    intro k hk  H locs ls hw hl
    refine lv_iload_n F.1.1 F.1.2.1 dX3_makeU_2 rfl (lv_at hl 1 rfl) ?_
    refine lv_bipush (v := nI 16) F.1.1 F.1.2.1 dX3_makeU_3 (by decide) ?_
    refine lv_icmp_ge (tgt := 39) F.1.1 F.1.2.1 dX3_makeU_5 (by decide) (fun c9 => absurd c9 (nI_ge (by omega) (by omega))) (fun _ => ?_)
    refine lv_aload_n F.1.1 F.1.2.1 dX3_makeU_8 rfl (lv_at hl 0 rfl) ?_
    refine mGf (v := .ref (am 4)) F hw 6 (by decide) rfl q265 (fun _ h9 => h9) dX3_makeU_9 ?_
    refine lv_iload_n F.1.1 F.1.2.1 dX3_makeU_12 rfl (lv_at hl 1 rfl) ?_
    refine lv_aload_n F.1.1 F.1.2.1 dX3_makeU_13 rfl (lv_at hl 0 rfl) ?_
    refine mGf (v := .ref (am 2)) F hw 4 (by decide) rfl q263 (fun _ h9 => h9) dX3_makeU_14 ?_
    refine lv_iload_n F.1.1 F.1.2.1 dX3_makeU_17 rfl (lv_at hl 1 rfl) ?_
    refine lv_iconst (v := nI 4) F.1.1 F.1.2.1 dX3_makeU_18 (by decide) ?_
    refine lv_idiv F.1.1 F.1.2.1 dX3_makeU_19 (by decide) ?_
    refine kTi (pk_div (by omega) (by decide) (by decide)) ?_
    refine mLt F hw (k / 4) rfl (by omega) dX3_makeU_20 ?_
    refine lv_bipush (v := nI 16) F.1.1 F.1.2.1 dX3_makeU_21 (by decide) ?_
    refine lv_iload_n F.1.1 F.1.2.1 dX3_makeU_23 rfl (lv_at hl 1 rfl) ?_
    refine lv_iconst (v := nI 4) F.1.1 F.1.2.1 dX3_makeU_24 (by decide) ?_
    refine lv_irem F.1.1 F.1.2.1 dX3_makeU_25 (by decide) ?_
    refine kTi (pk_rem (by omega) (by decide) (by decide)) ?_
    refine lv_imul F.1.1 F.1.2.1 dX3_makeU_26 ?_
    refine kTi (pk_mul _ _) ?_
    refine lv_lushr F.1.1 F.1.2.1 dX3_makeU_27 rfl ?_
    refine lv_ldc2 (v := 65535) F.1.1 F.1.2.1 F.1.2.2.2.1 (F.1.2.2.2.2 _ q301) dX3_makeU_28 ?_
    refine lv_land F.1.1 F.1.2.1 dX3_makeU_31 ?_
    refine mSu F hw k rfl (by omega) dX3_makeU_32 (fun H locs hw => ?_)
    refine lv_iinc (v := nI (k + 1)) (lv' := [(1, .int (nI (k + 1))), (0, .ref (am 0))]) F.1.1 F.1.2.1 dX3_makeU_33 hl (k := 1) rfl (nI_1 _) (by decide) rfl (fun ls hl => ?_)
    refine lv_goto (tgt := 2) F.1.1 F.1.2.1 dX3_makeU_36 (by decide) ?_
    exact ih (k + 1) (by omega)  _ _ _ (by rw [← fl_s]; exact hw) (lv_sub hl [1, 0] rfl)

theorem lp_mzero (F : kF p m c cX3_isZero 4 s args RX3 G cJ cI) (a : Nat) (ha : a < 13)
    (kk : ∀  (H : Heap) (locs : List Loc) (ls : Array Slot), kW G A s H locs (mW cJ cI am D U X) → lv_has ls 4 [(0, .ref (am 0)), (1, .int (nI a)), (2, .int (zrF D a 16)), (3, .int (nI 16))] → W p l e R s m args below meth c H locs cells slots Q (F0 m 40 ls [])) :
    ∀ (n k : Nat), n + k = 16 → ∀  (H : Heap) (locs : List Loc) (ls : Array Slot), kW G A s H locs (mW cJ cI am D U X) → lv_has ls 4 [(0, .ref (am 0)), (1, .int (nI a)), (2, .int (zrF D a k)), (3, .int (nI k))] → W p l e R s m args below meth c H locs cells slots Q (F0 m 4 ls []) := by
  intro n
  induction n with
  | zero =>
    intro k hk  H locs ls hw hl
    obtain rfl : k = 16 := by omega
    refine lv_iload_n F.1.1 F.1.2.1 dX3_isZero_4 rfl (lv_at hl 3 rfl) ?_
    refine lv_bipush (v := nI 16) F.1.1 F.1.2.1 dX3_isZero_5 (by decide) ?_
    refine lv_icmp_ge (tgt := 40) F.1.1 F.1.2.1 dX3_isZero_7 (by decide) (fun _ => ?_) (fun c9 => absurd (nI_le (by omega) (by omega)) c9)
    exact kk  H locs ls hw (lv_sub hl [0, 1, 2, 3] rfl)
  | succ n ih =>
    intro k hk  H locs ls hw hl
    refine lv_iload_n F.1.1 F.1.2.1 dX3_isZero_4 rfl (lv_at hl 3 rfl) ?_
    refine lv_bipush (v := nI 16) F.1.1 F.1.2.1 dX3_isZero_5 (by decide) ?_
    refine lv_icmp_ge (tgt := 40) F.1.1 F.1.2.1 dX3_isZero_7 (by decide) (fun c9 => absurd c9 (nI_ge (by omega) (by omega))) (fun _ => ?_)
    have J33 : W p l e R s m args below meth c H locs cells slots Q (F0 m 33 ls [.int (zrF D a (k + 1))]) := by
      refine lv_istore_n (lv' := [(2, .int (zrF D a (k + 1))), (0, .ref (am 0)), (1, .int (nI a)), (3, .int (nI k))]) F.1.1 F.1.2.1 dX3_isZero_33 rfl hl (by decide) rfl (fun ls hl => ?_)
      refine lv_iinc (v := nI (k + 1)) (lv' := [(3, .int (nI (k + 1))), (2, .int (zrF D a (k + 1))), (0, .ref (am 0)), (1, .int (nI a))]) F.1.1 F.1.2.1 dX3_isZero_34 hl (k := 3) rfl (nI_1 _) (by decide) rfl (fun ls hl => ?_)
      refine lv_goto (tgt := 4) F.1.1 F.1.2.1 dX3_isZero_37 (by decide) ?_
      exact ih (k + 1) (by omega)  _ _ _ hw (lv_sub hl [2, 3, 1, 0] rfl)
    refine lv_iload_n F.1.1 F.1.2.1 dX3_isZero_10 rfl (lv_at hl 2 rfl) ?_
    refine lv_if_eq (tgt := 32) F.1.1 F.1.2.1 dX3_isZero_11 (by decide) (fun c11 => ?_) (fun c11 => ?_)
    · refine lv_iconst (v := nI 0) F.1.1 F.1.2.1 dX3_isZero_32 (by decide) ?_
      exact kTi (by unfold zrF; first | (rw [if_pos c11]) | (rw [if_neg c11, if_neg c25]) | (rw [if_neg c11, if_pos c25])) J33
    · refine lv_aload_n F.1.1 F.1.2.1 dX3_isZero_14 rfl (lv_at hl 0 rfl) ?_
      refine mGf (v := .ref (am 3)) F hw 5 (by decide) rfl q264 (fun _ h9 => h9) dX3_isZero_15 ?_
      refine lv_bipush (v := nI 16) F.1.1 F.1.2.1 dX3_isZero_18 (by decide) ?_
      refine lv_iload_n F.1.1 F.1.2.1 dX3_isZero_20 rfl (lv_at hl 1 rfl) ?_
      refine lv_imul F.1.1 F.1.2.1 dX3_isZero_21 ?_
      refine kTi (pk_mul _ _) ?_
      refine lv_iload_n F.1.1 F.1.2.1 dX3_isZero_22 rfl (lv_at hl 3 rfl) ?_
      refine lv_iadd F.1.1 F.1.2.1 dX3_isZero_23 ?_
      refine kTi (nI_add _ _) ?_
      refine mLd F hw (16 * a + k) rfl (by omega) dX3_isZero_24 ?_
      refine lv_if_ne (tgt := 32) F.1.1 F.1.2.1 dX3_isZero_25 (by decide) (fun c25 => ?_) (fun c25 => ?_)
      · refine lv_iconst (v := nI 0) F.1.1 F.1.2.1 dX3_isZero_32 (by decide) ?_
        exact kTi (by unfold zrF; first | (rw [if_pos c11]) | (rw [if_neg c11, if_neg c25]) | (rw [if_neg c11, if_pos c25])) J33
      · refine lv_iconst (v := nI 1) F.1.1 F.1.2.1 dX3_isZero_28 (by decide) ?_
        refine lv_goto (tgt := 33) F.1.1 F.1.2.1 dX3_isZero_29 (by decide) ?_
        exact kTi (by unfold zrF; first | (rw [if_pos c11]) | (rw [if_neg c11, if_neg c25]) | (rw [if_neg c11, if_pos c25])) J33

theorem lp_msame (F : kF p m c cX3_isSame 5 s args RX3 G cJ cI) (a : Nat) (ha : a < 13) (b : Nat) (hb : b < 13)
    (kk : ∀  (H : Heap) (locs : List Loc) (ls : Array Slot), kW G A s H locs (mW cJ cI am D U X) → lv_has ls 5 [(0, .ref (am 0)), (1, .int (nI a)), (2, .int (nI b)), (3, .int (smF D a b 16)), (4, .int (nI 16))] → W p l e R s m args below meth c H locs cells slots Q (F0 m 55 ls [])) :
    ∀ (n k : Nat), n + k = 16 → ∀  (H : Heap) (locs : List Loc) (ls : Array Slot), kW G A s H locs (mW cJ cI am D U X) → lv_has ls 5 [(0, .ref (am 0)), (1, .int (nI a)), (2, .int (nI b)), (3, .int (smF D a b k)), (4, .int (nI k))] → W p l e R s m args below meth c H locs cells slots Q (F0 m 5 ls []) := by
  intro n
  induction n with
  | zero =>
    intro k hk  H locs ls hw hl
    obtain rfl : k = 16 := by omega
    refine lv_iload F.1.1 F.1.2.1 dX3_isSame_5 (lv_at hl 4 rfl) ?_
    refine lv_bipush (v := nI 16) F.1.1 F.1.2.1 dX3_isSame_7 (by decide) ?_
    refine lv_icmp_ge (tgt := 55) F.1.1 F.1.2.1 dX3_isSame_9 (by decide) (fun _ => ?_) (fun c9 => absurd (nI_le (by omega) (by omega)) c9)
    exact kk  H locs ls hw (lv_sub hl [0, 1, 2, 3, 4] rfl)
  | succ n ih =>
    intro k hk  H locs ls hw hl
    refine lv_iload F.1.1 F.1.2.1 dX3_isSame_5 (lv_at hl 4 rfl) ?_
    refine lv_bipush (v := nI 16) F.1.1 F.1.2.1 dX3_isSame_7 (by decide) ?_
    refine lv_icmp_ge (tgt := 55) F.1.1 F.1.2.1 dX3_isSame_9 (by decide) (fun c9 => absurd c9 (nI_ge (by omega) (by omega))) (fun _ => ?_)
    have J48 : W p l e R s m args below meth c H locs cells slots Q (F0 m 48 ls [.int (smF D a b (k + 1))]) := by
      refine lv_istore_n (lv' := [(3, .int (smF D a b (k + 1))), (0, .ref (am 0)), (1, .int (nI a)), (2, .int (nI b)), (4, .int (nI k))]) F.1.1 F.1.2.1 dX3_isSame_48 rfl hl (by decide) rfl (fun ls hl => ?_)
      refine lv_iinc (v := nI (k + 1)) (lv' := [(4, .int (nI (k + 1))), (3, .int (smF D a b (k + 1))), (0, .ref (am 0)), (1, .int (nI a)), (2, .int (nI b))]) F.1.1 F.1.2.1 dX3_isSame_49 hl (k := 4) rfl (nI_1 _) (by decide) rfl (fun ls hl => ?_)
      refine lv_goto (tgt := 5) F.1.1 F.1.2.1 dX3_isSame_52 (by decide) ?_
      exact ih (k + 1) (by omega)  _ _ _ hw (lv_sub hl [2, 3, 4, 1, 0] rfl)
    refine lv_iload_n F.1.1 F.1.2.1 dX3_isSame_12 rfl (lv_at hl 3 rfl) ?_
    refine lv_if_eq (tgt := 47) F.1.1 F.1.2.1 dX3_isSame_13 (by decide) (fun c13 => ?_) (fun c13 => ?_)
    · refine lv_iconst (v := nI 0) F.1.1 F.1.2.1 dX3_isSame_47 (by decide) ?_
      exact kTi (by unfold smF; first | (rw [if_pos c13]) | (rw [if_neg c13, if_neg c40]) | (rw [if_neg c13, if_pos c40])) J48
    · refine lv_aload_n F.1.1 F.1.2.1 dX3_isSame_16 rfl (lv_at hl 0 rfl) ?_
      refine mGf (v := .ref (am 3)) F hw 5 (by decide) rfl q264 (fun _ h9 => h9) dX3_isSame_17 ?_
      refine lv_bipush (v := nI 16) F.1.1 F.1.2.1 dX3_isSame_20 (by decide) ?_
      refine lv_iload_n F.1.1 F.1.2.1 dX3_isSame_22 rfl (lv_at hl 1 rfl) ?_
      refine lv_imul F.1.1 F.1.2.1 dX3_isSame_23 ?_
      refine kTi (pk_mul _ _) ?_
      refine lv_iload F.1.1 F.1.2.1 dX3_isSame_24 (lv_at hl 4 rfl) ?_
      refine lv_iadd F.1.1 F.1.2.1 dX3_isSame_26 ?_
      refine kTi (nI_add _ _) ?_
      refine mLd F hw (16 * a + k) rfl (by omega) dX3_isSame_27 ?_
      refine lv_aload_n F.1.1 F.1.2.1 dX3_isSame_28 rfl (lv_at hl 0 rfl) ?_
      refine mGf (v := .ref (am 3)) F hw 5 (by decide) rfl q264 (fun _ h9 => h9) dX3_isSame_29 ?_
      refine lv_bipush (v := nI 16) F.1.1 F.1.2.1 dX3_isSame_32 (by decide) ?_
      refine lv_iload_n F.1.1 F.1.2.1 dX3_isSame_34 rfl (lv_at hl 2 rfl) ?_
      refine lv_imul F.1.1 F.1.2.1 dX3_isSame_35 ?_
      refine kTi (pk_mul _ _) ?_
      refine lv_iload F.1.1 F.1.2.1 dX3_isSame_36 (lv_at hl 4 rfl) ?_
      refine lv_iadd F.1.1 F.1.2.1 dX3_isSame_38 ?_
      refine kTi (nI_add _ _) ?_
      refine mLd F hw (16 * b + k) rfl (by omega) dX3_isSame_39 ?_
      refine lv_icmp_ne (tgt := 47) F.1.1 F.1.2.1 dX3_isSame_40 (by decide) (fun c40 => ?_) (fun c40 => ?_)
      · refine lv_iconst (v := nI 0) F.1.1 F.1.2.1 dX3_isSame_47 (by decide) ?_
        exact kTi (by unfold smF; first | (rw [if_pos c13]) | (rw [if_neg c13, if_neg c40]) | (rw [if_neg c13, if_pos c40])) J48
      · refine lv_iconst (v := nI 1) F.1.1 F.1.2.1 dX3_isSame_43 (by decide) ?_
        refine lv_goto (tgt := 48) F.1.1 F.1.2.1 dX3_isSame_44 (by decide) ?_
        exact kTi (by unfold smF; first | (rw [if_pos c13]) | (rw [if_neg c13, if_neg c40]) | (rw [if_neg c13, if_pos c40])) J48

theorem lp_longOf (F : kF p m c cX3_longOf 6 s args RX3 G cJ cI) (a : Nat) (ha : a < 13) (q : Nat) (hq : q < 4)
    (kk : ∀  (H : Heap) (locs : List Loc) (ls : Array Slot), kW G A s H locs (mW cJ cI am D U X) → lv_has ls 6 [(0, .ref (am 0)), (1, .int (nI a)), (2, .int (nI q)), (3, .long (loF D a q 4)), (5, .int (dnI 4 4))] → W p l e R s m args below meth c H locs cells slots Q (F0 m 40 ls [])) :
    ∀ (n z : Nat), n + z = 4 → ∀  (H : Heap) (locs : List Loc) (ls : Array Slot), kW G A s H locs (mW cJ cI am D U X) → lv_has ls 6 [(0, .ref (am 0)), (1, .int (nI a)), (2, .int (nI q)), (3, .long (loF D a q z)), (5, .int (dnI 4 z))] → W p l e R s m args below meth c H locs cells slots Q (F0 m 5 ls []) := by
  intro n
  induction n with
  | zero =>
    intro z hk  H locs ls hw hl
    obtain rfl : z = 4 := by omega
    refine lv_iload F.1.1 F.1.2.1 dX3_longOf_5 (lv_at hl 4 rfl) ?_
    refine lv_if_lt (tgt := 40) F.1.1 F.1.2.1 dX3_longOf_7 (by decide) (fun _ => ?_) (fun c9 => absurd dn_end c9)
    exact kk  H locs ls hw (lv_sub hl [0, 1, 2, 3, 4] rfl)
  | succ n ih =>
    intro z hk  H locs ls hw hl
    refine lv_iload F.1.1 F.1.2.1 dX3_longOf_5 (lv_at hl 4 rfl) ?_
    refine lv_if_lt (tgt := 40) F.1.1 F.1.2.1 dX3_longOf_7 (by decide) (fun c9 => absurd c9 (dn_nlt (by omega) (by decide))) (fun _ => ?_)
    rw [dn_lt (by omega)] at hl
    refine lv_lload_n F.1.1 F.1.2.1 dX3_longOf_10 rfl (lv_at hl 3 rfl) ?_
    refine lv_ldc2 (v := 65536) F.1.1 F.1.2.1 F.1.2.2.2.1 (F.1.2.2.2.2 _ q354) dX3_longOf_11 ?_
    refine lv_lmul F.1.1 F.1.2.1 dX3_longOf_14 ?_
    refine lv_aload_n F.1.1 F.1.2.1 dX3_longOf_15 rfl (lv_at hl 0 rfl) ?_
    refine mGf (v := .ref (am 3)) F hw 5 (by decide) rfl q264 (fun _ h9 => h9) dX3_longOf_16 ?_
    refine lv_bipush (v := nI 16) F.1.1 F.1.2.1 dX3_longOf_19 (by decide) ?_
    refine lv_iload_n F.1.1 F.1.2.1 dX3_longOf_21 rfl (lv_at hl 1 rfl) ?_
    refine lv_imul F.1.1 F.1.2.1 dX3_longOf_22 ?_
    refine kTi (pk_mul _ _) ?_
    refine lv_iconst (v := nI 4) F.1.1 F.1.2.1 dX3_longOf_23 (by decide) ?_
    refine lv_iload_n F.1.1 F.1.2.1 dX3_longOf_24 rfl (lv_at hl 2 rfl) ?_
    refine lv_imul F.1.1 F.1.2.1 dX3_longOf_25 ?_
    refine kTi (pk_mul _ _) ?_
    refine lv_iadd F.1.1 F.1.2.1 dX3_longOf_26 ?_
    refine kTi (nI_add _ _) ?_
    refine lv_iload F.1.1 F.1.2.1 dX3_longOf_27 (lv_at hl 4 rfl) ?_
    refine lv_iadd F.1.1 F.1.2.1 dX3_longOf_29 ?_
    refine kTi (nI_add _ _) ?_
    refine mLd F hw (16 * a + (4 * q) + (4 - 1 - z)) rfl (by omega) dX3_longOf_30 ?_
    refine lv_i2l F.1.1 F.1.2.1 dX3_longOf_31 rfl ?_
    refine lv_ladd F.1.1 F.1.2.1 dX3_longOf_32 ?_
    refine lv_topl (fun t1 et1 => ?_)
    refine lv_lstore_n (lv' := [(3, .long t1), (0, .ref (am 0)), (1, .int (nI a)), (2, .int (nI q)), (5, .int (nI (4 - 1 - z)))]) F.1.1 F.1.2.1 dX3_longOf_33 rfl hl (by decide) rfl (fun ls hl => ?_)
    refine lv_iinc (v := dnI 4 (z + 1)) (lv' := [(5, .int (dnI 4 (z + 1))), (3, .long t1), (0, .ref (am 0)), (1, .int (nI a)), (2, .int (nI q))]) F.1.1 F.1.2.1 dX3_longOf_34 hl (k := 4) rfl (dn_s (by omega)) (by decide) rfl (fun ls hl => ?_)
    refine lv_goto (tgt := 5) F.1.1 F.1.2.1 dX3_longOf_37 (by decide) ?_
    subst et1
    exact ih (z + 1) (by omega)  _ _ _ hw (lv_sub hl [2, 3, 4, 1, 0] rfl)

end XL

abbrev rX3_setSmall : Room := { frames := 0, cells := 0, slots := 0, locals := 0 }
/-- setSmall -/
theorem met_X3_setSmall {l : Launch} {G : va_G} {cJ cI : ClassId} {am : Nat → Nat} {D : Nat → Int32} {U : Nat → Int64} {X : CX} {sz : Nat} (t : Nat) (ht : t < 13) (v : Int32) : kMv l yX3_setSmall cX3_setSmall 4 rX3_setSmall G cJ cI [.ref (am 0), .int (nI t), .int v] (mW cJ cI am D U X) sz (fun _ : Nat → Int64 => True) (fun U => mW cJ cI am (dSet t v D) U X) := by
  refine kStart (by decide) (Nat.le_of_ble_eq_true rfl) ?_
  intro p e s m below meth c ls F hr hlocks hin hsz hA hw hl
  have hl : lv_has ls 4 [(0, .ref (am 0)), (1, .int (nI t)), (2, .int v)] := hl
  refine lv_iconst (v := nI 0) F.1.1 F.1.2.1 dX3_setSmall_0 (by decide) ?_
  refine lv_istore_n (lv' := [(3, .int (nI 0)), (0, .ref (am 0)), (1, .int (nI t)), (2, .int v)]) F.1.1 F.1.2.1 dX3_setSmall_1 rfl hl (by decide) rfl (fun ls hl => ?_)
  refine lp_setSmall F t ht v (fun  H locs ls hw hl => ?_) 16 0 rfl  _ _ _ (by rw [flD_0]; exact hw) (lv_sub hl [1, 2, 3, 0] rfl)
  exact kVret F hr hlocks _ hw trivial dX3_setSmall_34

abbrev rX3_copy : Room := { frames := 0, cells := 0, slots := 0, locals := 0 }
/-- copy -/
theorem met_X3_copy {l : Launch} {G : va_G} {cJ cI : ClassId} {am : Nat → Nat} {D : Nat → Int32} {U : Nat → Int64} {X : CX} {sz : Nat} (t : Nat) (ht : t < 13) (a : Nat) (ha : a < 13) : kMv l yX3_copy cX3_copy 4 rX3_copy G cJ cI [.ref (am 0), .int (nI t), .int (nI a)] (mW cJ cI am D U X) sz (fun _ : Nat → Int64 => True) (fun U => mW cJ cI am (dCpy t a D) U X) := by
  refine kStart (by decide) (Nat.le_of_ble_eq_true rfl) ?_
  intro p e s m below meth c ls F hr hlocks hin hsz hA hw hl
  have hl : lv_has ls 4 [(0, .ref (am 0)), (1, .int (nI t)), (2, .int (nI a))] := hl
  refine lv_iconst (v := nI 0) F.1.1 F.1.2.1 dX3_copy_0 (by decide) ?_
  refine lv_istore_n (lv' := [(3, .int (nI 0)), (0, .ref (am 0)), (1, .int (nI t)), (2, .int (nI a))]) F.1.1 F.1.2.1 dX3_copy_1 rfl hl (by decide) rfl (fun ls hl => ?_)
  refine lp_copy F t ht a ha (fun  H locs ls hw hl => ?_) 16 0 rfl  _ _ _ (by rw [flD_0]; exact hw) (lv_sub hl [1, 2, 3, 0] rfl)
  exact kVret F hr hlocks _ hw trivial dX3_copy_36

abbrev rX3_add : Room := { frames := 3, cells := 0, slots := 0, locals := 70 }
/-- add -/
theorem met_X3_add {l : Launch} {G : va_G} {cJ cI : ClassId} {am : Nat → Nat} {D : Nat → Int32} {U : Nat → Int64} {X : CX} {sz : Nat} (t : Nat) (ht : t < 13) (a : Nat) (ha : a < 13) (b : Nat) (hb : b < 13) : kMv l yX3_add cX3_add 5 rX3_add G cJ cI [.ref (am 0), .int (nI t), .int (nI a), .int (nI b)] (mW cJ cI am D U X) sz (fun _ : Nat → Int64 => True) (fun U => mW cJ cI am (dAdd t a b D) U X) := by
  refine kStart (by decide) (Nat.le_of_ble_eq_true rfl) ?_
  intro p e s m below meth c ls F hr hlocks hin hsz hA hw hl
  have hl : lv_has ls 5 [(0, .ref (am 0)), (1, .int (nI t)), (2, .int (nI a)), (3, .int (nI b))] := hl
  refine lv_iconst (v := nI 0) F.1.1 F.1.2.1 dX3_add_0 (by decide) ?_
  refine lv_istore (lv' := [(4, .int (nI 0)), (0, .ref (am 0)), (1, .int (nI t)), (2, .int (nI a)), (3, .int (nI b))]) F.1.1 F.1.2.1 dX3_add_1 hl (by decide) rfl (fun ls hl => ?_)
  refine lp_madd F t ht a ha b hb (fun  H locs ls hw hl => ?_) 16 0 rfl  _ _ _ (by rw [fl_0]; exact hw) (lv_sub hl [1, 2, 3, 4, 0] rfl)
  refine lv_aload_n F.1.1 F.1.2.1 dX3_add_50 rfl (lv_at hl 0 rfl) ?_
  refine lv_iload_n F.1.1 F.1.2.1 dX3_add_51 rfl (lv_at hl 1 rfl) ?_
  refine kCv (As := [.int (nI t)]) F hw hA (met_X3_store t ht _ (fun j h9 => fl_lt h9)) (cwV 1 F.1.2.2.2.2 (lw_V q303 q305 qs5 q24 q306) rfl rfl rfl (by decide +kernel) ⟨Nat.le_of_ble_eq_true rfl, Nat.le_of_ble_eq_true rfl⟩) mRc rfl hl.1 rfl (Nat.le_of_ble_eq_true rfl) dX3_add_52 ⟨Nat.le_of_ble_eq_true rfl, Nat.le_of_ble_eq_true rfl⟩ (fun U H locs hp hw => ?_)
  exact kVret F hr hlocks _ hw trivial dX3_add_55

/-- subtract -/
theorem met_X3_subtract {l : Launch} {G : va_G} {cJ cI : ClassId} {am : Nat → Nat} {D : Nat → Int32} {U : Nat → Int64} {X : CX} {sz : Nat} (t : Nat) (ht : t < 13) (a : Nat) (ha : a < 13) (b : Nat) (hb : b < 13) : kMv l yX3_subtract cX3_subtract 9 rX3_subtract G cJ cI [.ref (am 0), .int (nI t), .int (nI a), .int (nI b)] (mW cJ cI am D U X) sz (fun _ : Nat → Int64 => True) (fun U => mW cJ cI am (dSub t a b D) U X) := by
  refine kStart (by decide) (Nat.le_of_ble_eq_true rfl) ?_
  intro p e s m below meth c ls F hr hlocks hin hsz hA hw hl
  have hl : lv_has ls 9 [(0, .ref (am 0)), (1, .int (nI t)), (2, .int (nI a)), (3, .int (nI b))] := hl
  refine lv_lconst (v := 0) F.1.1 F.1.2.1 dX3_subtract_0 (by decide) ?_
  refine lv_lstore (lv' := [(4, .long 0), (0, .ref (am 0)), (1, .int (nI t)), (2, .int (nI a)), (3, .int (nI b))]) F.1.1 F.1.2.1 dX3_subtract_1 hl (by decide) rfl (fun ls hl => ?_)
  refine lv_iconst (v := nI 0) F.1.1 F.1.2.1 dX3_subtract_3 (by decide) ?_
  refine lv_istore (lv' := [(6, .int (nI 0)), (4, .long 0), (0, .ref (am 0)), (1, .int (nI t)), (2, .int (nI a)), (3, .int (nI b))]) F.1.1 F.1.2.1 dX3_subtract_4 hl (by decide) rfl (fun ls hl => ?_)
  refine lp_msub F hA ⟨Nat.le_of_ble_eq_true rfl, Nat.le_of_ble_eq_true rfl⟩ t ht a ha b hb (fun  H locs ls hw hl => ?_) 16 0 rfl  _ _ _ (by rw [fl_0]; exact hw) (lv_sub hl [2, 3, 4, 5, 1, 0] rfl)
  refine lv_aload_n F.1.1 F.1.2.1 dX3_subtract_78 rfl (lv_at hl 0 rfl) ?_
  refine mGf (v := .ref (am 4)) F hw 6 (by decide) rfl q265 (fun _ h9 => h9) dX3_subtract_79 ?_
  refine lv_bipush (v := nI 15) F.1.1 F.1.2.1 dX3_subtract_82 (by decide) ?_
  refine lv_aload_n F.1.1 F.1.2.1 dX3_subtract_84 rfl (lv_at hl 0 rfl) ?_
  refine mGf (v := .ref (am 4)) F hw 6 (by decide) rfl q265 (fun _ h9 => h9) dX3_subtract_85 ?_
  refine lv_bipush (v := nI 15) F.1.1 F.1.2.1 dX3_subtract_88 (by decide) ?_
  refine mLu F hw 15 rfl (by omega) dX3_subtract_90 ?_
  refine lv_lload F.1.1 F.1.2.1 dX3_subtract_91 (lv_at hl 4 rfl) ?_
  refine lv_ldc2 (v := 65536) F.1.1 F.1.2.1 F.1.2.2.2.1 (F.1.2.2.2.2 _ q354) dX3_subtract_93 ?_
  refine lv_lmul F.1.1 F.1.2.1 dX3_subtract_96 ?_
  refine lv_ladd F.1.1 F.1.2.1 dX3_subtract_97 ?_
  refine mSu F hw 15 rfl (by omega) dX3_subtract_98 (fun H locs hw => ?_)
  refine lv_aload_n F.1.1 F.1.2.1 dX3_subtract_99 rfl (lv_at hl 0 rfl) ?_
  refine lv_iload_n F.1.1 F.1.2.1 dX3_subtract_100 rfl (lv_at hl 1 rfl) ?_
  refine kCv (As := [.int (nI t)]) F hw hA (met_X3_store t ht _ (ag_upd (n := 16) (g := sdF D a b) (fun j h9 => fl_lt h9) (by rw [fl_lt (by omega)]))) (cwV 1 F.1.2.2.2.2 (lw_V q303 q305 qs5 q24 q306) rfl rfl rfl (by decide +kernel) ⟨Nat.le_of_ble_eq_true rfl, Nat.le_of_ble_eq_true rfl⟩) mRc rfl hl.1 rfl (Nat.le_of_ble_eq_true rfl) dX3_subtract_101 ⟨Nat.le_of_ble_eq_true rfl, Nat.le_of_ble_eq_true rfl⟩ (fun U H locs hp hw => ?_)
  exact kVret F hr hlocks _ hw trivial dX3_subtract_104

abbrev rX3_multiply : Room := { frames := 3, cells := 0, slots := 0, locals := 70 }
/-- multiply -/
theorem met_X3_multiply {l : Launch} {G : va_G} {cJ cI : ClassId} {am : Nat → Nat} {D : Nat → Int32} {U : Nat → Int64} {X : CX} {sz : Nat} (t : Nat) (ht : t < 13) (a : Nat) (ha : a < 13) (b : Nat) (hb : b < 13) : kMv l yX3_multiply cX3_multiply 6 rX3_multiply G cJ cI [.ref (am 0), .int (nI t), .int (nI a), .int (nI b)] (mW cJ cI am D U X) sz (fun _ : Nat → Int64 => True) (fun U => mW cJ cI am (dMul t a b D) U X) := by
  refine kStart (by decide) (Nat.le_of_ble_eq_true rfl) ?_
  intro p e s m below meth c ls F hr hlocks hin hsz hA hw hl
  have hl : lv_has ls 6 [(0, .ref (am 0)), (1, .int (nI t)), (2, .int (nI a)), (3, .int (nI b))] := hl
  refine lv_iconst (v := nI 0) F.1.1 F.1.2.1 dX3_multiply_0 (by decide) ?_
  refine lv_istore (lv' := [(4, .int (nI 0)), (0, .ref (am 0)), (1, .int (nI t)), (2, .int (nI a)), (3, .int (nI b))]) F.1.1 F.1.2.1 dX3_multiply_1 hl (by decide) rfl (fun ls hl => ?_)
  refine lp_mm0 F t ht a ha b hb (fun  H locs ls hw hl => ?_) 32 0 rfl  _ _ _ (by rw [fl_0]; exact hw) (lv_sub hl [1, 2, 3, 4, 0] rfl)
  refine lv_iconst (v := nI 0) F.1.1 F.1.2.1 dX3_multiply_24 (by decide) ?_
  refine lv_istore (lv' := [(4, .int (nI 0)), (0, .ref (am 0)), (1, .int (nI t)), (2, .int (nI a)), (3, .int (nI b))]) F.1.1 F.1.2.1 dX3_multiply_25 hl (by decide) rfl (fun ls hl => ?_)
  refine lp_mm2 F t ht a ha b hb (fun U H locs ls hex hw hl => ?_) 16 0 rfl _ _ _ _ (fun j h9 => by rw [it_0, fl_lt h9]) hw (lv_sub hl [1, 2, 3, 4, 0] rfl)
  refine lv_iconst (v := nI 0) F.1.1 F.1.2.1 dX3_multiply_104 (by decide) ?_
  refine lv_istore (lv' := [(4, .int (nI 0)), (0, .ref (am 0)), (1, .int (nI t)), (2, .int (nI a)), (3, .int (nI b))]) F.1.1 F.1.2.1 dX3_multiply_105 hl (by decide) rfl (fun ls hl => ?_)
  refine lp_mm3 F t ht a ha b hb _ (fun U H locs ls hex hw hl => ?_) 16 0 rfl _ _ _ _ hex hw (lv_sub hl [1, 2, 3, 4, 0] rfl)
  refine lv_aload_n F.1.1 F.1.2.1 dX3_multiply_149 rfl (lv_at hl 0 rfl) ?_
  refine lv_iload_n F.1.1 F.1.2.1 dX3_multiply_150 rfl (lv_at hl 1 rfl) ?_
  refine kCv (As := [.int (nI t)]) F hw hA (met_X3_store t ht _ (fun j h9 => hex j (by omega))) (cwV 1 F.1.2.2.2.2 (lw_V q303 q305 qs5 q24 q306) rfl rfl rfl (by decide +kernel) ⟨Nat.le_of_ble_eq_true rfl, Nat.le_of_ble_eq_true rfl⟩) mRc rfl hl.1 rfl (Nat.le_of_ble_eq_true rfl) dX3_multiply_151 ⟨Nat.le_of_ble_eq_true rfl, Nat.le_of_ble_eq_true rfl⟩ (fun U H locs hp hw => ?_)
  exact kVret F hr hlocks _ hw trivial dX3_multiply_154

abbrev rX3_multiplySmall : Room := { frames := 3, cells := 0, slots := 0, locals := 70 }
/-- multiplySmall -/
theorem met_X3_multiplySmall {l : Launch} {G : va_G} {cJ cI : ClassId} {am : Nat → Nat} {D : Nat → Int32} {U : Nat → Int64} {X : CX} {sz : Nat} (t : Nat) (ht : t < 13) (a : Nat) (ha : a < 13) (v : Int32) : kMv l yX3_multiplySmall cX3_multiplySmall 5 rX3_multiplySmall G cJ cI [.ref (am 0), .int (nI t), .int (nI a), .int v] (mW cJ cI am D U X) sz (fun _ : Nat → Int64 => True) (fun U => mW cJ cI am (dMuS t a v D) U X) := by
  refine kStart (by decide) (Nat.le_of_ble_eq_true rfl) ?_
  intro p e s m below meth c ls F hr hlocks hin hsz hA hw hl
  have hl : lv_has ls 5 [(0, .ref (am 0)), (1, .int (nI t)), (2, .int (nI a)), (3, .int v)] := hl
  refine lv_iconst (v := nI 0) F.1.1 F.1.2.1 dX3_multiplySmall_0 (by decide) ?_
  refine lv_istore (lv' := [(4, .int (nI 0)), (0, .ref (am 0)), (1, .int (nI t)), (2, .int (nI a)), (3, .int v)]) F.1.1 F.1.2.1 dX3_multiplySmall_1 hl (by decide) rfl (fun ls hl => ?_)
  refine lp_mmulS F t ht a ha v (fun  H locs ls hw hl => ?_) 16 0 rfl  _ _ _ (by rw [fl_0]; exact hw) (lv_sub hl [1, 2, 3, 4, 0] rfl)
  refine lv_aload_n F.1.1 F.1.2.1 dX3_multiplySmall_39 rfl (lv_at hl 0 rfl) ?_
  refine lv_iload_n F.1.1 F.1.2.1 dX3_multiplySmall_40 rfl (lv_at hl 1 rfl) ?_
  refine kCv (As := [.int (nI t)]) F hw hA (met_X3_store t ht _ (fun j h9 => fl_lt h9)) (cwV 1 F.1.2.2.2.2 (lw_V q303 q305 qs5 q24 q306) rfl rfl rfl (by decide +kernel) ⟨Nat.le_of_ble_eq_true rfl, Nat.le_of_ble_eq_true rfl⟩) mRc rfl hl.1 rfl (Nat.le_of_ble_eq_true rfl) dX3_multiplySmall_41 ⟨Nat.le_of_ble_eq_true rfl, Nat.le_of_ble_eq_true rfl⟩ (fun U H locs hp hw => ?_)
  exact kVret F hr hlocks _ hw trivial dX3_multiplySmall_44

abbrev rX3_makeU : Room := { frames := 3, cells := 0, slots := 0, locals := 70 }
/-- makeU -/
theorem met_X3_makeU {l : Launch} {G : va_G} {cJ cI : ClassId} {am : Nat → Nat} {D : Nat → Int32} {U : Nat → Int64} {X : CX} {sz : Nat}  : kMv l yX3_makeU cX3_makeU 2 rX3_makeU G cJ cI [.ref (am 0)] (mW cJ cI am D U X) sz (fun _ : Nat → Int64 => True) (fun U => mW cJ cI am (dMkU X.2.1 D) U X) := by
  refine kStart (by decide) (Nat.le_of_ble_eq_true rfl) ?_
  intro p e s m below meth c ls F hr hlocks hin hsz hA hw hl
  have hl : lv_has ls 2 [(0, .ref (am 0))] := hl
  refine lv_iconst (v := nI 0) F.1.1 F.1.2.1 dX3_makeU_0 (by decide) ?_
  refine lv_istore_n (lv' := [(1, .int (nI 0)), (0, .ref (am 0))]) F.1.1 F.1.2.1 dX3_makeU_1 rfl hl (by decide) rfl (fun ls hl => ?_)
  refine lp_makeU F  (fun  H locs ls hw hl => ?_) 16 0 rfl  _ _ _ (by rw [fl_0]; exact hw) (lv_sub hl [1, 0] rfl)
  refine lv_aload_n F.1.1 F.1.2.1 dX3_makeU_39 rfl (lv_at hl 0 rfl) ?_
  refine mGf (v := .ref (am 4)) F hw 6 (by decide) rfl q265 (fun _ h9 => h9) dX3_makeU_40 ?_
  refine lv_bipush (v := nI 15) F.1.1 F.1.2.1 dX3_makeU_43 (by decide) ?_
  refine lv_aload_n F.1.1 F.1.2.1 dX3_makeU_45 rfl (lv_at hl 0 rfl) ?_
  refine mGf (v := .ref (am 4)) F hw 6 (by decide) rfl q265 (fun _ h9 => h9) dX3_makeU_46 ?_
  refine lv_bipush (v := nI 15) F.1.1 F.1.2.1 dX3_makeU_49 (by decide) ?_
  refine mLu F hw 15 rfl (by omega) dX3_makeU_51 ?_
  refine lv_ldc2 (v := 32767) F.1.1 F.1.2.1 F.1.2.2.2.1 (F.1.2.2.2.2 _ q302) dX3_makeU_52 ?_
  refine lv_land F.1.1 F.1.2.1 dX3_makeU_55 ?_
  refine mSu F hw 15 rfl (by omega) dX3_makeU_56 (fun H locs hw => ?_)
  refine lv_aload_n F.1.1 F.1.2.1 dX3_makeU_57 rfl (lv_at hl 0 rfl) ?_
  refine lv_iconst (v := nI 4) F.1.1 F.1.2.1 dX3_makeU_58 (by decide) ?_
  refine kCv (As := [.int (nI 4)]) F hw hA (met_X3_store 4 (by decide) _ (ag_upd (n := 16) (g := tkL X.2.1) (fun j h9 => fl_lt h9) (by rw [fl_lt (by omega)]))) (cwV 1 F.1.2.2.2.2 (lw_V q303 q305 qs5 q24 q306) rfl rfl rfl (by decide +kernel) ⟨Nat.le_of_ble_eq_true rfl, Nat.le_of_ble_eq_true rfl⟩) mRc rfl hl.1 rfl (Nat.le_of_ble_eq_true rfl) dX3_makeU_59 ⟨Nat.le_of_ble_eq_true rfl, Nat.le_of_ble_eq_true rfl⟩ (fun U H locs hp hw => ?_)
  exact kVret F hr hlocks _ hw trivial dX3_makeU_62

abbrev rX3_swap : Room := { frames := 1, cells := 0, slots := 0, locals := 23 }
/-- swap -/
theorem met_X3_swap {l : Launch} {G : va_G} {cJ cI : ClassId} {am : Nat → Nat} {D : Nat → Int32} {U : Nat → Int64} {X : CX} {sz : Nat} (a : Nat) (ha : a < 13) (b : Nat) (hb : b < 13) : kMv l yX3_swap cX3_swap 3 rX3_swap G cJ cI [.ref (am 0), .int (nI a), .int (nI b)] (mW cJ cI am D U X) sz (fun _ : Nat → Int64 => True) (fun U => mW cJ cI am (dSwp a b D) U X) := by
  refine kStart (by decide) (Nat.le_of_ble_eq_true rfl) ?_
  intro p e s m below meth c ls F hr hlocks hin hsz hA hw hl
  have hl : lv_has ls 3 [(0, .ref (am 0)), (1, .int (nI a)), (2, .int (nI b))] := hl
  refine lv_aload_n F.1.1 F.1.2.1 dX3_swap_0 rfl (lv_at hl 0 rfl) ?_
  refine lv_bipush (v := nI 12) F.1.1 F.1.2.1 dX3_swap_1 (by decide) ?_
  refine lv_iload_n F.1.1 F.1.2.1 dX3_swap_3 rfl (lv_at hl 1 rfl) ?_
  refine kCv (As := [.int (nI 12), .int (nI a)]) F hw hA (met_X3_copy 12 (by decide) a ha) (cwV 2 F.1.2.2.2.2 (lw_V q322 q324 qs8 q24 q325) rfl rfl rfl (by decide +kernel) ⟨Nat.le_of_ble_eq_true rfl, Nat.le_of_ble_eq_true rfl⟩) mRc rfl hl.1 rfl (Nat.le_of_ble_eq_true rfl) dX3_swap_4 ⟨Nat.le_of_ble_eq_true rfl, Nat.le_of_ble_eq_true rfl⟩ (fun U H locs hp hw => ?_)
  refine lv_aload_n F.1.1 F.1.2.1 dX3_swap_7 rfl (lv_at hl 0 rfl) ?_
  refine lv_iload_n F.1.1 F.1.2.1 dX3_swap_8 rfl (lv_at hl 1 rfl) ?_
  refine lv_iload_n F.1.1 F.1.2.1 dX3_swap_9 rfl (lv_at hl 2 rfl) ?_
  refine kCv (As := [.int (nI a), .int (nI b)]) F hw hA (met_X3_copy a ha b hb) (cwV 2 F.1.2.2.2.2 (lw_V q322 q324 qs8 q24 q325) rfl rfl rfl (by decide +kernel) ⟨Nat.le_of_ble_eq_true rfl, Nat.le_of_ble_eq_true rfl⟩) mRc rfl hl.1 rfl (Nat.le_of_ble_eq_true rfl) dX3_swap_10 ⟨Nat.le_of_ble_eq_true rfl, Nat.le_of_ble_eq_true rfl⟩ (fun U H locs hp hw => ?_)
  refine lv_aload_n F.1.1 F.1.2.1 dX3_swap_13 rfl (lv_at hl 0 rfl) ?_
  refine lv_iload_n F.1.1 F.1.2.1 dX3_swap_14 rfl (lv_at hl 2 rfl) ?_
  refine lv_bipush (v := nI 12) F.1.1 F.1.2.1 dX3_swap_15 (by decide) ?_
  refine kCv (As := [.int (nI b), .int (nI 12)]) F hw hA (met_X3_copy b hb 12 (by decide)) (cwV 2 F.1.2.2.2.2 (lw_V q322 q324 qs8 q24 q325) rfl rfl rfl (by decide +kernel) ⟨Nat.le_of_ble_eq_true rfl, Nat.le_of_ble_eq_true rfl⟩) mRc rfl hl.1 rfl (Nat.le_of_ble_eq_true rfl) dX3_swap_17 ⟨Nat.le_of_ble_eq_true rfl, Nat.le_of_ble_eq_true rfl⟩ (fun U H locs hp hw => ?_)
  exact kVret F hr hlocks _ hw trivial dX3_swap_20

abbrev rX3_change : Room := { frames := 2, cells := 0, slots := 0, locals := 45 }
/-- change -/
theorem met_X3_change {l : Launch} {G : va_G} {cJ cI : ClassId} {am : Nat → Nat} {D : Nat → Int32} {U : Nat → Int64} {X : CX} {sz : Nat} (z : Int32) : kMv l yX3_change cX3_change 2 rX3_change G cJ cI [.ref (am 0), .int z] (mW cJ cI am D U X) sz (fun _ : Nat → Int64 => True) (fun U => mW cJ cI am (dChg z D) U X) := by
  refine kStart (by decide) (Nat.le_of_ble_eq_true rfl) ?_
  intro p e s m below meth c ls F hr hlocks hin hsz hA hw hl
  have hl : lv_has ls 2 [(0, .ref (am 0)), (1, .int z)] := hl
  refine lv_iload_n F.1.1 F.1.2.1 dX3_change_0 rfl (lv_at hl 1 rfl) ?_
  refine lv_if_eq (tgt := 16) F.1.1 F.1.2.1 dX3_change_1 (by decide) (fun c1 => ?_) (fun c1 => ?_)
  · exact kVret F hr hlocks _ (by unfold dChg; first | (rw [if_pos c1]; exact hw) | (rw [if_neg c1]; exact hw)) trivial dX3_change_16
  · refine lv_aload_n F.1.1 F.1.2.1 dX3_change_4 rfl (lv_at hl 0 rfl) ?_
    refine lv_iconst (v := nI 0) F.1.1 F.1.2.1 dX3_change_5 (by decide) ?_
    refine lv_iconst (v := nI 2) F.1.1 F.1.2.1 dX3_change_6 (by decide) ?_
    refine kCv (As := [.int (nI 0), .int (nI 2)]) F hw hA (met_X3_swap 0 (by decide) 2 (by decide)) (cwV 2 F.1.2.2.2.2 (lw_V q342 q344 qs12 q24 q345) rfl rfl rfl (by decide +kernel) ⟨Nat.le_of_ble_eq_true rfl, Nat.le_of_ble_eq_true rfl⟩) mRc rfl hl.1 rfl (Nat.le_of_ble_eq_true rfl) dX3_change_7 ⟨Nat.le_of_ble_eq_true rfl, Nat.le_of_ble_eq_true rfl⟩ (fun U H locs hp hw => ?_)
    refine lv_aload_n F.1.1 F.1.2.1 dX3_change_10 rfl (lv_at hl 0 rfl) ?_
    refine lv_iconst (v := nI 1) F.1.1 F.1.2.1 dX3_change_11 (by decide) ?_
    refine lv_iconst (v := nI 3) F.1.1 F.1.2.1 dX3_change_12 (by decide) ?_
    refine kCv (As := [.int (nI 1), .int (nI 3)]) F hw hA (met_X3_swap 1 (by decide) 3 (by decide)) (cwV 2 F.1.2.2.2.2 (lw_V q342 q344 qs12 q24 q345) rfl rfl rfl (by decide +kernel) ⟨Nat.le_of_ble_eq_true rfl, Nat.le_of_ble_eq_true rfl⟩) mRc rfl hl.1 rfl (Nat.le_of_ble_eq_true rfl) dX3_change_13 ⟨Nat.le_of_ble_eq_true rfl, Nat.le_of_ble_eq_true rfl⟩ (fun U H locs hp hw => ?_)
    exact kVret F hr hlocks _ (by unfold dChg; first | (rw [if_pos c1]; exact hw) | (rw [if_neg c1]; exact hw)) trivial dX3_change_16

theorem zr_b (D : Nat → Int32) (a : Nat) : ∀ k, zrF D a k = nI 0 ∨ zrF D a k = nI 1
  | 0 => Or.inr rfl
  | k + 1 => by
    unfold zrF
    split
    · exact Or.inl rfl
    · split
      · exact Or.inr rfl
      · exact Or.inl rfl
theorem sm_b (D : Nat → Int32) (a b : Nat) : ∀ k, smF D a b k = nI 0 ∨ smF D a b k = nI 1
  | 0 => Or.inr rfl
  | k + 1 => by
    unfold smF
    split
    · exact Or.inl rfl
    · split
      · exact Or.inr rfl
      · exact Or.inl rfl
theorem nar_b {x : Int32} (h : x = nI 0 ∨ x = nI 1) : narrow .boolean (.int x) = .int x := by
  rcases h with h | h <;> rw [h] <;> rfl

abbrev rX3_isZero : Room := { frames := 0, cells := 0, slots := 0, locals := 0 }
/-- isZero -/
theorem met_X3_isZero {l : Launch} {G : va_G} {cJ cI : ClassId} {am : Nat → Nat} {D : Nat → Int32} {U : Nat → Int64} {X : CX} {sz : Nat} (a : Nat) (ha : a < 13) : kMi l yX3_isZero cX3_isZero 4 .boolean rX3_isZero G cJ cI [.ref (am 0), .int (nI a)] (mW cJ cI am D U X) sz (fun r (_ : Unit) => r = zrF D a 16) (fun _ => mW cJ cI am D U X) := by
  refine kStart (by decide) (Nat.le_of_ble_eq_true rfl) ?_
  intro p e s m below meth c ls F hr hlocks hin hsz hA hw hl
  have hl : lv_has ls 4 [(0, .ref (am 0)), (1, .int (nI a))] := hl
  refine lv_iconst (v := nI 1) F.1.1 F.1.2.1 dX3_isZero_0 (by decide) ?_
  refine lv_istore_n (lv' := [(2, .int (nI 1)), (0, .ref (am 0)), (1, .int (nI a))]) F.1.1 F.1.2.1 dX3_isZero_1 rfl hl (by decide) rfl (fun ls hl => ?_)
  refine lv_iconst (v := nI 0) F.1.1 F.1.2.1 dX3_isZero_2 (by decide) ?_
  refine lv_istore_n (lv' := [(3, .int (nI 0)), (2, .int (nI 1)), (0, .ref (am 0)), (1, .int (nI a))]) F.1.1 F.1.2.1 dX3_isZero_3 rfl hl (by decide) rfl (fun ls hl => ?_)
  refine lp_mzero F a ha (fun  H locs ls hw hl => ?_) 16 0 rfl  _ _ _ hw (lv_sub hl [2, 3, 1, 0] rfl)
  refine lv_iload_n F.1.1 F.1.2.1 dX3_isZero_40 rfl (lv_at hl 2 rfl) ?_
  exact kZret F hr hlocks (nar_b (zr_b D a 16)) () hw rfl dX3_isZero_41

abbrev rX3_isSame : Room := { frames := 0, cells := 0, slots := 0, locals := 0 }
/-- isSame -/
theorem met_X3_isSame {l : Launch} {G : va_G} {cJ cI : ClassId} {am : Nat → Nat} {D : Nat → Int32} {U : Nat → Int64} {X : CX} {sz : Nat} (a : Nat) (ha : a < 13) (b : Nat) (hb : b < 13) : kMi l yX3_isSame cX3_isSame 5 .boolean rX3_isSame G cJ cI [.ref (am 0), .int (nI a), .int (nI b)] (mW cJ cI am D U X) sz (fun r (_ : Unit) => r = smF D a b 16) (fun _ => mW cJ cI am D U X) := by
  refine kStart (by decide) (Nat.le_of_ble_eq_true rfl) ?_
  intro p e s m below meth c ls F hr hlocks hin hsz hA hw hl
  have hl : lv_has ls 5 [(0, .ref (am 0)), (1, .int (nI a)), (2, .int (nI b))] := hl
  refine lv_iconst (v := nI 1) F.1.1 F.1.2.1 dX3_isSame_0 (by decide) ?_
  refine lv_istore_n (lv' := [(3, .int (nI 1)), (0, .ref (am 0)), (1, .int (nI a)), (2, .int (nI b))]) F.1.1 F.1.2.1 dX3_isSame_1 rfl hl (by decide) rfl (fun ls hl => ?_)
  refine lv_iconst (v := nI 0) F.1.1 F.1.2.1 dX3_isSame_2 (by decide) ?_
  refine lv_istore (lv' := [(4, .int (nI 0)), (3, .int (nI 1)), (0, .ref (am 0)), (1, .int (nI a)), (2, .int (nI b))]) F.1.1 F.1.2.1 dX3_isSame_3 hl (by decide) rfl (fun ls hl => ?_)
  refine lp_msame F a ha b hb (fun  H locs ls hw hl => ?_) 16 0 rfl  _ _ _ hw (lv_sub hl [2, 3, 4, 1, 0] rfl)
  refine lv_iload_n F.1.1 F.1.2.1 dX3_isSame_55 rfl (lv_at hl 3 rfl) ?_
  exact kZret F hr hlocks (nar_b (sm_b D a b 16)) () hw rfl dX3_isSame_56

abbrev rX3_longOf : Room := { frames := 0, cells := 0, slots := 0, locals := 0 }
/-- longOf -/
theorem met_X3_longOf {l : Launch} {G : va_G} {cJ cI : ClassId} {am : Nat → Nat} {D : Nat → Int32} {U : Nat → Int64} {X : CX} {sz : Nat} (a : Nat) (ha : a < 13) (q : Nat) (hq : q < 4) : kMl l yX3_longOf cX3_longOf 6 rX3_longOf G cJ cI [.ref (am 0), .int (nI a), .int (nI q)] (mW cJ cI am D U X) sz (fun r (_ : Unit) => r = loF D a q 4) (fun _ => mW cJ cI am D U X) := by
  refine kStart (by decide) (Nat.le_of_ble_eq_true rfl) ?_
  intro p e s m below meth c ls F hr hlocks hin hsz hA hw hl
  have hl : lv_has ls 6 [(0, .ref (am 0)), (1, .int (nI a)), (2, .int (nI q))] := hl
  refine lv_lconst (v := 0) F.1.1 F.1.2.1 dX3_longOf_0 (by decide) ?_
  refine lv_lstore_n (lv' := [(3, .long 0), (0, .ref (am 0)), (1, .int (nI a)), (2, .int (nI q))]) F.1.1 F.1.2.1 dX3_longOf_1 rfl hl (by decide) rfl (fun ls hl => ?_)
  refine lv_iconst (v := nI 3) F.1.1 F.1.2.1 dX3_longOf_2 (by decide) ?_
  refine lv_istore (lv' := [(5, .int (nI 3)), (3, .long 0), (0, .ref (am 0)), (1, .int (nI a)), (2, .int (nI q))]) F.1.1 F.1.2.1 dX3_longOf_3 hl (by decide) rfl (fun ls hl => ?_)
  refine lp_longOf F a ha q hq (fun  H locs ls hw hl => ?_) 4 0 rfl  _ _ _ hw (lv_sub hl [2, 3, 4, 1, 0] rfl)
  refine lv_lload_n F.1.1 F.1.2.1 dX3_longOf_40 rfl (lv_at hl 3 rfl) ?_
  exact kLret F hr hlocks () hw rfl dX3_longOf_41
end
section
/-! ===== LadderDeskModel: its own calls ===== -/
set_option maxRecDepth 100000

abbrev rX3_isLong : Room := { frames := 0, cells := 0, slots := 0, locals := 0 }
/-- isLong -/
theorem met_X3_isLong {l : Launch} {G : va_G} {cJ cI : ClassId} {w : va_W} {sz : Nat} (k : Int32) : kMi l yX3_isLong cX3_isLong 1 .boolean rX3_isLong G cJ cI [.int k] (w) sz (fun r (_ : Unit) => r = isL k) (fun _ => w) := by
  refine kStart (by decide) (Nat.le_of_ble_eq_true rfl) ?_
  intro p e s m below meth c ls F hr hlocks hin hsz hA hw hl
  have hl : lv_has ls 1 [(0, .int k)] := hl
  refine lv_iload_n F.1.1 F.1.2.1 dX3_isLong_0 rfl (lv_at hl 0 rfl) ?_
  refine lv_if_lt (tgt := 13) F.1.1 F.1.2.1 dX3_isLong_1 (by decide) (fun c1 => ?_) (fun c1 => ?_)
  · refine lv_iconst (v := nI 0) F.1.1 F.1.2.1 dX3_isLong_13 (by decide) ?_
    exact kZret F hr hlocks rfl () hw (by first | (unfold isL; rw [if_pos c1]; rfl) | (unfold isL; rw [if_neg c1, if_pos c6]; rfl) | (unfold isL; rw [if_neg c1, if_neg c6]; rfl)) dX3_isLong_14
  · refine lv_iload_n F.1.1 F.1.2.1 dX3_isLong_4 rfl (lv_at hl 0 rfl) ?_
    refine lv_iconst (v := nI 4) F.1.1 F.1.2.1 dX3_isLong_5 (by decide) ?_
    refine lv_icmp_ge (tgt := 13) F.1.1 F.1.2.1 dX3_isLong_6 (by decide) (fun c6 => ?_) (fun c6 => ?_)
    · refine lv_iconst (v := nI 0) F.1.1 F.1.2.1 dX3_isLong_13 (by decide) ?_
      exact kZret F hr hlocks rfl () hw (by first | (unfold isL; rw [if_pos c1]; rfl) | (unfold isL; rw [if_neg c1, if_pos c6]; rfl) | (unfold isL; rw [if_neg c1, if_neg c6]; rfl)) dX3_isLong_14
    · refine lv_iconst (v := nI 1) F.1.1 F.1.2.1 dX3_isLong_9 (by decide) ?_
      refine lv_goto (tgt := 14) F.1.1 F.1.2.1 dX3_isLong_10 (by decide) ?_
      exact kZret F hr hlocks rfl () hw (by first | (unfold isL; rw [if_pos c1]; rfl) | (unfold isL; rw [if_neg c1, if_pos c6]; rfl) | (unfold isL; rw [if_neg c1, if_neg c6]; rfl)) dX3_isLong_14

abbrev rX3_scalar : Room := { frames := 1, cells := 0, slots := 0, locals := 20 }
/-- scalar -/
theorem met_X3_scalar {l : Launch} {G : va_G} {cJ cI : ClassId} {am : Nat → Nat} {D : Nat → Int32} {U : Nat → Int64} {sc pt : Nat → Int64} {ph md rs : Int32} {sz : Nat} (k : Int32) (v : Int64) : kMi l yX3_scalar cX3_scalar 4 .int rX3_scalar G cJ cI [.ref (am 0), .int k, .long v] (mW cJ cI am D U ((sc, pt, ph, md, rs))) sz (fun r (_ : Unit) => r = if ph = 0 ∧ ¬ isL k = 0 then 1 else 0) (fun _ => mW cJ cI am D U ((if ph = 0 ∧ ¬ isL k = 0 then vp_updL sc k.toNatClampNeg v else sc, pt, ph, md, rs))) := by
  refine kStart (by decide) (Nat.le_of_ble_eq_true rfl) ?_
  intro p e s m below meth c ls F hr hlocks hin hsz hA hw hl
  have hl : lv_has ls 4 [(0, .ref (am 0)), (1, .int k), (2, .long v)] := hl
  refine lv_aload_n F.1.1 F.1.2.1 dX3_scalar_0 rfl (lv_at hl 0 rfl) ?_
  refine mGf (v := .int ph) F hw 0 (by decide) rfl q259 (fun _ h9 => h9) dX3_scalar_1 ?_
  refine lv_if_ne (tgt := 14) F.1.1 F.1.2.1 dX3_scalar_4 (by decide) (fun c4 => ?_) (fun c4 => ?_)
  · refine lv_iconst (v := nI 0) F.1.1 F.1.2.1 dX3_scalar_14 (by decide) ?_
    first
    | (have hno : ¬ (ph = 0 ∧ ¬ isL k = 0) := fun h9 => h9.2 (by rw [← hp8]; exact c11))
    | (have hno : ¬ (ph = 0 ∧ ¬ isL k = 0) := fun h9 => c4 h9.1)
    exact kIret F hr hlocks () (by rw [if_neg hno]; exact hw) (by rw [if_neg hno]; rfl) dX3_scalar_15
  · refine lv_iload_n F.1.1 F.1.2.1 dX3_scalar_7 rfl (lv_at hl 1 rfl) ?_
    refine kCSi (As := [.int k]) F hw hA (met_X3_isLong _) (va_cwS 1 F.1.2.2.2.2 (lw_S q286 q287 q24 q288) rfl rfl rfl (by decide +kernel) ⟨Nat.le_of_ble_eq_true rfl, Nat.le_of_ble_eq_true rfl⟩) rfl hl.1 rfl (Nat.le_of_ble_eq_true rfl) dX3_scalar_8 ⟨Nat.le_of_ble_eq_true rfl, Nat.le_of_ble_eq_true rfl⟩ (fun r8 u8 H locs hp8 hw => ?_)
    refine lv_if_ne (tgt := 16) F.1.1 F.1.2.1 dX3_scalar_11 (by decide) (fun c11 => ?_) (fun c11 => ?_)
    · have hyes : ph = 0 ∧ ¬ isL k = 0 := ⟨c4, by rw [← hp8]; exact c11⟩
      rw [if_pos hyes, if_pos hyes]
      obtain ⟨q, hq, rfl⟩ := isL_in hyes.2
      rw [nI_clamp (by omega)]
      refine lv_aload_n F.1.1 F.1.2.1 dX3_scalar_16 rfl (lv_at hl 0 rfl) ?_
      refine mGf (v := .ref (am 1)) F hw 3 (by decide) rfl q262 (fun _ h9 => h9) dX3_scalar_17 ?_
      refine lv_iload_n F.1.1 F.1.2.1 dX3_scalar_20 rfl (lv_at hl 1 rfl) ?_
      refine lv_lload_n F.1.1 F.1.2.1 dX3_scalar_21 rfl (lv_at hl 2 rfl) ?_
      refine mSc F hw q rfl (by omega) dX3_scalar_22 (fun H locs hw => ?_)
      refine lv_iconst (v := nI 1) F.1.1 F.1.2.1 dX3_scalar_23 (by decide) ?_
      exact kIret F hr hlocks () hw rfl dX3_scalar_24
    · refine lv_iconst (v := nI 0) F.1.1 F.1.2.1 dX3_scalar_14 (by decide) ?_
      first
      | (have hno : ¬ (ph = 0 ∧ ¬ isL k = 0) := fun h9 => h9.2 (by rw [← hp8]; exact c11))
      | (have hno : ¬ (ph = 0 ∧ ¬ isL k = 0) := fun h9 => c4 h9.1)
      exact kIret F hr hlocks () (by rw [if_neg hno]; exact hw) (by rw [if_neg hno]; rfl) dX3_scalar_15

abbrev rX3_point : Room := { frames := 1, cells := 0, slots := 0, locals := 20 }
/-- point -/
theorem met_X3_point {l : Launch} {G : va_G} {cJ cI : ClassId} {am : Nat → Nat} {D : Nat → Int32} {U : Nat → Int64} {sc pt : Nat → Int64} {ph md rs : Int32} {sz : Nat} (k : Int32) (v : Int64) : kMi l yX3_point cX3_point 4 .int rX3_point G cJ cI [.ref (am 0), .int k, .long v] (mW cJ cI am D U ((sc, pt, ph, md, rs))) sz (fun r (_ : Unit) => r = if ph = 0 ∧ ¬ isL k = 0 then 1 else 0) (fun _ => mW cJ cI am D U ((sc, if ph = 0 ∧ ¬ isL k = 0 then vp_updL pt k.toNatClampNeg v else pt, ph, md, rs))) := by
  refine kStart (by decide) (Nat.le_of_ble_eq_true rfl) ?_
  intro p e s m below meth c ls F hr hlocks hin hsz hA hw hl
  have hl : lv_has ls 4 [(0, .ref (am 0)), (1, .int k), (2, .long v)] := hl
  refine lv_aload_n F.1.1 F.1.2.1 dX3_point_0 rfl (lv_at hl 0 rfl) ?_
  refine mGf (v := .int ph) F hw 0 (by decide) rfl q259 (fun _ h9 => h9) dX3_point_1 ?_
  refine lv_if_ne (tgt := 14) F.1.1 F.1.2.1 dX3_point_4 (by decide) (fun c4 => ?_) (fun c4 => ?_)
  · refine lv_iconst (v := nI 0) F.1.1 F.1.2.1 dX3_point_14 (by decide) ?_
    first
    | (have hno : ¬ (ph = 0 ∧ ¬ isL k = 0) := fun h9 => h9.2 (by rw [← hp8]; exact c11))
    | (have hno : ¬ (ph = 0 ∧ ¬ isL k = 0) := fun h9 => c4 h9.1)
    exact kIret F hr hlocks () (by rw [if_neg hno]; exact hw) (by rw [if_neg hno]; rfl) dX3_point_15
  · refine lv_iload_n F.1.1 F.1.2.1 dX3_point_7 rfl (lv_at hl 1 rfl) ?_
    refine kCSi (As := [.int k]) F hw hA (met_X3_isLong _) (va_cwS 1 F.1.2.2.2.2 (lw_S q286 q287 q24 q288) rfl rfl rfl (by decide +kernel) ⟨Nat.le_of_ble_eq_true rfl, Nat.le_of_ble_eq_true rfl⟩) rfl hl.1 rfl (Nat.le_of_ble_eq_true rfl) dX3_point_8 ⟨Nat.le_of_ble_eq_true rfl, Nat.le_of_ble_eq_true rfl⟩ (fun r8 u8 H locs hp8 hw => ?_)
    refine lv_if_ne (tgt := 16) F.1.1 F.1.2.1 dX3_point_11 (by decide) (fun c11 => ?_) (fun c11 => ?_)
    · have hyes : ph = 0 ∧ ¬ isL k = 0 := ⟨c4, by rw [← hp8]; exact c11⟩
      rw [if_pos hyes, if_pos hyes]
      obtain ⟨q, hq, rfl⟩ := isL_in hyes.2
      rw [nI_clamp (by omega)]
      refine lv_aload_n F.1.1 F.1.2.1 dX3_point_16 rfl (lv_at hl 0 rfl) ?_
      refine mGf (v := .ref (am 2)) F hw 4 (by decide) rfl q263 (fun _ h9 => h9) dX3_point_17 ?_
      refine lv_iload_n F.1.1 F.1.2.1 dX3_point_20 rfl (lv_at hl 1 rfl) ?_
      refine lv_lload_n F.1.1 F.1.2.1 dX3_point_21 rfl (lv_at hl 2 rfl) ?_
      refine mSt F hw q rfl (by omega) dX3_point_22 (fun H locs hw => ?_)
      refine lv_iconst (v := nI 1) F.1.1 F.1.2.1 dX3_point_23 (by decide) ?_
      exact kIret F hr hlocks () hw rfl dX3_point_24
    · refine lv_iconst (v := nI 0) F.1.1 F.1.2.1 dX3_point_14 (by decide) ?_
      first
      | (have hno : ¬ (ph = 0 ∧ ¬ isL k = 0) := fun h9 => h9.2 (by rw [← hp8]; exact c11))
      | (have hno : ¬ (ph = 0 ∧ ¬ isL k = 0) := fun h9 => c4 h9.1)
      exact kIret F hr hlocks () (by rw [if_neg hno]; exact hw) (by rw [if_neg hno]; rfl) dX3_point_15

abbrev rX3_reset : Room := { frames := 0, cells := 0, slots := 0, locals := 0 }
/-- reset -/
theorem met_X3_reset {l : Launch} {G : va_G} {cJ cI : ClassId} {am : Nat → Nat} {D : Nat → Int32} {U : Nat → Int64} {sc pt : Nat → Int64} {ph md rs : Int32} {sz : Nat}  : kMi l yX3_reset cX3_reset 2 .int rX3_reset G cJ cI [.ref (am 0)] (mW cJ cI am D U ((sc, pt, ph, md, rs))) sz (fun r (_ : Unit) => r = ph) (fun _ => mW cJ cI am D U ((sc, pt, nI 0, md, rs))) := by
  refine kStart (by decide) (Nat.le_of_ble_eq_true rfl) ?_
  intro p e s m below meth c ls F hr hlocks hin hsz hA hw hl
  have hl : lv_has ls 2 [(0, .ref (am 0))] := hl
  refine lv_aload_n F.1.1 F.1.2.1 dX3_reset_0 rfl (lv_at hl 0 rfl) ?_
  refine mGf (v := .int ph) F hw 0 (by decide) rfl q259 (fun _ h9 => h9) dX3_reset_1 ?_
  refine lv_istore_n (lv' := [(1, .int ph), (0, .ref (am 0))]) F.1.1 F.1.2.1 dX3_reset_4 rfl hl (by decide) rfl (fun ls hl => ?_)
  refine lv_aload_n F.1.1 F.1.2.1 dX3_reset_5 rfl (lv_at hl 1 rfl) ?_
  refine lv_iconst (v := nI 0) F.1.1 F.1.2.1 dX3_reset_6 (by decide) ?_
  refine mPf F hw 0 (by decide) rfl (by decide +kernel) q259 (fun _ h9 => h9) dX3_reset_7 (sc, pt, nI 0, md, rs) rfl rfl rfl (fun H locs hw => ?_)
  refine lv_iload_n F.1.1 F.1.2.1 dX3_reset_10 rfl (lv_at hl 0 rfl) ?_
  exact kIret F hr hlocks () hw rfl dX3_reset_11

abbrev rX3_phase : Room := { frames := 0, cells := 0, slots := 0, locals := 0 }
/-- phase -/
theorem met_X3_phase {l : Launch} {G : va_G} {cJ cI : ClassId} {am : Nat → Nat} {D : Nat → Int32} {U : Nat → Int64} {sc pt : Nat → Int64} {ph md rs : Int32} {sz : Nat}  : kMi l yX3_phase cX3_phase 1 .int rX3_phase G cJ cI [.ref (am 0)] (mW cJ cI am D U ((sc, pt, ph, md, rs))) sz (fun r (_ : Unit) => r = ph) (fun _ => mW cJ cI am D U ((sc, pt, ph, md, rs))) := by
  refine kStart (by decide) (Nat.le_of_ble_eq_true rfl) ?_
  intro p e s m below meth c ls F hr hlocks hin hsz hA hw hl
  have hl : lv_has ls 1 [(0, .ref (am 0))] := hl
  refine lv_aload_n F.1.1 F.1.2.1 dX3_phase_0 rfl (lv_at hl 0 rfl) ?_
  refine mGf (v := .int ph) F hw 0 (by decide) rfl q259 (fun _ h9 => h9) dX3_phase_1 ?_
  exact kIret F hr hlocks () hw rfl dX3_phase_4

abbrev rX3_count : Room := { frames := 0, cells := 0, slots := 0, locals := 0 }
/-- count -/
theorem met_X3_count {l : Launch} {G : va_G} {cJ cI : ClassId} {am : Nat → Nat} {D : Nat → Int32} {U : Nat → Int64} {sc pt : Nat → Int64} {ph md rs : Int32} {sz : Nat} (k : Int32) : kMi l yX3_count cX3_count 2 .int rX3_count G cJ cI [.ref (am 0), .int k] (mW cJ cI am D U ((sc, pt, ph, md, rs))) sz (fun r (_ : Unit) => r = cntF ph md rs k) (fun _ => mW cJ cI am D U ((sc, pt, ph, md, rs))) := by
  refine kStart (by decide) (Nat.le_of_ble_eq_true rfl) ?_
  intro p e s m below meth c ls F hr hlocks hin hsz hA hw hl
  have hl : lv_has ls 2 [(0, .ref (am 0)), (1, .int k)] := hl
  refine lv_iload_n F.1.1 F.1.2.1 dX3_count_0 rfl (lv_at hl 1 rfl) ?_
  refine lv_if_ne (tgt := 22) F.1.1 F.1.2.1 dX3_count_1 (by decide) (fun c1 => ?_) (fun c1 => ?_)
  · refine lv_iload_n F.1.1 F.1.2.1 dX3_count_22 rfl (lv_at hl 1 rfl) ?_
    refine lv_iconst (v := nI 1) F.1.1 F.1.2.1 dX3_count_23 (by decide) ?_
    refine lv_icmp_ne (tgt := 34) F.1.1 F.1.2.1 dX3_count_24 (by decide) (fun c24 => ?_) (fun c24 => ?_)
    · refine lv_iconst (v := -1) F.1.1 F.1.2.1 dX3_count_34 (by decide) ?_
      exact kIret F hr hlocks () hw (by first | (unfold cntF; rw [if_pos c1, if_pos c8]; rfl) | (unfold cntF; rw [if_pos c1, if_neg c8]) | (unfold cntF; rw [if_neg c1, if_pos c24]) | (unfold cntF; rw [if_neg c1, if_neg c24])) dX3_count_35
    · refine lv_aload_n F.1.1 F.1.2.1 dX3_count_27 rfl (lv_at hl 0 rfl) ?_
      refine mGf (v := .int rs) F hw 2 (by decide) rfl q261 (fun _ h9 => h9) dX3_count_28 ?_
      refine lv_goto (tgt := 35) F.1.1 F.1.2.1 dX3_count_31 (by decide) ?_
      exact kIret F hr hlocks () hw (by first | (unfold cntF; rw [if_pos c1, if_pos c8]; rfl) | (unfold cntF; rw [if_pos c1, if_neg c8]) | (unfold cntF; rw [if_neg c1, if_pos c24]) | (unfold cntF; rw [if_neg c1, if_neg c24])) dX3_count_35
  · refine lv_aload_n F.1.1 F.1.2.1 dX3_count_4 rfl (lv_at hl 0 rfl) ?_
    refine mGf (v := .int ph) F hw 0 (by decide) rfl q259 (fun _ h9 => h9) dX3_count_5 ?_
    refine lv_if_ne (tgt := 15) F.1.1 F.1.2.1 dX3_count_8 (by decide) (fun c8 => ?_) (fun c8 => ?_)
    · refine lv_aload_n F.1.1 F.1.2.1 dX3_count_15 rfl (lv_at hl 0 rfl) ?_
      refine mGf (v := .int md) F hw 1 (by decide) rfl q260 (fun _ h9 => h9) dX3_count_16 ?_
      refine lv_goto (tgt := 35) F.1.1 F.1.2.1 dX3_count_19 (by decide) ?_
      exact kIret F hr hlocks () hw (by first | (unfold cntF; rw [if_pos c1, if_pos c8]; rfl) | (unfold cntF; rw [if_pos c1, if_neg c8]) | (unfold cntF; rw [if_neg c1, if_pos c24]) | (unfold cntF; rw [if_neg c1, if_neg c24])) dX3_count_35
    · refine lv_iconst (v := nI 0) F.1.1 F.1.2.1 dX3_count_11 (by decide) ?_
      refine lv_goto (tgt := 35) F.1.1 F.1.2.1 dX3_count_12 (by decide) ?_
      exact kIret F hr hlocks () hw (by first | (unfold cntF; rw [if_pos c1, if_pos c8]; rfl) | (unfold cntF; rw [if_pos c1, if_neg c8]) | (unfold cntF; rw [if_neg c1, if_pos c24]) | (unfold cntF; rw [if_neg c1, if_neg c24])) dX3_count_35

theorem bt0 {sc : Nat → Int64} {b : Nat} (h : b < 3 ∨ b = 255) : nI 0 = btF sc b := by
  unfold btF
  rw [if_pos h]
  rfl
theorem bt1 {sc : Nat → Int64} {b : Nat} (h : ¬ (b < 3 ∨ b = 255)) (h2 : b = 254 ∨ ((sc (b / 64) >>> ((nI (b % 64)).toInt64 &&& 63)) &&& 1) = 1) : nI 1 = btF sc b := by
  unfold btF
  rw [if_neg h, if_pos h2]
  rfl
theorem bt2 {sc : Nat → Int64} {b : Nat} (h : ¬ (b < 3 ∨ b = 255)) (h2 : ¬ (b = 254 ∨ ((sc (b / 64) >>> ((nI (b % 64)).toInt64 &&& 63)) &&& 1) = 1)) : nI 0 = btF sc b := by
  unfold btF
  rw [if_neg h, if_neg h2]
  rfl

abbrev rX3_bit : Room := { frames := 0, cells := 0, slots := 0, locals := 0 }
/-- bit -/
theorem met_X3_bit {l : Launch} {G : va_G} {cJ cI : ClassId} {am : Nat → Nat} {D : Nat → Int32} {U : Nat → Int64} {sc pt : Nat → Int64} {ph md rs : Int32} {sz : Nat} (b : Nat) (hb : b < 256) : kMi l yX3_bit cX3_bit 2 .boolean rX3_bit G cJ cI [.ref (am 0), .int (nI b)] (mW cJ cI am D U ((sc, pt, ph, md, rs))) sz (fun r (_ : Unit) => r = btF sc b) (fun _ => mW cJ cI am D U ((sc, pt, ph, md, rs))) := by
  refine kStart (by decide) (Nat.le_of_ble_eq_true rfl) ?_
  intro p e s m below meth c ls F hr hlocks hin hsz hA hw hl
  have hl : lv_has ls 2 [(0, .ref (am 0)), (1, .int (nI b))] := hl
  refine lv_iload_n F.1.1 F.1.2.1 dX3_bit_0 rfl (lv_at hl 1 rfl) ?_
  refine lv_iconst (v := nI 3) F.1.1 F.1.2.1 dX3_bit_1 (by decide) ?_
  refine lv_icmp_lt (tgt := 12) F.1.1 F.1.2.1 dX3_bit_2 (by decide) (fun c2 => ?_) (fun c2 => ?_)
  · refine lv_iconst (v := nI 0) F.1.1 F.1.2.1 dX3_bit_12 (by decide) ?_
    exact kZret F hr hlocks rfl () hw (bt0 (by first | exact Or.inl ((nI_ltI (by omega) (by omega)).mp c2) | exact Or.inr ((nI_eq (by omega) (by omega)).mp c9))) dX3_bit_13
  · refine lv_iload_n F.1.1 F.1.2.1 dX3_bit_5 rfl (lv_at hl 1 rfl) ?_
    refine lv_sipush (v := nI 255) F.1.1 F.1.2.1 dX3_bit_6 (by decide) ?_
    refine lv_icmp_ne (tgt := 14) F.1.1 F.1.2.1 dX3_bit_9 (by decide) (fun c9 => ?_) (fun c9 => ?_)
    · have hno : ¬ (b < 3 ∨ b = 255) := fun h9 => h9.elim (fun h8 => c2 (nI_lt h8 (by omega))) (fun h8 => c9 (keq h8))
      refine lv_iload_n F.1.1 F.1.2.1 dX3_bit_14 rfl (lv_at hl 1 rfl) ?_
      refine lv_sipush (v := nI 254) F.1.1 F.1.2.1 dX3_bit_15 (by decide) ?_
      refine lv_icmp_eq (tgt := 42) F.1.1 F.1.2.1 dX3_bit_18 (by decide) (fun c18 => ?_) (fun c18 => ?_)
      · refine lv_iconst (v := nI 1) F.1.1 F.1.2.1 dX3_bit_42 (by decide) ?_
        refine lv_goto (tgt := 47) F.1.1 F.1.2.1 dX3_bit_43 (by decide) ?_
        exact kZret F hr hlocks rfl () hw (by first | exact bt1 hno (Or.inl ((nI_eq (by omega) (by omega)).mp c18)) | exact bt1 hno (Or.inr c39) | exact bt2 hno (fun h9 => h9.elim (fun h8 => c18 (keq h8)) c39)) dX3_bit_47
      · refine lv_aload_n F.1.1 F.1.2.1 dX3_bit_21 rfl (lv_at hl 0 rfl) ?_
        refine mGf (v := .ref (am 1)) F hw 3 (by decide) rfl q262 (fun _ h9 => h9) dX3_bit_22 ?_
        refine lv_iload_n F.1.1 F.1.2.1 dX3_bit_25 rfl (lv_at hl 1 rfl) ?_
        refine lv_bipush (v := nI 64) F.1.1 F.1.2.1 dX3_bit_26 (by decide) ?_
        refine lv_idiv F.1.1 F.1.2.1 dX3_bit_28 (by decide) ?_
        refine kTi (pk_div (by omega) (by decide) (by decide)) ?_
        refine mLc F hw (b / 64) rfl (by omega) dX3_bit_29 ?_
        refine lv_iload_n F.1.1 F.1.2.1 dX3_bit_30 rfl (lv_at hl 1 rfl) ?_
        refine lv_bipush (v := nI 64) F.1.1 F.1.2.1 dX3_bit_31 (by decide) ?_
        refine lv_irem F.1.1 F.1.2.1 dX3_bit_33 (by decide) ?_
        refine kTi (pk_rem (by omega) (by decide) (by decide)) ?_
        refine lv_lshr F.1.1 F.1.2.1 dX3_bit_34 rfl ?_
        refine lv_lconst (v := 1) F.1.1 F.1.2.1 dX3_bit_35 (by decide) ?_
        refine lv_land F.1.1 F.1.2.1 dX3_bit_36 ?_
        refine lv_lconst (v := 1) F.1.1 F.1.2.1 dX3_bit_37 (by decide) ?_
        refine W.lcmp F.1.1 F.1.2.1 dX3_bit_38 ?_
        refine lv_if_ne (tgt := 46) F.1.1 F.1.2.1 dX3_bit_39 (by decide) (fun c39 => ?_) (fun c39 => ?_)
        · have c39 := mt (lg_cmp_eq _ _).mpr c39
          refine lv_iconst (v := nI 0) F.1.1 F.1.2.1 dX3_bit_46 (by decide) ?_
          exact kZret F hr hlocks rfl () hw (by first | exact bt1 hno (Or.inl ((nI_eq (by omega) (by omega)).mp c18)) | exact bt1 hno (Or.inr c39) | exact bt2 hno (fun h9 => h9.elim (fun h8 => c18 (keq h8)) c39)) dX3_bit_47
        · have c39 := (lg_cmp_eq _ _).mp c39
          refine lv_iconst (v := nI 1) F.1.1 F.1.2.1 dX3_bit_42 (by decide) ?_
          refine lv_goto (tgt := 47) F.1.1 F.1.2.1 dX3_bit_43 (by decide) ?_
          exact kZret F hr hlocks rfl () hw (by first | exact bt1 hno (Or.inl ((nI_eq (by omega) (by omega)).mp c18)) | exact bt1 hno (Or.inr c39) | exact bt2 hno (fun h9 => h9.elim (fun h8 => c18 (keq h8)) c39)) dX3_bit_47
    · refine lv_iconst (v := nI 0) F.1.1 F.1.2.1 dX3_bit_12 (by decide) ?_
      exact kZret F hr hlocks rfl () hw (bt0 (by first | exact Or.inl ((nI_ltI (by omega) (by omega)).mp c2) | exact Or.inr ((nI_eq (by omega) (by omega)).mp c9))) dX3_bit_13

def mStart (pt : Nat → Int64) (D : Nat → Int32) : Nat → Int32 := dSet 3 (nI 1) (dCpy 2 4 (dSet 1 (nI 0) (dSet 0 (nI 1) (dMkU pt D))))

abbrev rX3_start : Room := { frames := 4, cells := 0, slots := 0, locals := 91 }
/-- start -/
theorem met_X3_start {l : Launch} {G : va_G} {cJ cI : ClassId} {am : Nat → Nat} {D : Nat → Int32} {U : Nat → Int64} {sc pt : Nat → Int64} {ph md rs : Int32} {sz : Nat}  : kMi l yX3_start cX3_start 1 .int rX3_start G cJ cI [.ref (am 0)] (mW cJ cI am D U ((sc, pt, ph, md, rs))) sz (fun r (_ : Nat → Int64) => r = if ph = 0 then 1 else 0) (fun U => mW cJ cI am (if ph = 0 then mStart pt D else D) U (if ph = 0 then (sc, pt, nI 1, nI 0, rs) else (sc, pt, ph, md, rs))) := by
  refine kStart (by decide) (Nat.le_of_ble_eq_true rfl) ?_
  intro p e s m below meth c ls F hr hlocks hin hsz hA hw hl
  have hl : lv_has ls 1 [(0, .ref (am 0))] := hl
  refine lv_aload_n F.1.1 F.1.2.1 dX3_start_0 rfl (lv_at hl 0 rfl) ?_
  refine mGf (v := .int ph) F hw 0 (by decide) rfl q259 (fun _ h9 => h9) dX3_start_1 ?_
  refine lv_if_eq (tgt := 9) F.1.1 F.1.2.1 dX3_start_4 (by decide) (fun c4 => ?_) (fun c4 => ?_)
  · refine lv_aload_n F.1.1 F.1.2.1 dX3_start_9 rfl (lv_at hl 0 rfl) ?_
    refine lv_iconst (v := nI 1) F.1.1 F.1.2.1 dX3_start_10 (by decide) ?_
    refine mPf F hw 0 (by decide) rfl (by decide +kernel) q259 (fun _ h9 => h9) dX3_start_11 (sc, pt, nI 1, md, rs) rfl rfl rfl (fun H locs hw => ?_)
    refine lv_aload_n F.1.1 F.1.2.1 dX3_start_14 rfl (lv_at hl 0 rfl) ?_
    refine lv_iconst (v := nI 0) F.1.1 F.1.2.1 dX3_start_15 (by decide) ?_
    refine mPf F hw 1 (by decide) rfl (by decide +kernel) q260 (fun _ h9 => h9) dX3_start_16 (sc, pt, nI 1, nI 0, rs) rfl rfl rfl (fun H locs hw => ?_)
    refine lv_aload_n F.1.1 F.1.2.1 dX3_start_19 rfl (lv_at hl 0 rfl) ?_
    refine kCv (As := []) F hw hA met_X3_makeU (cwV 0 F.1.2.2.2.2 (lw_V q297 q299 qs4 q24 q300) rfl rfl rfl (by decide +kernel) ⟨Nat.le_of_ble_eq_true rfl, Nat.le_of_ble_eq_true rfl⟩) mRc rfl hl.1 rfl (Nat.le_of_ble_eq_true rfl) dX3_start_20 ⟨Nat.le_of_ble_eq_true rfl, Nat.le_of_ble_eq_true rfl⟩ (fun U H locs hp hw => ?_)
    refine lv_aload_n F.1.1 F.1.2.1 dX3_start_23 rfl (lv_at hl 0 rfl) ?_
    refine lv_iconst (v := nI 0) F.1.1 F.1.2.1 dX3_start_24 (by decide) ?_
    refine lv_iconst (v := nI 1) F.1.1 F.1.2.1 dX3_start_25 (by decide) ?_
    refine kCv (As := [.int (nI 0), .int (nI 1)]) F hw hA (met_X3_setSmall 0 (by decide) (nI 1)) (cwV 2 F.1.2.2.2.2 (lw_V q318 q320 qs7 q24 q321) rfl rfl rfl (by decide +kernel) ⟨Nat.le_of_ble_eq_true rfl, Nat.le_of_ble_eq_true rfl⟩) mRc rfl hl.1 rfl (Nat.le_of_ble_eq_true rfl) dX3_start_26 ⟨Nat.le_of_ble_eq_true rfl, Nat.le_of_ble_eq_true rfl⟩ (fun U H locs hp hw => ?_)
    refine lv_aload_n F.1.1 F.1.2.1 dX3_start_29 rfl (lv_at hl 0 rfl) ?_
    refine lv_iconst (v := nI 1) F.1.1 F.1.2.1 dX3_start_30 (by decide) ?_
    refine lv_iconst (v := nI 0) F.1.1 F.1.2.1 dX3_start_31 (by decide) ?_
    refine kCv (As := [.int (nI 1), .int (nI 0)]) F hw hA (met_X3_setSmall 1 (by decide) (nI 0)) (cwV 2 F.1.2.2.2.2 (lw_V q318 q320 qs7 q24 q321) rfl rfl rfl (by decide +kernel) ⟨Nat.le_of_ble_eq_true rfl, Nat.le_of_ble_eq_true rfl⟩) mRc rfl hl.1 rfl (Nat.le_of_ble_eq_true rfl) dX3_start_32 ⟨Nat.le_of_ble_eq_true rfl, Nat.le_of_ble_eq_true rfl⟩ (fun U H locs hp hw => ?_)
    refine lv_aload_n F.1.1 F.1.2.1 dX3_start_35 rfl (lv_at hl 0 rfl) ?_
    refine lv_iconst (v := nI 2) F.1.1 F.1.2.1 dX3_start_36 (by decide) ?_
    refine lv_iconst (v := nI 4) F.1.1 F.1.2.1 dX3_start_37 (by decide) ?_
    refine kCv (As := [.int (nI 2), .int (nI 4)]) F hw hA (met_X3_copy 2 (by decide) 4 (by decide)) (cwV 2 F.1.2.2.2.2 (lw_V q322 q324 qs8 q24 q325) rfl rfl rfl (by decide +kernel) ⟨Nat.le_of_ble_eq_true rfl, Nat.le_of_ble_eq_true rfl⟩) mRc rfl hl.1 rfl (Nat.le_of_ble_eq_true rfl) dX3_start_38 ⟨Nat.le_of_ble_eq_true rfl, Nat.le_of_ble_eq_true rfl⟩ (fun U H locs hp hw => ?_)
    refine lv_aload_n F.1.1 F.1.2.1 dX3_start_41 rfl (lv_at hl 0 rfl) ?_
    refine lv_iconst (v := nI 3) F.1.1 F.1.2.1 dX3_start_42 (by decide) ?_
    refine lv_iconst (v := nI 1) F.1.1 F.1.2.1 dX3_start_43 (by decide) ?_
    refine kCv (As := [.int (nI 3), .int (nI 1)]) F hw hA (met_X3_setSmall 3 (by decide) (nI 1)) (cwV 2 F.1.2.2.2.2 (lw_V q318 q320 qs7 q24 q321) rfl rfl rfl (by decide +kernel) ⟨Nat.le_of_ble_eq_true rfl, Nat.le_of_ble_eq_true rfl⟩) mRc rfl hl.1 rfl (Nat.le_of_ble_eq_true rfl) dX3_start_44 ⟨Nat.le_of_ble_eq_true rfl, Nat.le_of_ble_eq_true rfl⟩ (fun U H locs hp hw => ?_)
    refine lv_iconst (v := nI 1) F.1.1 F.1.2.1 dX3_start_47 (by decide) ?_
    exact kIret F hr hlocks U (by rw [if_pos c4, if_pos c4]; exact hw) (by rw [if_pos c4]; rfl) dX3_start_48
  · refine lv_iconst (v := nI 0) F.1.1 F.1.2.1 dX3_start_7 (by decide) ?_
    exact kIret F hr hlocks U (by rw [if_neg c4, if_neg c4]; exact hw) (by rw [if_neg c4]; rfl) dX3_start_8

def mStep (z : Int32) (D : Nat → Int32) : Nat → Int32 := dChg z (dMul 3 4 11 (dMul 11 11 11 (dSub 11 9 8 (dMul 2 11 11 (dAdd 11 9 8 (dMul 1 10 11 (dAdd 11 11 6 (dMuS 11 10 (nI 121665) (dMul 0 6 7 (dSub 10 6 7 (dMul 7 7 7 (dMul 6 6 6 (dMul 8 8 7 (dMul 9 9 6 (dSub 9 2 3 (dAdd 8 2 3 (dSub 7 0 1 (dAdd 6 0 1 (dChg z D)))))))))))))))))))
def mSteps (sc : Nat → Int64) (a j : Nat) (D : Nat → Int32) : Nat → Int32 := it (fun n D => mStep (btF sc (254 - (a + n))) D) j D

abbrev rX3_stepOnce : Room := { frames := 4, cells := 0, slots := 0, locals := 98 }
/-- stepOnce -/
theorem met_X3_stepOnce {l : Launch} {G : va_G} {cJ cI : ClassId} {am : Nat → Nat} {D : Nat → Int32} {U : Nat → Int64} {sc pt : Nat → Int64} {ph rs : Int32} {sz : Nat} (n : Nat) (hn : n < 255) : kMv l yX3_stepOnce cX3_stepOnce 2 rX3_stepOnce G cJ cI [.ref (am 0)] (mW cJ cI am D U ((sc, pt, ph, nI n, rs))) sz (fun _ : Nat → Int64 => True) (fun U => mW cJ cI am (mStep (btF sc (254 - n)) D) U ((sc, pt, ph, nI (n + 1), rs))) := by
  refine kStart (by decide) (Nat.le_of_ble_eq_true rfl) ?_
  intro p e s m below meth c ls F hr hlocks hin hsz hA hw hl
  have hl : lv_has ls 2 [(0, .ref (am 0))] := hl
  refine lv_aload_n F.1.1 F.1.2.1 dX3_stepOnce_0 rfl (lv_at hl 0 rfl) ?_
  refine lv_sipush (v := nI 254) F.1.1 F.1.2.1 dX3_stepOnce_1 (by decide) ?_
  refine lv_aload_n F.1.1 F.1.2.1 dX3_stepOnce_4 rfl (lv_at hl 0 rfl) ?_
  refine mGf (v := .int (nI n)) F hw 1 (by decide) rfl q260 (fun _ h9 => h9) dX3_stepOnce_5 ?_
  refine lv_isub F.1.1 F.1.2.1 dX3_stepOnce_8 ?_
  refine kTi (pk_sub (by omega)) ?_
  refine kCi (As := [.int (nI (254 - n))]) F hw hA (met_X3_bit _ (by omega)) (cwV 1 F.1.2.2.2.2 (lw_V q334 q336 qs10 q24 q337) rfl rfl rfl (by decide +kernel) ⟨Nat.le_of_ble_eq_true rfl, Nat.le_of_ble_eq_true rfl⟩) mRc rfl hl.1 rfl (Nat.le_of_ble_eq_true rfl) dX3_stepOnce_9 ⟨Nat.le_of_ble_eq_true rfl, Nat.le_of_ble_eq_true rfl⟩ (fun r9 u9 H locs hp9 hw => ?_)
  subst hp9
  refine lv_topi (fun t1 et1 => ?_)
  refine lv_istore_n (lv' := [(1, .int t1), (0, .ref (am 0))]) F.1.1 F.1.2.1 dX3_stepOnce_12 rfl hl (by decide) rfl (fun ls hl => ?_)
  refine lv_aload_n F.1.1 F.1.2.1 dX3_stepOnce_13 rfl (lv_at hl 1 rfl) ?_
  refine lv_iload_n F.1.1 F.1.2.1 dX3_stepOnce_14 rfl (lv_at hl 0 rfl) ?_
  refine kCv (As := [.int t1]) F hw hA (met_X3_change _) (cwV 1 F.1.2.2.2.2 (lw_V q338 q340 qs11 q24 q341) rfl rfl rfl (by decide +kernel) ⟨Nat.le_of_ble_eq_true rfl, Nat.le_of_ble_eq_true rfl⟩) mRc rfl hl.1 rfl (Nat.le_of_ble_eq_true rfl) dX3_stepOnce_15 ⟨Nat.le_of_ble_eq_true rfl, Nat.le_of_ble_eq_true rfl⟩ (fun U H locs hp hw => ?_)
  refine lv_aload_n F.1.1 F.1.2.1 dX3_stepOnce_18 rfl (lv_at hl 1 rfl) ?_
  refine lv_bipush (v := nI 6) F.1.1 F.1.2.1 dX3_stepOnce_19 (by decide) ?_
  refine lv_iconst (v := nI 0) F.1.1 F.1.2.1 dX3_stepOnce_21 (by decide) ?_
  refine lv_iconst (v := nI 1) F.1.1 F.1.2.1 dX3_stepOnce_22 (by decide) ?_
  refine kCv (As := [.int (nI 6), .int (nI 0), .int (nI 1)]) F hw hA (met_X3_add 6 (by decide) 0 (by decide) 1 (by decide)) (cwV 3 F.1.2.2.2.2 (lw_V q346 q348 qs13 q24 q349) rfl rfl rfl (by decide +kernel) ⟨Nat.le_of_ble_eq_true rfl, Nat.le_of_ble_eq_true rfl⟩) mRc rfl hl.1 rfl (Nat.le_of_ble_eq_true rfl) dX3_stepOnce_23 ⟨Nat.le_of_ble_eq_true rfl, Nat.le_of_ble_eq_true rfl⟩ (fun U H locs hp hw => ?_)
  refine lv_aload_n F.1.1 F.1.2.1 dX3_stepOnce_26 rfl (lv_at hl 1 rfl) ?_
  refine lv_bipush (v := nI 7) F.1.1 F.1.2.1 dX3_stepOnce_27 (by decide) ?_
  refine lv_iconst (v := nI 0) F.1.1 F.1.2.1 dX3_stepOnce_29 (by decide) ?_
  refine lv_iconst (v := nI 1) F.1.1 F.1.2.1 dX3_stepOnce_30 (by decide) ?_
  refine kCv (As := [.int (nI 7), .int (nI 0), .int (nI 1)]) F hw hA (met_X3_subtract 7 (by decide) 0 (by decide) 1 (by decide)) (cwV 3 F.1.2.2.2.2 (lw_V q350 q352 qs14 q24 q353) rfl rfl rfl (by decide +kernel) ⟨Nat.le_of_ble_eq_true rfl, Nat.le_of_ble_eq_true rfl⟩) mRc rfl hl.1 rfl (Nat.le_of_ble_eq_true rfl) dX3_stepOnce_31 ⟨Nat.le_of_ble_eq_true rfl, Nat.le_of_ble_eq_true rfl⟩ (fun U H locs hp hw => ?_)
  refine lv_aload_n F.1.1 F.1.2.1 dX3_stepOnce_34 rfl (lv_at hl 1 rfl) ?_
  refine lv_bipush (v := nI 8) F.1.1 F.1.2.1 dX3_stepOnce_35 (by decide) ?_
  refine lv_iconst (v := nI 2) F.1.1 F.1.2.1 dX3_stepOnce_37 (by decide) ?_
  refine lv_iconst (v := nI 3) F.1.1 F.1.2.1 dX3_stepOnce_38 (by decide) ?_
  refine kCv (As := [.int (nI 8), .int (nI 2), .int (nI 3)]) F hw hA (met_X3_add 8 (by decide) 2 (by decide) 3 (by decide)) (cwV 3 F.1.2.2.2.2 (lw_V q346 q348 qs13 q24 q349) rfl rfl rfl (by decide +kernel) ⟨Nat.le_of_ble_eq_true rfl, Nat.le_of_ble_eq_true rfl⟩) mRc rfl hl.1 rfl (Nat.le_of_ble_eq_true rfl) dX3_stepOnce_39 ⟨Nat.le_of_ble_eq_true rfl, Nat.le_of_ble_eq_true rfl⟩ (fun U H locs hp hw => ?_)
  refine lv_aload_n F.1.1 F.1.2.1 dX3_stepOnce_42 rfl (lv_at hl 1 rfl) ?_
  refine lv_bipush (v := nI 9) F.1.1 F.1.2.1 dX3_stepOnce_43 (by decide) ?_
  refine lv_iconst (v := nI 2) F.1.1 F.1.2.1 dX3_stepOnce_45 (by decide) ?_
  refine lv_iconst (v := nI 3) F.1.1 F.1.2.1 dX3_stepOnce_46 (by decide) ?_
  refine kCv (As := [.int (nI 9), .int (nI 2), .int (nI 3)]) F hw hA (met_X3_subtract 9 (by decide) 2 (by decide) 3 (by decide)) (cwV 3 F.1.2.2.2.2 (lw_V q350 q352 qs14 q24 q353) rfl rfl rfl (by decide +kernel) ⟨Nat.le_of_ble_eq_true rfl, Nat.le_of_ble_eq_true rfl⟩) mRc rfl hl.1 rfl (Nat.le_of_ble_eq_true rfl) dX3_stepOnce_47 ⟨Nat.le_of_ble_eq_true rfl, Nat.le_of_ble_eq_true rfl⟩ (fun U H locs hp hw => ?_)
  refine lv_aload_n F.1.1 F.1.2.1 dX3_stepOnce_50 rfl (lv_at hl 1 rfl) ?_
  refine lv_bipush (v := nI 9) F.1.1 F.1.2.1 dX3_stepOnce_51 (by decide) ?_
  refine lv_bipush (v := nI 9) F.1.1 F.1.2.1 dX3_stepOnce_53 (by decide) ?_
  refine lv_bipush (v := nI 6) F.1.1 F.1.2.1 dX3_stepOnce_55 (by decide) ?_
  refine kCv (As := [.int (nI 9), .int (nI 9), .int (nI 6)]) F hw hA (met_X3_multiply 9 (by decide) 9 (by decide) 6 (by decide)) (cwV 3 F.1.2.2.2.2 (lw_V q355 q357 qs15 q24 q358) rfl rfl rfl (by decide +kernel) ⟨Nat.le_of_ble_eq_true rfl, Nat.le_of_ble_eq_true rfl⟩) mRc rfl hl.1 rfl (Nat.le_of_ble_eq_true rfl) dX3_stepOnce_57 ⟨Nat.le_of_ble_eq_true rfl, Nat.le_of_ble_eq_true rfl⟩ (fun U H locs hp hw => ?_)
  refine lv_aload_n F.1.1 F.1.2.1 dX3_stepOnce_60 rfl (lv_at hl 1 rfl) ?_
  refine lv_bipush (v := nI 8) F.1.1 F.1.2.1 dX3_stepOnce_61 (by decide) ?_
  refine lv_bipush (v := nI 8) F.1.1 F.1.2.1 dX3_stepOnce_63 (by decide) ?_
  refine lv_bipush (v := nI 7) F.1.1 F.1.2.1 dX3_stepOnce_65 (by decide) ?_
  refine kCv (As := [.int (nI 8), .int (nI 8), .int (nI 7)]) F hw hA (met_X3_multiply 8 (by decide) 8 (by decide) 7 (by decide)) (cwV 3 F.1.2.2.2.2 (lw_V q355 q357 qs15 q24 q358) rfl rfl rfl (by decide +kernel) ⟨Nat.le_of_ble_eq_true rfl, Nat.le_of_ble_eq_true rfl⟩) mRc rfl hl.1 rfl (Nat.le_of_ble_eq_true rfl) dX3_stepOnce_67 ⟨Nat.le_of_ble_eq_true rfl, Nat.le_of_ble_eq_true rfl⟩ (fun U H locs hp hw => ?_)
  refine lv_aload_n F.1.1 F.1.2.1 dX3_stepOnce_70 rfl (lv_at hl 1 rfl) ?_
  refine lv_bipush (v := nI 6) F.1.1 F.1.2.1 dX3_stepOnce_71 (by decide) ?_
  refine lv_bipush (v := nI 6) F.1.1 F.1.2.1 dX3_stepOnce_73 (by decide) ?_
  refine lv_bipush (v := nI 6) F.1.1 F.1.2.1 dX3_stepOnce_75 (by decide) ?_
  refine kCv (As := [.int (nI 6), .int (nI 6), .int (nI 6)]) F hw hA (met_X3_multiply 6 (by decide) 6 (by decide) 6 (by decide)) (cwV 3 F.1.2.2.2.2 (lw_V q355 q357 qs15 q24 q358) rfl rfl rfl (by decide +kernel) ⟨Nat.le_of_ble_eq_true rfl, Nat.le_of_ble_eq_true rfl⟩) mRc rfl hl.1 rfl (Nat.le_of_ble_eq_true rfl) dX3_stepOnce_77 ⟨Nat.le_of_ble_eq_true rfl, Nat.le_of_ble_eq_true rfl⟩ (fun U H locs hp hw => ?_)
  refine lv_aload_n F.1.1 F.1.2.1 dX3_stepOnce_80 rfl (lv_at hl 1 rfl) ?_
  refine lv_bipush (v := nI 7) F.1.1 F.1.2.1 dX3_stepOnce_81 (by decide) ?_
  refine lv_bipush (v := nI 7) F.1.1 F.1.2.1 dX3_stepOnce_83 (by decide) ?_
  refine lv_bipush (v := nI 7) F.1.1 F.1.2.1 dX3_stepOnce_85 (by decide) ?_
  refine kCv (As := [.int (nI 7), .int (nI 7), .int (nI 7)]) F hw hA (met_X3_multiply 7 (by decide) 7 (by decide) 7 (by decide)) (cwV 3 F.1.2.2.2.2 (lw_V q355 q357 qs15 q24 q358) rfl rfl rfl (by decide +kernel) ⟨Nat.le_of_ble_eq_true rfl, Nat.le_of_ble_eq_true rfl⟩) mRc rfl hl.1 rfl (Nat.le_of_ble_eq_true rfl) dX3_stepOnce_87 ⟨Nat.le_of_ble_eq_true rfl, Nat.le_of_ble_eq_true rfl⟩ (fun U H locs hp hw => ?_)
  refine lv_aload_n F.1.1 F.1.2.1 dX3_stepOnce_90 rfl (lv_at hl 1 rfl) ?_
  refine lv_bipush (v := nI 10) F.1.1 F.1.2.1 dX3_stepOnce_91 (by decide) ?_
  refine lv_bipush (v := nI 6) F.1.1 F.1.2.1 dX3_stepOnce_93 (by decide) ?_
  refine lv_bipush (v := nI 7) F.1.1 F.1.2.1 dX3_stepOnce_95 (by decide) ?_
  refine kCv (As := [.int (nI 10), .int (nI 6), .int (nI 7)]) F hw hA (met_X3_subtract 10 (by decide) 6 (by decide) 7 (by decide)) (cwV 3 F.1.2.2.2.2 (lw_V q350 q352 qs14 q24 q353) rfl rfl rfl (by decide +kernel) ⟨Nat.le_of_ble_eq_true rfl, Nat.le_of_ble_eq_true rfl⟩) mRc rfl hl.1 rfl (Nat.le_of_ble_eq_true rfl) dX3_stepOnce_97 ⟨Nat.le_of_ble_eq_true rfl, Nat.le_of_ble_eq_true rfl⟩ (fun U H locs hp hw => ?_)
  refine lv_aload_n F.1.1 F.1.2.1 dX3_stepOnce_100 rfl (lv_at hl 1 rfl) ?_
  refine lv_iconst (v := nI 0) F.1.1 F.1.2.1 dX3_stepOnce_101 (by decide) ?_
  refine lv_bipush (v := nI 6) F.1.1 F.1.2.1 dX3_stepOnce_102 (by decide) ?_
  refine lv_bipush (v := nI 7) F.1.1 F.1.2.1 dX3_stepOnce_104 (by decide) ?_
  refine kCv (As := [.int (nI 0), .int (nI 6), .int (nI 7)]) F hw hA (met_X3_multiply 0 (by decide) 6 (by decide) 7 (by decide)) (cwV 3 F.1.2.2.2.2 (lw_V q355 q357 qs15 q24 q358) rfl rfl rfl (by decide +kernel) ⟨Nat.le_of_ble_eq_true rfl, Nat.le_of_ble_eq_true rfl⟩) mRc rfl hl.1 rfl (Nat.le_of_ble_eq_true rfl) dX3_stepOnce_106 ⟨Nat.le_of_ble_eq_true rfl, Nat.le_of_ble_eq_true rfl⟩ (fun U H locs hp hw => ?_)
  refine lv_aload_n F.1.1 F.1.2.1 dX3_stepOnce_109 rfl (lv_at hl 1 rfl) ?_
  refine lv_bipush (v := nI 11) F.1.1 F.1.2.1 dX3_stepOnce_110 (by decide) ?_
  refine lv_bipush (v := nI 10) F.1.1 F.1.2.1 dX3_stepOnce_112 (by decide) ?_
  refine lv_ldc (v := 121665) F.1.1 F.1.2.1 F.1.2.2.2.1 (F.1.2.2.2.2 _ q360) dX3_stepOnce_114 ?_
  refine kTi (show (121665 : Int32) = nI 121665 by decide) ?_
  refine kCv (As := [.int (nI 11), .int (nI 10), .int (nI 121665)]) F hw hA (met_X3_multiplySmall 11 (by decide) 10 (by decide) (nI 121665)) (cwV 3 F.1.2.2.2.2 (lw_V q361 q363 qs16 q24 q364) rfl rfl rfl (by decide +kernel) ⟨Nat.le_of_ble_eq_true rfl, Nat.le_of_ble_eq_true rfl⟩) mRc rfl hl.1 rfl (Nat.le_of_ble_eq_true rfl) dX3_stepOnce_116 ⟨Nat.le_of_ble_eq_true rfl, Nat.le_of_ble_eq_true rfl⟩ (fun U H locs hp hw => ?_)
  refine lv_aload_n F.1.1 F.1.2.1 dX3_stepOnce_119 rfl (lv_at hl 1 rfl) ?_
  refine lv_bipush (v := nI 11) F.1.1 F.1.2.1 dX3_stepOnce_120 (by decide) ?_
  refine lv_bipush (v := nI 11) F.1.1 F.1.2.1 dX3_stepOnce_122 (by decide) ?_
  refine lv_bipush (v := nI 6) F.1.1 F.1.2.1 dX3_stepOnce_124 (by decide) ?_
  refine kCv (As := [.int (nI 11), .int (nI 11), .int (nI 6)]) F hw hA (met_X3_add 11 (by decide) 11 (by decide) 6 (by decide)) (cwV 3 F.1.2.2.2.2 (lw_V q346 q348 qs13 q24 q349) rfl rfl rfl (by decide +kernel) ⟨Nat.le_of_ble_eq_true rfl, Nat.le_of_ble_eq_true rfl⟩) mRc rfl hl.1 rfl (Nat.le_of_ble_eq_true rfl) dX3_stepOnce_126 ⟨Nat.le_of_ble_eq_true rfl, Nat.le_of_ble_eq_true rfl⟩ (fun U H locs hp hw => ?_)
  refine lv_aload_n F.1.1 F.1.2.1 dX3_stepOnce_129 rfl (lv_at hl 1 rfl) ?_
  refine lv_iconst (v := nI 1) F.1.1 F.1.2.1 dX3_stepOnce_130 (by decide) ?_
  refine lv_bipush (v := nI 10) F.1.1 F.1.2.1 dX3_stepOnce_131 (by decide) ?_
  refine lv_bipush (v := nI 11) F.1.1 F.1.2.1 dX3_stepOnce_133 (by decide) ?_
  refine kCv (As := [.int (nI 1), .int (nI 10), .int (nI 11)]) F hw hA (met_X3_multiply 1 (by decide) 10 (by decide) 11 (by decide)) (cwV 3 F.1.2.2.2.2 (lw_V q355 q357 qs15 q24 q358) rfl rfl rfl (by decide +kernel) ⟨Nat.le_of_ble_eq_true rfl, Nat.le_of_ble_eq_true rfl⟩) mRc rfl hl.1 rfl (Nat.le_of_ble_eq_true rfl) dX3_stepOnce_135 ⟨Nat.le_of_ble_eq_true rfl, Nat.le_of_ble_eq_true rfl⟩ (fun U H locs hp hw => ?_)
  refine lv_aload_n F.1.1 F.1.2.1 dX3_stepOnce_138 rfl (lv_at hl 1 rfl) ?_
  refine lv_bipush (v := nI 11) F.1.1 F.1.2.1 dX3_stepOnce_139 (by decide) ?_
  refine lv_bipush (v := nI 9) F.1.1 F.1.2.1 dX3_stepOnce_141 (by decide) ?_
  refine lv_bipush (v := nI 8) F.1.1 F.1.2.1 dX3_stepOnce_143 (by decide) ?_
  refine kCv (As := [.int (nI 11), .int (nI 9), .int (nI 8)]) F hw hA (met_X3_add 11 (by decide) 9 (by decide) 8 (by decide)) (cwV 3 F.1.2.2.2.2 (lw_V q346 q348 qs13 q24 q349) rfl rfl rfl (by decide +kernel) ⟨Nat.le_of_ble_eq_true rfl, Nat.le_of_ble_eq_true rfl⟩) mRc rfl hl.1 rfl (Nat.le_of_ble_eq_true rfl) dX3_stepOnce_145 ⟨Nat.le_of_ble_eq_true rfl, Nat.le_of_ble_eq_true rfl⟩ (fun U H locs hp hw => ?_)
  refine lv_aload_n F.1.1 F.1.2.1 dX3_stepOnce_148 rfl (lv_at hl 1 rfl) ?_
  refine lv_iconst (v := nI 2) F.1.1 F.1.2.1 dX3_stepOnce_149 (by decide) ?_
  refine lv_bipush (v := nI 11) F.1.1 F.1.2.1 dX3_stepOnce_150 (by decide) ?_
  refine lv_bipush (v := nI 11) F.1.1 F.1.2.1 dX3_stepOnce_152 (by decide) ?_
  refine kCv (As := [.int (nI 2), .int (nI 11), .int (nI 11)]) F hw hA (met_X3_multiply 2 (by decide) 11 (by decide) 11 (by decide)) (cwV 3 F.1.2.2.2.2 (lw_V q355 q357 qs15 q24 q358) rfl rfl rfl (by decide +kernel) ⟨Nat.le_of_ble_eq_true rfl, Nat.le_of_ble_eq_true rfl⟩) mRc rfl hl.1 rfl (Nat.le_of_ble_eq_true rfl) dX3_stepOnce_154 ⟨Nat.le_of_ble_eq_true rfl, Nat.le_of_ble_eq_true rfl⟩ (fun U H locs hp hw => ?_)
  refine lv_aload_n F.1.1 F.1.2.1 dX3_stepOnce_157 rfl (lv_at hl 1 rfl) ?_
  refine lv_bipush (v := nI 11) F.1.1 F.1.2.1 dX3_stepOnce_158 (by decide) ?_
  refine lv_bipush (v := nI 9) F.1.1 F.1.2.1 dX3_stepOnce_160 (by decide) ?_
  refine lv_bipush (v := nI 8) F.1.1 F.1.2.1 dX3_stepOnce_162 (by decide) ?_
  refine kCv (As := [.int (nI 11), .int (nI 9), .int (nI 8)]) F hw hA (met_X3_subtract 11 (by decide) 9 (by decide) 8 (by decide)) (cwV 3 F.1.2.2.2.2 (lw_V q350 q352 qs14 q24 q353) rfl rfl rfl (by decide +kernel) ⟨Nat.le_of_ble_eq_true rfl, Nat.le_of_ble_eq_true rfl⟩) mRc rfl hl.1 rfl (Nat.le_of_ble_eq_true rfl) dX3_stepOnce_164 ⟨Nat.le_of_ble_eq_true rfl, Nat.le_of_ble_eq_true rfl⟩ (fun U H locs hp hw => ?_)
  refine lv_aload_n F.1.1 F.1.2.1 dX3_stepOnce_167 rfl (lv_at hl 1 rfl) ?_
  refine lv_bipush (v := nI 11) F.1.1 F.1.2.1 dX3_stepOnce_168 (by decide) ?_
  refine lv_bipush (v := nI 11) F.1.1 F.1.2.1 dX3_stepOnce_170 (by decide) ?_
  refine lv_bipush (v := nI 11) F.1.1 F.1.2.1 dX3_stepOnce_172 (by decide) ?_
  refine kCv (As := [.int (nI 11), .int (nI 11), .int (nI 11)]) F hw hA (met_X3_multiply 11 (by decide) 11 (by decide) 11 (by decide)) (cwV 3 F.1.2.2.2.2 (lw_V q355 q357 qs15 q24 q358) rfl rfl rfl (by decide +kernel) ⟨Nat.le_of_ble_eq_true rfl, Nat.le_of_ble_eq_true rfl⟩) mRc rfl hl.1 rfl (Nat.le_of_ble_eq_true rfl) dX3_stepOnce_174 ⟨Nat.le_of_ble_eq_true rfl, Nat.le_of_ble_eq_true rfl⟩ (fun U H locs hp hw => ?_)
  refine lv_aload_n F.1.1 F.1.2.1 dX3_stepOnce_177 rfl (lv_at hl 1 rfl) ?_
  refine lv_iconst (v := nI 3) F.1.1 F.1.2.1 dX3_stepOnce_178 (by decide) ?_
  refine lv_iconst (v := nI 4) F.1.1 F.1.2.1 dX3_stepOnce_179 (by decide) ?_
  refine lv_bipush (v := nI 11) F.1.1 F.1.2.1 dX3_stepOnce_180 (by decide) ?_
  refine kCv (As := [.int (nI 3), .int (nI 4), .int (nI 11)]) F hw hA (met_X3_multiply 3 (by decide) 4 (by decide) 11 (by decide)) (cwV 3 F.1.2.2.2.2 (lw_V q355 q357 qs15 q24 q358) rfl rfl rfl (by decide +kernel) ⟨Nat.le_of_ble_eq_true rfl, Nat.le_of_ble_eq_true rfl⟩) mRc rfl hl.1 rfl (Nat.le_of_ble_eq_true rfl) dX3_stepOnce_182 ⟨Nat.le_of_ble_eq_true rfl, Nat.le_of_ble_eq_true rfl⟩ (fun U H locs hp hw => ?_)
  refine lv_aload_n F.1.1 F.1.2.1 dX3_stepOnce_185 rfl (lv_at hl 1 rfl) ?_
  refine lv_iload_n F.1.1 F.1.2.1 dX3_stepOnce_186 rfl (lv_at hl 0 rfl) ?_
  refine kCv (As := [.int t1]) F hw hA (met_X3_change _) (cwV 1 F.1.2.2.2.2 (lw_V q338 q340 qs11 q24 q341) rfl rfl rfl (by decide +kernel) ⟨Nat.le_of_ble_eq_true rfl, Nat.le_of_ble_eq_true rfl⟩) mRc rfl hl.1 rfl (Nat.le_of_ble_eq_true rfl) dX3_stepOnce_187 ⟨Nat.le_of_ble_eq_true rfl, Nat.le_of_ble_eq_true rfl⟩ (fun U H locs hp hw => ?_)
  refine lv_aload_n F.1.1 F.1.2.1 dX3_stepOnce_190 rfl (lv_at hl 1 rfl) ?_
  refine lv_dup F.1.1 F.1.2.1 dX3_stepOnce_191 rfl ?_
  refine mGf (v := .int (nI n)) F hw 1 (by decide) rfl q260 (fun _ h9 => h9) dX3_stepOnce_192 ?_
  refine lv_iconst (v := nI 1) F.1.1 F.1.2.1 dX3_stepOnce_195 (by decide) ?_
  refine lv_iadd F.1.1 F.1.2.1 dX3_stepOnce_196 ?_
  refine kTi (nI_add _ _) ?_
  refine mPf F hw 1 (by decide) rfl (by decide +kernel) q260 (fun _ h9 => h9) dX3_stepOnce_197 (sc, pt, ph, nI (n + 1), rs) rfl rfl rfl (fun H locs hw => ?_)
  exact kVret F hr hlocks U (by subst et1; exact hw) trivial dX3_stepOnce_200

abbrev rX3_step : Room := { frames := 5, cells := 0, slots := 0, locals := 119 }

section XM
variable {p : Program} {l : Launch} {e : Env} {R : Room} {s : State} {m : MethodId} {args : Array Value} {below : List Frame} {meth : Method} {c : Code} {cells slots : Nat} {Q : State → Prop}
variable {G : va_G} {cJ cI : ClassId} {A : Nat → Prop} {am : Nat → Nat} {D : Nat → Int32} {U : Nat → Int64} {X : CX}

theorem lp_mstep (F : kF p m c cX3_step 3 s args RX3 G cJ cI) (hA : ∀ q : Nat, s.heap.size ≤ q → A q) (hcs : cells ≤ rX3_step.cells ∧ slots ≤ rX3_step.slots) {sc pt : Nat → Int64} {ph rs : Int32} (a N J : Nat) (hN : N < 2 ^ 31) (hJ : J ≤ N) (hJ2 : J + a ≤ 255) (hJ3 : J = N ∨ J + a = 255)
    (kk : ∀ (U : Nat → Int64) (H : Heap) (locs : List Loc) (ls : Array Slot), kW G A s H locs (mW cJ cI am (mSteps sc a J D) U ((sc, pt, ph, nI (a + J), rs))) → lv_has ls 3 [(0, .ref (am 0)), (1, .int (nI N)), (2, .int (nI J))] → W p l e rX3_step s m args below meth c H locs cells slots Q (F0 m 42 ls [])) :
    ∀ (n k : Nat), n + k = J → ∀ (U : Nat → Int64) (H : Heap) (locs : List Loc) (ls : Array Slot), kW G A s H locs (mW cJ cI am (mSteps sc a k D) U ((sc, pt, ph, nI (a + k), rs))) → lv_has ls 3 [(0, .ref (am 0)), (1, .int (nI N)), (2, .int (nI k))] → W p l e rX3_step s m args below meth c H locs cells slots Q (F0 m 17 ls []) := by
  intro n
  induction n with
  | zero =>
    intro k hk U H locs ls hw hl
    obtain rfl : J = k := by omega
    by_cases hJN : N ≤ J
    · refine lv_iload_n F.1.1 F.1.2.1 dX3_step_17 rfl (lv_at hl 2 rfl) ?_
      refine lv_iload_n F.1.1 F.1.2.1 dX3_step_18 rfl (lv_at hl 1 rfl) ?_
      refine lv_icmp_ge (tgt := 42) F.1.1 F.1.2.1 dX3_step_19 (by decide) (fun _ => ?_) (fun c9 => absurd (nI_le (by omega) (by omega)) c9)
      exact kk _ H locs ls hw (lv_sub hl [0, 1, 2] rfl)
    · refine lv_iload_n F.1.1 F.1.2.1 dX3_step_17 rfl (lv_at hl 2 rfl) ?_
      refine lv_iload_n F.1.1 F.1.2.1 dX3_step_18 rfl (lv_at hl 1 rfl) ?_
      refine lv_icmp_ge (tgt := 42) F.1.1 F.1.2.1 dX3_step_19 (by decide) (fun c9 => absurd c9 (nI_ge (by omega) (by omega))) (fun _ => ?_)
      refine lv_aload_n F.1.1 F.1.2.1 dX3_step_22 rfl (lv_at hl 0 rfl) ?_
      refine mGf (v := .int (nI (a + J))) F hw 1 (by decide) rfl q260 (fun _ h9 => h9) dX3_step_23 ?_
      refine lv_sipush (v := nI 255) F.1.1 F.1.2.1 dX3_step_26 (by decide) ?_
      refine lv_icmp_ge (tgt := 42) F.1.1 F.1.2.1 dX3_step_29 (by decide) (fun _ => ?_) (fun c9 => absurd (nI_le (by omega) (by omega)) c9)
      exact kk _ H locs ls hw (lv_sub hl [0, 1, 2] rfl)
  | succ n ih =>
    intro k hk U H locs ls hw hl
    refine lv_iload_n F.1.1 F.1.2.1 dX3_step_17 rfl (lv_at hl 2 rfl) ?_
    refine lv_iload_n F.1.1 F.1.2.1 dX3_step_18 rfl (lv_at hl 1 rfl) ?_
    refine lv_icmp_ge (tgt := 42) F.1.1 F.1.2.1 dX3_step_19 (by decide) (fun c9 => absurd c9 (nI_ge (by omega) (by omega))) (fun _ => ?_)
    refine lv_aload_n F.1.1 F.1.2.1 dX3_step_22 rfl (lv_at hl 0 rfl) ?_
    refine mGf (v := .int (nI (a + k))) F hw 1 (by decide) rfl q260 (fun _ h9 => h9) dX3_step_23 ?_
    refine lv_sipush (v := nI 255) F.1.1 F.1.2.1 dX3_step_26 (by decide) ?_
    refine lv_icmp_ge (tgt := 42) F.1.1 F.1.2.1 dX3_step_29 (by decide) (fun c9 => absurd c9 (nI_ge (by omega) (by omega))) (fun _ => ?_)
    refine lv_aload_n F.1.1 F.1.2.1 dX3_step_32 rfl (lv_at hl 0 rfl) ?_
    refine kCv (As := []) F hw hA (met_X3_stepOnce _ (by omega)) (cwV 0 F.1.2.2.2.2 (lw_V q330 q332 qs9 q24 q333) rfl rfl rfl (by decide +kernel) ⟨Nat.le_of_ble_eq_true rfl, Nat.le_of_ble_eq_true rfl⟩) mRc rfl hl.1 rfl (Nat.le_of_ble_eq_true rfl) dX3_step_33 hcs (fun U H locs hp hw => ?_)
    refine lv_iinc (v := nI (k + 1)) (lv' := [(2, .int (nI (k + 1))), (0, .ref (am 0)), (1, .int (nI N))]) F.1.1 F.1.2.1 dX3_step_36 hl (k := 2) rfl (nI_1 _) (by decide) rfl (fun ls hl => ?_)
    refine lv_goto (tgt := 17) F.1.1 F.1.2.1 dX3_step_39 (by decide) ?_
    exact ih (k + 1) (by omega) _ _ _ _ hw (lv_sub hl [1, 2, 0] rfl)

end XM

/-- step -/
theorem met_X3_step {l : Launch} {G : va_G} {cJ cI : ClassId} {am : Nat → Nat} {D : Nat → Int32} {U : Nat → Int64} {sc pt : Nat → Int64} {ph rs : Int32} {sz : Nat} (a : Nat) (ha : a ≤ 255) (n : Int32) : kMi l yX3_step cX3_step 3 .int rX3_step G cJ cI [.ref (am 0), .int n] (mW cJ cI am D U ((sc, pt, ph, nI a, rs))) sz (fun r (_ : Nat → Int64) => r = if ph = nI 1 ∧ nI 1 ≤ n then nI (255 - (a + stJ a n)) else -1) (fun U => mW cJ cI am (if ph = nI 1 ∧ nI 1 ≤ n then mSteps sc a (stJ a n) D else D) U (if ph = nI 1 ∧ nI 1 ≤ n then (sc, pt, ph, nI (a + stJ a n), rs) else (sc, pt, ph, nI a, rs))) := by
  refine kStart (by decide) (Nat.le_of_ble_eq_true rfl) ?_
  intro p e s m below meth c ls F hr hlocks hin hsz hA hw hl
  have hl : lv_has ls 3 [(0, .ref (am 0)), (1, .int n)] := hl
  refine lv_aload_n F.1.1 F.1.2.1 dX3_step_0 rfl (lv_at hl 0 rfl) ?_
  refine mGf (v := .int ph) F hw 0 (by decide) rfl q259 (fun _ h9 => h9) dX3_step_1 ?_
  refine lv_iconst (v := nI 1) F.1.1 F.1.2.1 dX3_step_4 (by decide) ?_
  refine lv_icmp_ne (tgt := 13) F.1.1 F.1.2.1 dX3_step_5 (by decide) (fun c5 => ?_) (fun c5 => ?_)
  · refine lv_iconst (v := -1) F.1.1 F.1.2.1 dX3_step_13 (by decide) ?_
    first
    | (have hno : ¬ (ph = nI 1 ∧ nI 1 ≤ n) := fun h9 => c5 h9.1)
    | (have hno : ¬ (ph = nI 1 ∧ nI 1 ≤ n) := fun h9 => c10 h9.2)
    exact kIret F hr hlocks U (by rw [if_neg hno, if_neg hno]; exact hw) (by rw [if_neg hno]) dX3_step_14
  · refine lv_iload_n F.1.1 F.1.2.1 dX3_step_8 rfl (lv_at hl 1 rfl) ?_
    refine lv_iconst (v := nI 1) F.1.1 F.1.2.1 dX3_step_9 (by decide) ?_
    refine lv_icmp_ge (tgt := 15) F.1.1 F.1.2.1 dX3_step_10 (by decide) (fun c10 => ?_) (fun c10 => ?_)
    · have hyes : ph = nI 1 ∧ nI 1 ≤ n := ⟨c5, c10⟩
      simp only [if_pos hyes]
      obtain ⟨N, hN, rfl⟩ := nI_of (x := n) (fun h9 => absurd (Int32.lt_of_le_of_lt c10 h9) (by decide))
      have hst : stJ a (nI N) = min N (255 - a) := by unfold stJ; rw [nI_clamp hN]
      rw [hst]
      refine lv_iconst (v := nI 0) F.1.1 F.1.2.1 dX3_step_15 (by decide) ?_
      refine lv_istore_n (lv' := [(2, .int (nI 0)), (0, .ref (am 0)), (1, .int (nI N))]) F.1.1 F.1.2.1 dX3_step_16 rfl hl (by decide) rfl (fun ls hl => ?_)
      refine lp_mstep F hA ⟨Nat.le_of_ble_eq_true rfl, Nat.le_of_ble_eq_true rfl⟩ a N (min N (255 - a)) hN (by omega) (by omega) (by omega) (fun U H locs ls hw hl => ?_) (min N (255 - a)) 0 rfl _ _ _ _ hw (lv_sub hl [1, 2, 0] rfl)
      refine lv_sipush (v := nI 255) F.1.1 F.1.2.1 dX3_step_42 (by decide) ?_
      refine lv_aload_n F.1.1 F.1.2.1 dX3_step_45 rfl (lv_at hl 0 rfl) ?_
      refine mGf (v := .int (nI (a + min N (255 - a)))) F hw 1 (by decide) rfl q260 (fun _ h9 => h9) dX3_step_46 ?_
      refine lv_isub F.1.1 F.1.2.1 dX3_step_49 ?_
      refine kTi (pk_sub (by omega)) ?_
      exact kIret F hr hlocks U hw rfl dX3_step_50
    · refine lv_iconst (v := -1) F.1.1 F.1.2.1 dX3_step_13 (by decide) ?_
      first
      | (have hno : ¬ (ph = nI 1 ∧ nI 1 ≤ n) := fun h9 => c5 h9.1)
      | (have hno : ¬ (ph = nI 1 ∧ nI 1 ≤ n) := fun h9 => c10 h9.2)
      exact kIret F hr hlocks U (by rw [if_neg hno, if_neg hno]; exact hw) (by rw [if_neg hno]) dX3_step_14

abbrev rX3_finish : Room := { frames := 4, cells := 0, slots := 0, locals := 95 }

def mFinSt (z : Nat) (D : Nat → Int32) : Nat → Int32 := if 5 ≤ 254 - z ∨ 254 - z = 3 ∨ 254 - z < 2 then dMul 6 6 1 (dMul 6 6 6 D) else dMul 6 6 6 D
def mFin (D : Nat → Int32) : Nat → Int32 := dMul 5 0 6 (it mFinSt 255 (dSet 6 (nI 1) D))
theorem mf_y {z : Nat} {D : Nat → Int32} (h : 5 ≤ 254 - z ∨ 254 - z = 3 ∨ 254 - z < 2) : mFinSt z D = dMul 6 6 1 (dMul 6 6 6 D) := if_pos h
theorem mf_n {z : Nat} {D : Nat → Int32} (h : ¬ (5 ≤ 254 - z ∨ 254 - z = 3 ∨ 254 - z < 2)) : mFinSt z D = dMul 6 6 6 D := if_neg h

section XN
variable {p : Program} {l : Launch} {e : Env} {R : Room} {s : State} {m : MethodId} {args : Array Value} {below : List Frame} {meth : Method} {c : Code} {cells slots : Nat} {Q : State → Prop}
variable {G : va_G} {cJ cI : ClassId} {A : Nat → Prop} {am : Nat → Nat} {D : Nat → Int32} {U : Nat → Int64} {X : CX}

theorem lp_mfin (F : kF p m c cX3_finish 2 s args RX3 G cJ cI) (hA : ∀ q : Nat, s.heap.size ≤ q → A q) (hcs : cells ≤ rX3_finish.cells ∧ slots ≤ rX3_finish.slots) {sc pt : Nat → Int64} {ph md rs : Int32}
    (kk : ∀ (U : Nat → Int64) (H : Heap) (locs : List Loc) (ls : Array Slot), kW G A s H locs (mW cJ cI am (it mFinSt 255 D) U ((sc, pt, ph, md, rs))) → lv_has ls 2 [(0, .ref (am 0)), (1, .int (dnI 255 255))] → W p l e rX3_finish s m args below meth c H locs cells slots Q (F0 m 75 ls [])) :
    ∀ (n z : Nat), n + z = 255 → ∀ (U : Nat → Int64) (H : Heap) (locs : List Loc) (ls : Array Slot), kW G A s H locs (mW cJ cI am (it mFinSt z D) U ((sc, pt, ph, md, rs))) → lv_has ls 2 [(0, .ref (am 0)), (1, .int (dnI 255 z))] → W p l e rX3_finish s m args below meth c H locs cells slots Q (F0 m 31 ls []) := by
  intro n
  induction n with
  | zero =>
    intro z hk U H locs ls hw hl
    obtain rfl : z = 255 := by omega
    refine lv_iload_n F.1.1 F.1.2.1 dX3_finish_31 rfl (lv_at hl 1 rfl) ?_
    refine lv_if_lt (tgt := 75) F.1.1 F.1.2.1 dX3_finish_32 (by decide) (fun _ => ?_) (fun c9 => absurd dn_end c9)
    exact kk _ H locs ls hw (lv_sub hl [0, 1] rfl)
  | succ n ih =>
    intro z hk U H locs ls hw hl
    refine lv_iload_n F.1.1 F.1.2.1 dX3_finish_31 rfl (lv_at hl 1 rfl) ?_
    refine lv_if_lt (tgt := 75) F.1.1 F.1.2.1 dX3_finish_32 (by decide) (fun c9 => absurd c9 (dn_nlt (by omega) (by decide))) (fun _ => ?_)
    rw [dn_lt (by omega)] at hl
    refine lv_aload_n F.1.1 F.1.2.1 dX3_finish_35 rfl (lv_at hl 0 rfl) ?_
    refine lv_bipush (v := nI 6) F.1.1 F.1.2.1 dX3_finish_36 (by decide) ?_
    refine lv_bipush (v := nI 6) F.1.1 F.1.2.1 dX3_finish_38 (by decide) ?_
    refine lv_bipush (v := nI 6) F.1.1 F.1.2.1 dX3_finish_40 (by decide) ?_
    refine kCv (As := [.int (nI 6), .int (nI 6), .int (nI 6)]) F hw hA (met_X3_multiply 6 (by decide) 6 (by decide) 6 (by decide)) (cwV 3 F.1.2.2.2.2 (lw_V q355 q357 qs15 q24 q358) rfl rfl rfl (by decide +kernel) ⟨Nat.le_of_ble_eq_true rfl, Nat.le_of_ble_eq_true rfl⟩) mRc rfl hl.1 rfl (Nat.le_of_ble_eq_true rfl) dX3_finish_42 hcs (fun U H locs hp hw => ?_)
    refine lv_iload_n F.1.1 F.1.2.1 dX3_finish_45 rfl (lv_at hl 1 rfl) ?_
    refine lv_iconst (v := nI 5) F.1.1 F.1.2.1 dX3_finish_46 (by decide) ?_
    refine lv_icmp_ge (tgt := 60) F.1.1 F.1.2.1 dX3_finish_47 (by decide) (fun c47 => ?_) (fun c47 => ?_)
    · have hyes : 5 ≤ 254 - z ∨ 254 - z = 3 ∨ 254 - z < 2 := by
        first
        | (have h9 := (nI_leI (by omega) (by omega)).mp c47; omega)
        | (have h9 := (nI_eq (by omega) (by omega)).mp c52; omega)
        | (have h9 : ¬ 2 ≤ 255 - 1 - z := fun h8 => c57 (nI_le h8 (by omega)); omega)
      refine lv_aload_n F.1.1 F.1.2.1 dX3_finish_60 rfl (lv_at hl 0 rfl) ?_
      refine lv_bipush (v := nI 6) F.1.1 F.1.2.1 dX3_finish_61 (by decide) ?_
      refine lv_bipush (v := nI 6) F.1.1 F.1.2.1 dX3_finish_63 (by decide) ?_
      refine lv_iconst (v := nI 1) F.1.1 F.1.2.1 dX3_finish_65 (by decide) ?_
      refine kCv (As := [.int (nI 6), .int (nI 6), .int (nI 1)]) F hw hA (met_X3_multiply 6 (by decide) 6 (by decide) 1 (by decide)) (cwV 3 F.1.2.2.2.2 (lw_V q355 q357 qs15 q24 q358) rfl rfl rfl (by decide +kernel) ⟨Nat.le_of_ble_eq_true rfl, Nat.le_of_ble_eq_true rfl⟩) mRc rfl hl.1 rfl (Nat.le_of_ble_eq_true rfl) dX3_finish_66 hcs (fun U H locs hp hw => ?_)
      refine lv_iinc (v := dnI 255 (z + 1)) (lv' := [(1, .int (dnI 255 (z + 1))), (0, .ref (am 0))]) F.1.1 F.1.2.1 dX3_finish_69 hl (k := 1) rfl (dn_s (by omega)) (by decide) rfl (fun ls hl => ?_)
      refine lv_goto (tgt := 31) F.1.1 F.1.2.1 dX3_finish_72 (by decide) ?_
      exact ih (z + 1) (by omega) _ _ _ _ (by
        rw [it_s]
        first
        | (rw [mf_y hyes]; exact hw)
        | (rw [mf_n (by
            have h7 : ¬ 5 ≤ 255 - 1 - z := fun h8 => c47 (nI_le h8 (by omega))
            have h8 : ¬ 255 - 1 - z = 3 := fun h8 => c52 (keq h8)
            have h9 := (nI_leI (by omega) (by omega)).mp c57
            omega)]; exact hw)) (lv_sub hl [1, 0] rfl)
    · refine lv_iload_n F.1.1 F.1.2.1 dX3_finish_50 rfl (lv_at hl 1 rfl) ?_
      refine lv_iconst (v := nI 3) F.1.1 F.1.2.1 dX3_finish_51 (by decide) ?_
      refine lv_icmp_eq (tgt := 60) F.1.1 F.1.2.1 dX3_finish_52 (by decide) (fun c52 => ?_) (fun c52 => ?_)
      · have hyes : 5 ≤ 254 - z ∨ 254 - z = 3 ∨ 254 - z < 2 := by
          first
          | (have h9 := (nI_leI (by omega) (by omega)).mp c47; omega)
          | (have h9 := (nI_eq (by omega) (by omega)).mp c52; omega)
          | (have h9 : ¬ 2 ≤ 255 - 1 - z := fun h8 => c57 (nI_le h8 (by omega)); omega)
        refine lv_aload_n F.1.1 F.1.2.1 dX3_finish_60 rfl (lv_at hl 0 rfl) ?_
        refine lv_bipush (v := nI 6) F.1.1 F.1.2.1 dX3_finish_61 (by decide) ?_
        refine lv_bipush (v := nI 6) F.1.1 F.1.2.1 dX3_finish_63 (by decide) ?_
        refine lv_iconst (v := nI 1) F.1.1 F.1.2.1 dX3_finish_65 (by decide) ?_
        refine kCv (As := [.int (nI 6), .int (nI 6), .int (nI 1)]) F hw hA (met_X3_multiply 6 (by decide) 6 (by decide) 1 (by decide)) (cwV 3 F.1.2.2.2.2 (lw_V q355 q357 qs15 q24 q358) rfl rfl rfl (by decide +kernel) ⟨Nat.le_of_ble_eq_true rfl, Nat.le_of_ble_eq_true rfl⟩) mRc rfl hl.1 rfl (Nat.le_of_ble_eq_true rfl) dX3_finish_66 hcs (fun U H locs hp hw => ?_)
        refine lv_iinc (v := dnI 255 (z + 1)) (lv' := [(1, .int (dnI 255 (z + 1))), (0, .ref (am 0))]) F.1.1 F.1.2.1 dX3_finish_69 hl (k := 1) rfl (dn_s (by omega)) (by decide) rfl (fun ls hl => ?_)
        refine lv_goto (tgt := 31) F.1.1 F.1.2.1 dX3_finish_72 (by decide) ?_
        exact ih (z + 1) (by omega) _ _ _ _ (by
        rw [it_s]
        first
        | (rw [mf_y hyes]; exact hw)
        | (rw [mf_n (by
            have h7 : ¬ 5 ≤ 255 - 1 - z := fun h8 => c47 (nI_le h8 (by omega))
            have h8 : ¬ 255 - 1 - z = 3 := fun h8 => c52 (keq h8)
            have h9 := (nI_leI (by omega) (by omega)).mp c57
            omega)]; exact hw)) (lv_sub hl [1, 0] rfl)
      · refine lv_iload_n F.1.1 F.1.2.1 dX3_finish_55 rfl (lv_at hl 1 rfl) ?_
        refine lv_iconst (v := nI 2) F.1.1 F.1.2.1 dX3_finish_56 (by decide) ?_
        refine lv_icmp_ge (tgt := 69) F.1.1 F.1.2.1 dX3_finish_57 (by decide) (fun c57 => ?_) (fun c57 => ?_)
        · refine lv_iinc (v := dnI 255 (z + 1)) (lv' := [(1, .int (dnI 255 (z + 1))), (0, .ref (am 0))]) F.1.1 F.1.2.1 dX3_finish_69 hl (k := 1) rfl (dn_s (by omega)) (by decide) rfl (fun ls hl => ?_)
          refine lv_goto (tgt := 31) F.1.1 F.1.2.1 dX3_finish_72 (by decide) ?_
          exact ih (z + 1) (by omega) _ _ _ _ (by
        rw [it_s]
        first
        | (rw [mf_y hyes]; exact hw)
        | (rw [mf_n (by
            have h7 : ¬ 5 ≤ 255 - 1 - z := fun h8 => c47 (nI_le h8 (by omega))
            have h8 : ¬ 255 - 1 - z = 3 := fun h8 => c52 (keq h8)
            have h9 := (nI_leI (by omega) (by omega)).mp c57
            omega)]; exact hw)) (lv_sub hl [1, 0] rfl)
        · have hyes : 5 ≤ 254 - z ∨ 254 - z = 3 ∨ 254 - z < 2 := by
            first
            | (have h9 := (nI_leI (by omega) (by omega)).mp c47; omega)
            | (have h9 := (nI_eq (by omega) (by omega)).mp c52; omega)
            | (have h9 : ¬ 2 ≤ 255 - 1 - z := fun h8 => c57 (nI_le h8 (by omega)); omega)
          refine lv_aload_n F.1.1 F.1.2.1 dX3_finish_60 rfl (lv_at hl 0 rfl) ?_
          refine lv_bipush (v := nI 6) F.1.1 F.1.2.1 dX3_finish_61 (by decide) ?_
          refine lv_bipush (v := nI 6) F.1.1 F.1.2.1 dX3_finish_63 (by decide) ?_
          refine lv_iconst (v := nI 1) F.1.1 F.1.2.1 dX3_finish_65 (by decide) ?_
          refine kCv (As := [.int (nI 6), .int (nI 6), .int (nI 1)]) F hw hA (met_X3_multiply 6 (by decide) 6 (by decide) 1 (by decide)) (cwV 3 F.1.2.2.2.2 (lw_V q355 q357 qs15 q24 q358) rfl rfl rfl (by decide +kernel) ⟨Nat.le_of_ble_eq_true rfl, Nat.le_of_ble_eq_true rfl⟩) mRc rfl hl.1 rfl (Nat.le_of_ble_eq_true rfl) dX3_finish_66 hcs (fun U H locs hp hw => ?_)
          refine lv_iinc (v := dnI 255 (z + 1)) (lv' := [(1, .int (dnI 255 (z + 1))), (0, .ref (am 0))]) F.1.1 F.1.2.1 dX3_finish_69 hl (k := 1) rfl (dn_s (by omega)) (by decide) rfl (fun ls hl => ?_)
          refine lv_goto (tgt := 31) F.1.1 F.1.2.1 dX3_finish_72 (by decide) ?_
          exact ih (z + 1) (by omega) _ _ _ _ (by
        rw [it_s]
        first
        | (rw [mf_y hyes]; exact hw)
        | (rw [mf_n (by
            have h7 : ¬ 5 ≤ 255 - 1 - z := fun h8 => c47 (nI_le h8 (by omega))
            have h8 : ¬ 255 - 1 - z = 3 := fun h8 => c52 (keq h8)
            have h9 := (nI_leI (by omega) (by omega)).mp c57
            omega)]; exact hw)) (lv_sub hl [1, 0] rfl)

end XN

/-- finish -/
theorem met_X3_finish {l : Launch} {G : va_G} {cJ cI : ClassId} {am : Nat → Nat} {D : Nat → Int32} {U : Nat → Int64} {sc pt : Nat → Int64} {ph md rs : Int32} {sz : Nat}  : kMi l yX3_finish cX3_finish 2 .int rX3_finish G cJ cI [.ref (am 0)] (mW cJ cI am D U ((sc, pt, ph, md, rs))) sz (fun r (_ : Nat → Int64) => r = if (ph = nI 1 ∧ nI 255 ≤ md) then 1 else 0) (fun U => mW cJ cI am (if (ph = nI 1 ∧ nI 255 ≤ md) then mFin D else D) U (if (ph = nI 1 ∧ nI 255 ≤ md) then (sc, pt, nI 2, md, rs + nI 1) else (sc, pt, ph, md, rs))) := by
  refine kStart (by decide) (Nat.le_of_ble_eq_true rfl) ?_
  intro p e s m below meth c ls F hr hlocks hin hsz hA hw hl
  have hl : lv_has ls 2 [(0, .ref (am 0))] := hl
  refine lv_aload_n F.1.1 F.1.2.1 dX3_finish_0 rfl (lv_at hl 0 rfl) ?_
  refine mGf (v := .int ph) F hw 0 (by decide) rfl q259 (fun _ h9 => h9) dX3_finish_1 ?_
  refine lv_iconst (v := nI 1) F.1.1 F.1.2.1 dX3_finish_4 (by decide) ?_
  refine lv_icmp_ne (tgt := 18) F.1.1 F.1.2.1 dX3_finish_5 (by decide) (fun c5 => ?_) (fun c5 => ?_)
  · refine lv_iconst (v := nI 0) F.1.1 F.1.2.1 dX3_finish_18 (by decide) ?_
    first
    | (have hno : ¬ (ph = nI 1 ∧ nI 255 ≤ md) := fun h9 => c5 h9.1)
    | (have hno : ¬ (ph = nI 1 ∧ nI 255 ≤ md) := fun h9 => c15 h9.2)
    exact kIret F hr hlocks U (by simp only [if_neg hno]; exact hw) (by rw [if_neg hno]; rfl) dX3_finish_19
  · refine lv_aload_n F.1.1 F.1.2.1 dX3_finish_8 rfl (lv_at hl 0 rfl) ?_
    refine mGf (v := .int md) F hw 1 (by decide) rfl q260 (fun _ h9 => h9) dX3_finish_9 ?_
    refine lv_sipush (v := nI 255) F.1.1 F.1.2.1 dX3_finish_12 (by decide) ?_
    refine lv_icmp_ge (tgt := 20) F.1.1 F.1.2.1 dX3_finish_15 (by decide) (fun c15 => ?_) (fun c15 => ?_)
    · have hyes : (ph = nI 1 ∧ nI 255 ≤ md) := ⟨c5, c15⟩
      refine lv_aload_n F.1.1 F.1.2.1 dX3_finish_20 rfl (lv_at hl 0 rfl) ?_
      refine lv_bipush (v := nI 6) F.1.1 F.1.2.1 dX3_finish_21 (by decide) ?_
      refine lv_iconst (v := nI 1) F.1.1 F.1.2.1 dX3_finish_23 (by decide) ?_
      refine kCv (As := [.int (nI 6), .int (nI 1)]) F hw hA (met_X3_setSmall 6 (by decide) (nI 1)) (cwV 2 F.1.2.2.2.2 (lw_V q318 q320 qs7 q24 q321) rfl rfl rfl (by decide +kernel) ⟨Nat.le_of_ble_eq_true rfl, Nat.le_of_ble_eq_true rfl⟩) mRc rfl hl.1 rfl (Nat.le_of_ble_eq_true rfl) dX3_finish_24 ⟨Nat.le_of_ble_eq_true rfl, Nat.le_of_ble_eq_true rfl⟩ (fun U H locs hp hw => ?_)
      refine lv_sipush (v := nI 254) F.1.1 F.1.2.1 dX3_finish_27 (by decide) ?_
      refine lv_istore_n (lv' := [(1, .int (nI 254)), (0, .ref (am 0))]) F.1.1 F.1.2.1 dX3_finish_30 rfl hl (by decide) rfl (fun ls hl => ?_)
      refine lp_mfin F hA ⟨Nat.le_of_ble_eq_true rfl, Nat.le_of_ble_eq_true rfl⟩  (fun U H locs ls hw hl => ?_) 255 0 rfl _ _ _ _ hw (lv_sub hl [1, 0] rfl)
      refine lv_aload_n F.1.1 F.1.2.1 dX3_finish_75 rfl (lv_at hl 0 rfl) ?_
      refine lv_iconst (v := nI 5) F.1.1 F.1.2.1 dX3_finish_76 (by decide) ?_
      refine lv_iconst (v := nI 0) F.1.1 F.1.2.1 dX3_finish_77 (by decide) ?_
      refine lv_bipush (v := nI 6) F.1.1 F.1.2.1 dX3_finish_78 (by decide) ?_
      refine kCv (As := [.int (nI 5), .int (nI 0), .int (nI 6)]) F hw hA (met_X3_multiply 5 (by decide) 0 (by decide) 6 (by decide)) (cwV 3 F.1.2.2.2.2 (lw_V q355 q357 qs15 q24 q358) rfl rfl rfl (by decide +kernel) ⟨Nat.le_of_ble_eq_true rfl, Nat.le_of_ble_eq_true rfl⟩) mRc rfl hl.1 rfl (Nat.le_of_ble_eq_true rfl) dX3_finish_80 ⟨Nat.le_of_ble_eq_true rfl, Nat.le_of_ble_eq_true rfl⟩ (fun U H locs hp hw => ?_)
      refine lv_aload_n F.1.1 F.1.2.1 dX3_finish_83 rfl (lv_at hl 0 rfl) ?_
      refine lv_iconst (v := nI 2) F.1.1 F.1.2.1 dX3_finish_84 (by decide) ?_
      refine mPf F hw 0 (by decide) rfl (by decide +kernel) q259 (fun _ h9 => h9) dX3_finish_85 (sc, pt, nI 2, md, rs) rfl rfl rfl (fun H locs hw => ?_)
      refine lv_aload_n F.1.1 F.1.2.1 dX3_finish_88 rfl (lv_at hl 0 rfl) ?_
      refine lv_dup F.1.1 F.1.2.1 dX3_finish_89 rfl ?_
      refine mGf (v := .int rs) F hw 2 (by decide) rfl q261 (fun _ h9 => h9) dX3_finish_90 ?_
      refine lv_iconst (v := nI 1) F.1.1 F.1.2.1 dX3_finish_93 (by decide) ?_
      refine lv_iadd F.1.1 F.1.2.1 dX3_finish_94 ?_
      refine lv_topi (fun t1 et1 => ?_)
      refine mPf F hw 2 (by decide) rfl (by decide +kernel) q261 (fun _ h9 => h9) dX3_finish_95 (sc, pt, nI 2, md, t1) rfl rfl rfl (fun H locs hw => ?_)
      refine lv_iconst (v := nI 1) F.1.1 F.1.2.1 dX3_finish_98 (by decide) ?_
      exact kIret F hr hlocks U (by simp only [if_pos hyes]; subst et1; exact hw) (by rw [if_pos hyes]; rfl) dX3_finish_99
    · refine lv_iconst (v := nI 0) F.1.1 F.1.2.1 dX3_finish_18 (by decide) ?_
      first
      | (have hno : ¬ (ph = nI 1 ∧ nI 255 ≤ md) := fun h9 => c5 h9.1)
      | (have hno : ¬ (ph = nI 1 ∧ nI 255 ≤ md) := fun h9 => c15 h9.2)
      exact kIret F hr hlocks U (by simp only [if_neg hno]; exact hw) (by rw [if_neg hno]; rfl) dX3_finish_19

abbrev rX3_again : Room := { frames := 1, cells := 0, slots := 0, locals := 30 }

section XO
variable {p : Program} {l : Launch} {e : Env} {R : Room} {s : State} {m : MethodId} {args : Array Value} {below : List Frame} {meth : Method} {c : Code} {cells slots : Nat} {Q : State → Prop}
variable {G : va_G} {cJ cI : ClassId} {A : Nat → Prop} {am : Nat → Nat} {D : Nat → Int32} {U : Nat → Int64} {X : CX}

theorem lp_magain (F : kF p m c cX3_again 2 s args RX3 G cJ cI) (hA : ∀ q : Nat, s.heap.size ≤ q → A q) (hcs : cells ≤ rX3_again.cells ∧ slots ≤ rX3_again.slots) {sc pt : Nat → Int64} {ph md rs : Int32}
    (kk : ∀  (H : Heap) (locs : List Loc) (ls : Array Slot), kW G A s H locs (mW cJ cI am D U ((sc, fl pt 4 (fun j => loF D 5 j 4), ph, md, rs))) → lv_has ls 2 [(0, .ref (am 0)), (1, .int (nI 4))] → W p l e rX3_again s m args below meth c H locs cells slots Q (F0 m 35 ls [])) :
    ∀ (n k : Nat), n + k = 4 → ∀  (H : Heap) (locs : List Loc) (ls : Array Slot), kW G A s H locs (mW cJ cI am D U ((sc, fl pt k (fun j => loF D 5 j 4), ph, md, rs))) → lv_has ls 2 [(0, .ref (am 0)), (1, .int (nI k))] → W p l e rX3_again s m args below meth c H locs cells slots Q (F0 m 12 ls []) := by
  intro n
  induction n with
  | zero =>
    intro k hk  H locs ls hw hl
    obtain rfl : k = 4 := by omega
    refine lv_iload_n F.1.1 F.1.2.1 dX3_again_12 rfl (lv_at hl 1 rfl) ?_
    refine lv_iconst (v := nI 4) F.1.1 F.1.2.1 dX3_again_13 (by decide) ?_
    refine lv_icmp_ge (tgt := 35) F.1.1 F.1.2.1 dX3_again_14 (by decide) (fun _ => ?_) (fun c9 => absurd (nI_le (by omega) (by omega)) c9)
    exact kk  H locs ls hw (lv_sub hl [0, 1] rfl)
  | succ n ih =>
    intro k hk  H locs ls hw hl
    refine lv_iload_n F.1.1 F.1.2.1 dX3_again_12 rfl (lv_at hl 1 rfl) ?_
    refine lv_iconst (v := nI 4) F.1.1 F.1.2.1 dX3_again_13 (by decide) ?_
    refine lv_icmp_ge (tgt := 35) F.1.1 F.1.2.1 dX3_again_14 (by decide) (fun c9 => absurd c9 (nI_ge (by omega) (by omega))) (fun _ => ?_)
    refine lv_aload_n F.1.1 F.1.2.1 dX3_again_17 rfl (lv_at hl 0 rfl) ?_
    refine mGf (v := .ref (am 2)) F hw 4 (by decide) rfl q263 (fun _ h9 => h9) dX3_again_18 ?_
    refine lv_iload_n F.1.1 F.1.2.1 dX3_again_21 rfl (lv_at hl 1 rfl) ?_
    refine lv_aload_n F.1.1 F.1.2.1 dX3_again_22 rfl (lv_at hl 0 rfl) ?_
    refine lv_iconst (v := nI 5) F.1.1 F.1.2.1 dX3_again_23 (by decide) ?_
    refine lv_iload_n F.1.1 F.1.2.1 dX3_again_24 rfl (lv_at hl 1 rfl) ?_
    refine kCl_ (As := [.int (nI 5), .int (nI k)]) F hw hA (met_X3_longOf 5 (by decide) k (by omega)) (cwV 2 F.1.2.2.2.2 (lw_V q373 q375 qs17 q24 q376) rfl rfl rfl (by decide +kernel) ⟨Nat.le_of_ble_eq_true rfl, Nat.le_of_ble_eq_true rfl⟩) mRc rfl hl.1 rfl (Nat.le_of_ble_eq_true rfl) dX3_again_25 hcs (fun r25 u25 H locs hp25 hw => ?_)
    refine mSt F hw k rfl (by omega) dX3_again_28 (fun H locs hw => ?_)
    refine lv_iinc (v := nI (k + 1)) (lv' := [(1, .int (nI (k + 1))), (0, .ref (am 0))]) F.1.1 F.1.2.1 dX3_again_29 hl (k := 1) rfl (nI_1 _) (by decide) rfl (fun ls hl => ?_)
    refine lv_goto (tgt := 12) F.1.1 F.1.2.1 dX3_again_32 (by decide) ?_
    exact ih (k + 1) (by omega)  _ _ _ (by rw [← fl_s]; rw [hp25] at hw; exact hw) (lv_sub hl [1, 0] rfl)

end XO

/-- again -/
theorem met_X3_again {l : Launch} {G : va_G} {cJ cI : ClassId} {am : Nat → Nat} {D : Nat → Int32} {U : Nat → Int64} {sc pt : Nat → Int64} {ph md rs : Int32} {sz : Nat}  : kMi l yX3_again cX3_again 2 .int rX3_again G cJ cI [.ref (am 0)] (mW cJ cI am D U ((sc, pt, ph, md, rs))) sz (fun r (_ : Unit) => r = if ph = nI 2 then 1 else 0) (fun _ => mW cJ cI am D U (if ph = nI 2 then (sc, fl pt 4 (fun j => loF D 5 j 4), nI 0, md, rs) else (sc, pt, ph, md, rs))) := by
  refine kStart (by decide) (Nat.le_of_ble_eq_true rfl) ?_
  intro p e s m below meth c ls F hr hlocks hin hsz hA hw hl
  have hl : lv_has ls 2 [(0, .ref (am 0))] := hl
  refine lv_aload_n F.1.1 F.1.2.1 dX3_again_0 rfl (lv_at hl 0 rfl) ?_
  refine mGf (v := .int ph) F hw 0 (by decide) rfl q259 (fun _ h9 => h9) dX3_again_1 ?_
  refine lv_iconst (v := nI 2) F.1.1 F.1.2.1 dX3_again_4 (by decide) ?_
  refine lv_icmp_eq (tgt := 10) F.1.1 F.1.2.1 dX3_again_5 (by decide) (fun c5 => ?_) (fun c5 => ?_)
  · refine lv_iconst (v := nI 0) F.1.1 F.1.2.1 dX3_again_10 (by decide) ?_
    refine lv_istore_n (lv' := [(1, .int (nI 0)), (0, .ref (am 0))]) F.1.1 F.1.2.1 dX3_again_11 rfl hl (by decide) rfl (fun ls hl => ?_)
    refine lp_magain F hA ⟨Nat.le_of_ble_eq_true rfl, Nat.le_of_ble_eq_true rfl⟩  (fun  H locs ls hw hl => ?_) 4 0 rfl  _ _ _ (by rw [fl_0]; exact hw) (lv_sub hl [1, 0] rfl)
    refine lv_aload_n F.1.1 F.1.2.1 dX3_again_35 rfl (lv_at hl 0 rfl) ?_
    refine lv_iconst (v := nI 0) F.1.1 F.1.2.1 dX3_again_36 (by decide) ?_
    refine mPf F hw 0 (by decide) rfl (by decide +kernel) q259 (fun _ h9 => h9) dX3_again_37 (sc, fl pt 4 (fun j => loF D 5 j 4), nI 0, md, rs) rfl rfl rfl (fun H locs hw => ?_)
    refine lv_iconst (v := nI 1) F.1.1 F.1.2.1 dX3_again_40 (by decide) ?_
    exact kIret F hr hlocks () (by rw [if_pos c5]; exact hw) (by rw [if_pos c5]; rfl) dX3_again_41
  · refine lv_iconst (v := nI 0) F.1.1 F.1.2.1 dX3_again_8 (by decide) ?_
    exact kIret F hr hlocks () (by rw [if_neg c5]; exact hw) (by rw [if_neg c5]; rfl) dX3_again_9

def moF (ph k : Int32) (D : Nat → Int32) : Int64 := if ph = nI 2 ∧ ¬ isL k = 0 then loF D 5 k.toNatClampNeg 4 else 0

abbrev rX3_out : Room := { frames := 1, cells := 0, slots := 0, locals := 30 }
/-- out -/
theorem met_X3_out {l : Launch} {G : va_G} {cJ cI : ClassId} {am : Nat → Nat} {D : Nat → Int32} {U : Nat → Int64} {sc pt : Nat → Int64} {ph md rs : Int32} {sz : Nat} (k : Int32) : kMl l yX3_out cX3_out 2 rX3_out G cJ cI [.ref (am 0), .int k] (mW cJ cI am D U ((sc, pt, ph, md, rs))) sz (fun r (_ : Unit) => r = moF ph k D) (fun _ => mW cJ cI am D U ((sc, pt, ph, md, rs))) := by
  refine kStart (by decide) (Nat.le_of_ble_eq_true rfl) ?_
  intro p e s m below meth c ls F hr hlocks hin hsz hA hw hl
  have hl : lv_has ls 2 [(0, .ref (am 0)), (1, .int k)] := hl
  refine lv_aload_n F.1.1 F.1.2.1 dX3_out_0 rfl (lv_at hl 0 rfl) ?_
  refine mGf (v := .int ph) F hw 0 (by decide) rfl q259 (fun _ h9 => h9) dX3_out_1 ?_
  refine lv_iconst (v := nI 2) F.1.1 F.1.2.1 dX3_out_4 (by decide) ?_
  refine lv_icmp_ne (tgt := 24) F.1.1 F.1.2.1 dX3_out_5 (by decide) (fun c5 => ?_) (fun c5 => ?_)
  · refine lv_lconst (v := 0) F.1.1 F.1.2.1 dX3_out_24 (by decide) ?_
    exact kLret F hr hlocks () hw (by first | exact hp18 | (unfold moF; rw [if_neg (fun h9 => c5 h9.1)]) | (unfold moF; rw [if_neg (fun h9 => h9.2 (by rw [← hp9]; exact c12))])) dX3_out_25
  · refine lv_iload_n F.1.1 F.1.2.1 dX3_out_8 rfl (lv_at hl 1 rfl) ?_
    refine kCSi (As := [.int k]) F hw hA (met_X3_isLong _) (va_cwS 1 F.1.2.2.2.2 (lw_S q286 q287 q24 q288) rfl rfl rfl (by decide +kernel) ⟨Nat.le_of_ble_eq_true rfl, Nat.le_of_ble_eq_true rfl⟩) rfl hl.1 rfl (Nat.le_of_ble_eq_true rfl) dX3_out_9 ⟨Nat.le_of_ble_eq_true rfl, Nat.le_of_ble_eq_true rfl⟩ (fun r9 u9 H locs hp9 hw => ?_)
    refine lv_if_eq (tgt := 24) F.1.1 F.1.2.1 dX3_out_12 (by decide) (fun c12 => ?_) (fun c12 => ?_)
    · refine lv_lconst (v := 0) F.1.1 F.1.2.1 dX3_out_24 (by decide) ?_
      exact kLret F hr hlocks () hw (by first | exact hp18 | (unfold moF; rw [if_neg (fun h9 => c5 h9.1)]) | (unfold moF; rw [if_neg (fun h9 => h9.2 (by rw [← hp9]; exact c12))])) dX3_out_25
    · have hyes : ph = nI 2 ∧ ¬ isL k = 0 := ⟨c5, by rw [← hp9]; exact c12⟩
      unfold moF
      rw [if_pos hyes]
      obtain ⟨q, hq, rfl⟩ := isL_in hyes.2
      rw [nI_clamp (by omega)]
      refine lv_aload_n F.1.1 F.1.2.1 dX3_out_15 rfl (lv_at hl 0 rfl) ?_
      refine lv_iconst (v := nI 5) F.1.1 F.1.2.1 dX3_out_16 (by decide) ?_
      refine lv_iload_n F.1.1 F.1.2.1 dX3_out_17 rfl (lv_at hl 1 rfl) ?_
      refine kCl_ (As := [.int (nI 5), .int (nI q)]) F hw hA (met_X3_longOf 5 (by decide) q hq) (cwV 2 F.1.2.2.2.2 (lw_V q373 q375 qs17 q24 q376) rfl rfl rfl (by decide +kernel) ⟨Nat.le_of_ble_eq_true rfl, Nat.le_of_ble_eq_true rfl⟩) mRc rfl hl.1 rfl (Nat.le_of_ble_eq_true rfl) dX3_out_18 ⟨Nat.le_of_ble_eq_true rfl, Nat.le_of_ble_eq_true rfl⟩ (fun r18 u18 H locs hp18 hw => ?_)
      refine lv_goto (tgt := 25) F.1.1 F.1.2.1 dX3_out_21 (by decide) ?_
      exact kLret F hr hlocks () hw (by first | exact hp18 | (unfold moF; rw [if_neg (fun h9 => c5 h9.1)]) | (unfold moF; rw [if_neg (fun h9 => h9.2 (by rw [← hp9]; exact c12))])) dX3_out_25

def mpC (ph w k : Int32) : Prop := ¬ ph ≤ 0 ∧ ¬ w < 0 ∧ ¬ nI 4 < w ∧ ¬ isL k = 0

abbrev rX3_part : Room := { frames := 1, cells := 0, slots := 0, locals := 30 }
/-- part -/
theorem met_X3_part {l : Launch} {G : va_G} {cJ cI : ClassId} {am : Nat → Nat} {D : Nat → Int32} {U : Nat → Int64} {sc pt : Nat → Int64} {ph md rs : Int32} {sz : Nat} (w k : Int32) : kMl l yX3_part cX3_part 3 rX3_part G cJ cI [.ref (am 0), .int w, .int k] (mW cJ cI am D U ((sc, pt, ph, md, rs))) sz (fun r (_ : Unit) => (mpC ph w k → r = loF D w.toNatClampNeg k.toNatClampNeg 4) ∧ (¬ mpC ph w k → r = 0)) (fun _ => mW cJ cI am D U ((sc, pt, ph, md, rs))) := by
  refine kStart (by decide) (Nat.le_of_ble_eq_true rfl) ?_
  intro p e s m below meth c ls F hr hlocks hin hsz hA hw hl
  have hl : lv_has ls 3 [(0, .ref (am 0)), (1, .int w), (2, .int k)] := hl
  refine lv_aload_n F.1.1 F.1.2.1 dX3_part_0 rfl (lv_at hl 0 rfl) ?_
  refine mGf (v := .int ph) F hw 0 (by decide) rfl q259 (fun _ h9 => h9) dX3_part_1 ?_
  refine lv_if_le (tgt := 32) F.1.1 F.1.2.1 dX3_part_4 (by decide) (fun c4 => ?_) (fun c4 => ?_)
  · refine lv_lconst (v := 0) F.1.1 F.1.2.1 dX3_part_32 (by decide) ?_
    exact kLret F hr hlocks () hw (by first | exact ⟨fun _ => by rw [nI_clamp (by omega), nI_clamp (by omega)]; exact hp26, fun h9 => absurd hyes h9⟩ | exact ⟨fun h9 => absurd c4 h9.1, fun _ => rfl⟩ | exact ⟨fun h9 => absurd c8 h9.2.1, fun _ => rfl⟩ | exact ⟨fun h9 => absurd c13 h9.2.2.1, fun _ => rfl⟩ | exact ⟨fun h9 => absurd (hp17.symm.trans c20) h9.2.2.2, fun _ => rfl⟩) dX3_part_33
  · refine lv_iload_n F.1.1 F.1.2.1 dX3_part_7 rfl (lv_at hl 1 rfl) ?_
    refine lv_if_lt (tgt := 32) F.1.1 F.1.2.1 dX3_part_8 (by decide) (fun c8 => ?_) (fun c8 => ?_)
    · refine lv_lconst (v := 0) F.1.1 F.1.2.1 dX3_part_32 (by decide) ?_
      exact kLret F hr hlocks () hw (by first | exact ⟨fun _ => by rw [nI_clamp (by omega), nI_clamp (by omega)]; exact hp26, fun h9 => absurd hyes h9⟩ | exact ⟨fun h9 => absurd c4 h9.1, fun _ => rfl⟩ | exact ⟨fun h9 => absurd c8 h9.2.1, fun _ => rfl⟩ | exact ⟨fun h9 => absurd c13 h9.2.2.1, fun _ => rfl⟩ | exact ⟨fun h9 => absurd (hp17.symm.trans c20) h9.2.2.2, fun _ => rfl⟩) dX3_part_33
    · refine lv_iload_n F.1.1 F.1.2.1 dX3_part_11 rfl (lv_at hl 1 rfl) ?_
      refine lv_iconst (v := nI 4) F.1.1 F.1.2.1 dX3_part_12 (by decide) ?_
      refine lv_icmp_gt (tgt := 32) F.1.1 F.1.2.1 dX3_part_13 (by decide) (fun c13 => ?_) (fun c13 => ?_)
      · refine lv_lconst (v := 0) F.1.1 F.1.2.1 dX3_part_32 (by decide) ?_
        exact kLret F hr hlocks () hw (by first | exact ⟨fun _ => by rw [nI_clamp (by omega), nI_clamp (by omega)]; exact hp26, fun h9 => absurd hyes h9⟩ | exact ⟨fun h9 => absurd c4 h9.1, fun _ => rfl⟩ | exact ⟨fun h9 => absurd c8 h9.2.1, fun _ => rfl⟩ | exact ⟨fun h9 => absurd c13 h9.2.2.1, fun _ => rfl⟩ | exact ⟨fun h9 => absurd (hp17.symm.trans c20) h9.2.2.2, fun _ => rfl⟩) dX3_part_33
      · refine lv_iload_n F.1.1 F.1.2.1 dX3_part_16 rfl (lv_at hl 2 rfl) ?_
        refine kCSi (As := [.int k]) F hw hA (met_X3_isLong _) (va_cwS 1 F.1.2.2.2.2 (lw_S q286 q287 q24 q288) rfl rfl rfl (by decide +kernel) ⟨Nat.le_of_ble_eq_true rfl, Nat.le_of_ble_eq_true rfl⟩) rfl hl.1 rfl (Nat.le_of_ble_eq_true rfl) dX3_part_17 ⟨Nat.le_of_ble_eq_true rfl, Nat.le_of_ble_eq_true rfl⟩ (fun r17 u17 H locs hp17 hw => ?_)
        refine lv_if_eq (tgt := 32) F.1.1 F.1.2.1 dX3_part_20 (by decide) (fun c20 => ?_) (fun c20 => ?_)
        · refine lv_lconst (v := 0) F.1.1 F.1.2.1 dX3_part_32 (by decide) ?_
          exact kLret F hr hlocks () hw (by first | exact ⟨fun _ => by rw [nI_clamp (by omega), nI_clamp (by omega)]; exact hp26, fun h9 => absurd hyes h9⟩ | exact ⟨fun h9 => absurd c4 h9.1, fun _ => rfl⟩ | exact ⟨fun h9 => absurd c8 h9.2.1, fun _ => rfl⟩ | exact ⟨fun h9 => absurd c13 h9.2.2.1, fun _ => rfl⟩ | exact ⟨fun h9 => absurd (hp17.symm.trans c20) h9.2.2.2, fun _ => rfl⟩) dX3_part_33
        · have hyes : mpC ph w k := ⟨c4, c8, c13, by rw [← hp17]; exact c20⟩
          obtain ⟨q, hq, rfl⟩ := isL_in hyes.2.2.2
          obtain ⟨v, hv5, rfl⟩ := nI_of hyes.2.1
          have hv : v < 5 := Nat.lt_of_not_le (fun h9 => c13 (nI_lt h9 hv5))
          refine lv_aload_n F.1.1 F.1.2.1 dX3_part_23 rfl (lv_at hl 0 rfl) ?_
          refine lv_iload_n F.1.1 F.1.2.1 dX3_part_24 rfl (lv_at hl 1 rfl) ?_
          refine lv_iload_n F.1.1 F.1.2.1 dX3_part_25 rfl (lv_at hl 2 rfl) ?_
          refine kCl_ (As := [.int (nI v), .int (nI q)]) F hw hA (met_X3_longOf v (by omega) q hq) (cwV 2 F.1.2.2.2.2 (lw_V q373 q375 qs17 q24 q376) rfl rfl rfl (by decide +kernel) ⟨Nat.le_of_ble_eq_true rfl, Nat.le_of_ble_eq_true rfl⟩) mRc rfl hl.1 rfl (Nat.le_of_ble_eq_true rfl) dX3_part_26 ⟨Nat.le_of_ble_eq_true rfl, Nat.le_of_ble_eq_true rfl⟩ (fun r26 u26 H locs hp26 hw => ?_)
          refine lv_goto (tgt := 33) F.1.1 F.1.2.1 dX3_part_29 (by decide) ?_
          exact kLret F hr hlocks () hw (by first | exact ⟨fun _ => by rw [nI_clamp (by omega), nI_clamp (by omega)]; exact hp26, fun h9 => absurd hyes h9⟩ | exact ⟨fun h9 => absurd c4 h9.1, fun _ => rfl⟩ | exact ⟨fun h9 => absurd c8 h9.2.1, fun _ => rfl⟩ | exact ⟨fun h9 => absurd c13 h9.2.2.1, fun _ => rfl⟩ | exact ⟨fun h9 => absurd (hp17.symm.trans c20) h9.2.2.2, fun _ => rfl⟩) dX3_part_33

def mclF (sc : Nat → Int64) (q : Nat) : Int64 := if q = 3 then (sc 3 &&& 4611686018427387903) ||| 4611686018427387904 else if q = 0 then sc 0 &&& (-8) else sc q
def mtR (sc pt : Nat → Int64) (ph w k : Int32) (D : Nat → Int32) (r : Int64) (D' : Nat → Int32) : Prop :=
  if isL k = 0 then r = 0 ∧ D' = D else if w = 0 then r = sc k.toNatClampNeg ∧ D' = D else if w = nI 1 then r = pt k.toNatClampNeg ∧ D' = D else if w = nI 2 then r = mclF sc k.toNatClampNeg ∧ D' = D else if w = nI 3 then (if ph = 0 then r = loF (dMkU pt D) 4 k.toNatClampNeg 4 ∧ D' = dMkU pt D else r = loF D 4 k.toNatClampNeg 4 ∧ D' = D) else r = 0 ∧ D' = D

abbrev rX3_told : Room := { frames := 4, cells := 0, slots := 0, locals := 91 }
/-- told -/
theorem met_X3_told {l : Launch} {G : va_G} {cJ cI : ClassId} {am : Nat → Nat} {D : Nat → Int32} {U : Nat → Int64} {sc pt : Nat → Int64} {ph md rs : Int32} {sz : Nat} (w k : Int32) : kMl l yX3_told cX3_told 5 rX3_told G cJ cI [.ref (am 0), .int w, .int k] (mW cJ cI am D U ((sc, pt, ph, md, rs))) sz (fun r (u : (Nat → Int32) × (Nat → Int64)) => mtR sc pt ph w k D r u.1) (fun u => mW cJ cI am (u.1) (u.2) ((sc, pt, ph, md, rs))) := by
  refine kStart (by decide) (Nat.le_of_ble_eq_true rfl) ?_
  intro p e s m below meth c ls F hr hlocks hin hsz hA hw hl
  have hl : lv_has ls 5 [(0, .ref (am 0)), (1, .int w), (2, .int k)] := hl
  unfold mtR
  refine lv_iload_n F.1.1 F.1.2.1 dX3_told_0 rfl (lv_at hl 2 rfl) ?_
  refine kCSi (As := [.int k]) F hw hA (met_X3_isLong _) (va_cwS 1 F.1.2.2.2.2 (lw_S q286 q287 q24 q288) rfl rfl rfl (by decide +kernel) ⟨Nat.le_of_ble_eq_true rfl, Nat.le_of_ble_eq_true rfl⟩) rfl hl.1 rfl (Nat.le_of_ble_eq_true rfl) dX3_told_1 ⟨Nat.le_of_ble_eq_true rfl, Nat.le_of_ble_eq_true rfl⟩ (fun r1 u1 H locs hp1 hw => ?_)
  refine lv_if_ne (tgt := 9) F.1.1 F.1.2.1 dX3_told_4 (by decide) (fun c4 => ?_) (fun c4 => ?_)
  · rw [hp1] at c4
    obtain ⟨q, hq, rfl⟩ := isL_in c4
    simp only [if_neg c4, nI_clamp (show q < 2 ^ 31 by omega)]
    refine lv_iload_n F.1.1 F.1.2.1 dX3_told_9 rfl (lv_at hl 1 rfl) ?_
    refine lv_if_ne (tgt := 20) F.1.1 F.1.2.1 dX3_told_10 (by decide) (fun c10 => ?_) (fun c10 => ?_)
    · refine lv_iload_n F.1.1 F.1.2.1 dX3_told_20 rfl (lv_at hl 1 rfl) ?_
      refine lv_iconst (v := nI 1) F.1.1 F.1.2.1 dX3_told_21 (by decide) ?_
      refine lv_icmp_ne (tgt := 32) F.1.1 F.1.2.1 dX3_told_22 (by decide) (fun c22 => ?_) (fun c22 => ?_)
      · refine lv_iload_n F.1.1 F.1.2.1 dX3_told_32 rfl (lv_at hl 1 rfl) ?_
        refine lv_iconst (v := nI 2) F.1.1 F.1.2.1 dX3_told_33 (by decide) ?_
        refine lv_icmp_ne (tgt := 80) F.1.1 F.1.2.1 dX3_told_34 (by decide) (fun c34 => ?_) (fun c34 => ?_)
        · refine lv_iload_n F.1.1 F.1.2.1 dX3_told_80 rfl (lv_at hl 1 rfl) ?_
          refine lv_iconst (v := nI 3) F.1.1 F.1.2.1 dX3_told_81 (by decide) ?_
          refine lv_icmp_eq (tgt := 87) F.1.1 F.1.2.1 dX3_told_82 (by decide) (fun c82 => ?_) (fun c82 => ?_)
          · simp only [if_neg c10, if_neg c22, if_neg c34, if_pos c82]
            refine lv_aload_n F.1.1 F.1.2.1 dX3_told_87 rfl (lv_at hl 0 rfl) ?_
            refine mGf (v := .int ph) F hw 0 (by decide) rfl q259 (fun _ h9 => h9) dX3_told_88 ?_
            refine lv_if_ne (tgt := 98) F.1.1 F.1.2.1 dX3_told_91 (by decide) (fun c91 => ?_) (fun c91 => ?_)
            · refine lv_aload_n F.1.1 F.1.2.1 dX3_told_98 rfl (lv_at hl 0 rfl) ?_
              refine lv_iconst (v := nI 4) F.1.1 F.1.2.1 dX3_told_99 (by decide) ?_
              refine lv_iload_n F.1.1 F.1.2.1 dX3_told_100 rfl (lv_at hl 2 rfl) ?_
              refine kCl_ (As := [.int (nI 4), .int (nI q)]) F hw hA (met_X3_longOf 4 (by decide) q hq) (cwV 2 F.1.2.2.2.2 (lw_V q373 q375 qs17 q24 q376) rfl rfl rfl (by decide +kernel) ⟨Nat.le_of_ble_eq_true rfl, Nat.le_of_ble_eq_true rfl⟩) mRc rfl hl.1 rfl (Nat.le_of_ble_eq_true rfl) dX3_told_101 ⟨Nat.le_of_ble_eq_true rfl, Nat.le_of_ble_eq_true rfl⟩ (fun r101 u101 H locs hp101 hw => ?_)
              first
              | exact kLret F hr hlocks (D, U) hw (by rw [if_neg c91]; exact ⟨hp101, rfl⟩) dX3_told_104
              | exact kLret F hr hlocks (dMkU pt D, U) hw (by rw [if_pos c91]; exact ⟨hp101, rfl⟩) dX3_told_104
            · refine lv_aload_n F.1.1 F.1.2.1 dX3_told_94 rfl (lv_at hl 0 rfl) ?_
              refine kCv (As := []) F hw hA met_X3_makeU (cwV 0 F.1.2.2.2.2 (lw_V q297 q299 qs4 q24 q300) rfl rfl rfl (by decide +kernel) ⟨Nat.le_of_ble_eq_true rfl, Nat.le_of_ble_eq_true rfl⟩) mRc rfl hl.1 rfl (Nat.le_of_ble_eq_true rfl) dX3_told_95 ⟨Nat.le_of_ble_eq_true rfl, Nat.le_of_ble_eq_true rfl⟩ (fun U H locs hp hw => ?_)
              refine lv_aload_n F.1.1 F.1.2.1 dX3_told_98 rfl (lv_at hl 0 rfl) ?_
              refine lv_iconst (v := nI 4) F.1.1 F.1.2.1 dX3_told_99 (by decide) ?_
              refine lv_iload_n F.1.1 F.1.2.1 dX3_told_100 rfl (lv_at hl 2 rfl) ?_
              refine kCl_ (As := [.int (nI 4), .int (nI q)]) F hw hA (met_X3_longOf 4 (by decide) q hq) (cwV 2 F.1.2.2.2.2 (lw_V q373 q375 qs17 q24 q376) rfl rfl rfl (by decide +kernel) ⟨Nat.le_of_ble_eq_true rfl, Nat.le_of_ble_eq_true rfl⟩) mRc rfl hl.1 rfl (Nat.le_of_ble_eq_true rfl) dX3_told_101 ⟨Nat.le_of_ble_eq_true rfl, Nat.le_of_ble_eq_true rfl⟩ (fun r101 u101 H locs hp101 hw => ?_)
              first
              | exact kLret F hr hlocks (D, U) hw (by rw [if_neg c91]; exact ⟨hp101, rfl⟩) dX3_told_104
              | exact kLret F hr hlocks (dMkU pt D, U) hw (by rw [if_pos c91]; exact ⟨hp101, rfl⟩) dX3_told_104
          · refine lv_lconst (v := 0) F.1.1 F.1.2.1 dX3_told_85 (by decide) ?_
            exact kLret F hr hlocks (D, U) hw (by rw [if_neg c10, if_neg c22, if_neg c34, if_neg c82]; exact ⟨rfl, rfl⟩) dX3_told_86
        · simp only [if_neg c10, if_neg c22, if_pos c34]
          clear c4 hp1
          rcases (show q = 0 ∨ q = 1 ∨ q = 2 ∨ q = 3 by omega) with rfl | rfl | rfl | rfl
          · refine lv_iload_n F.1.1 F.1.2.1 dX3_told_37 rfl (lv_at hl 2 rfl) ?_
            refine lv_if_ne (tgt := 54) F.1.1 F.1.2.1 dX3_told_38 (by decide) (fun c9 => absurd (kz0 (by omega)) c9) (fun _ => ?_)
            refine lv_aload_n F.1.1 F.1.2.1 dX3_told_41 rfl (lv_at hl 0 rfl) ?_
            refine mGf (v := .ref (am 1)) F hw 3 (by decide) rfl q262 (fun _ h9 => h9) dX3_told_42 ?_
            refine lv_iconst (v := nI 0) F.1.1 F.1.2.1 dX3_told_45 (by decide) ?_
            refine mLc F hw 0 rfl (by omega) dX3_told_46 ?_
            refine lv_ldc2 (v := -8) F.1.1 F.1.2.1 F.1.2.2.2.1 (F.1.2.2.2.2 _ q397) dX3_told_47 ?_
            refine lv_land F.1.1 F.1.2.1 dX3_told_50 ?_
            refine lv_goto (tgt := 60) F.1.1 F.1.2.1 dX3_told_51 (by decide) ?_
            refine lv_topl (fun t1 et1 => ?_)
            refine lv_lstore_n (lv' := [(3, .long t1), (0, .ref (am 0)), (1, .int w), (2, .int (nI 0))]) F.1.1 F.1.2.1 dX3_told_60 rfl hl (by decide) rfl (fun ls hl => ?_)
            refine lv_iload_n F.1.1 F.1.2.1 dX3_told_61 rfl (lv_at hl 3 rfl) ?_
            refine lv_iconst (v := nI 3) F.1.1 F.1.2.1 dX3_told_62 (by decide) ?_
            refine lv_icmp_ne (tgt := 78) F.1.1 F.1.2.1 dX3_told_63 (by decide) (fun _ => ?_) (fun c9 => absurd c9 (kne (by omega) (by omega) (by omega)))
            refine lv_lload_n F.1.1 F.1.2.1 dX3_told_78 rfl (lv_at hl 0 rfl) ?_
            exact kLret F hr hlocks (D, U) hw ⟨by subst et1; rfl, rfl⟩ dX3_told_79
          · refine lv_iload_n F.1.1 F.1.2.1 dX3_told_37 rfl (lv_at hl 2 rfl) ?_
            refine lv_if_ne (tgt := 54) F.1.1 F.1.2.1 dX3_told_38 (by decide) (fun _ => ?_) (fun c9 => absurd c9 (nI_ne0 (by omega) (by omega)))
            refine lv_aload_n F.1.1 F.1.2.1 dX3_told_54 rfl (lv_at hl 0 rfl) ?_
            refine mGf (v := .ref (am 1)) F hw 3 (by decide) rfl q262 (fun _ h9 => h9) dX3_told_55 ?_
            refine lv_iload_n F.1.1 F.1.2.1 dX3_told_58 rfl (lv_at hl 2 rfl) ?_
            refine mLc F hw 1 rfl (by omega) dX3_told_59 ?_
            refine lv_topl (fun t1 et1 => ?_)
            refine lv_lstore_n (lv' := [(3, .long t1), (0, .ref (am 0)), (1, .int w), (2, .int (nI 1))]) F.1.1 F.1.2.1 dX3_told_60 rfl hl (by decide) rfl (fun ls hl => ?_)
            refine lv_iload_n F.1.1 F.1.2.1 dX3_told_61 rfl (lv_at hl 3 rfl) ?_
            refine lv_iconst (v := nI 3) F.1.1 F.1.2.1 dX3_told_62 (by decide) ?_
            refine lv_icmp_ne (tgt := 78) F.1.1 F.1.2.1 dX3_told_63 (by decide) (fun _ => ?_) (fun c9 => absurd c9 (kne (by omega) (by omega) (by omega)))
            refine lv_lload_n F.1.1 F.1.2.1 dX3_told_78 rfl (lv_at hl 0 rfl) ?_
            exact kLret F hr hlocks (D, U) hw ⟨by subst et1; rfl, rfl⟩ dX3_told_79
          · refine lv_iload_n F.1.1 F.1.2.1 dX3_told_37 rfl (lv_at hl 2 rfl) ?_
            refine lv_if_ne (tgt := 54) F.1.1 F.1.2.1 dX3_told_38 (by decide) (fun _ => ?_) (fun c9 => absurd c9 (nI_ne0 (by omega) (by omega)))
            refine lv_aload_n F.1.1 F.1.2.1 dX3_told_54 rfl (lv_at hl 0 rfl) ?_
            refine mGf (v := .ref (am 1)) F hw 3 (by decide) rfl q262 (fun _ h9 => h9) dX3_told_55 ?_
            refine lv_iload_n F.1.1 F.1.2.1 dX3_told_58 rfl (lv_at hl 2 rfl) ?_
            refine mLc F hw 2 rfl (by omega) dX3_told_59 ?_
            refine lv_topl (fun t1 et1 => ?_)
            refine lv_lstore_n (lv' := [(3, .long t1), (0, .ref (am 0)), (1, .int w), (2, .int (nI 2))]) F.1.1 F.1.2.1 dX3_told_60 rfl hl (by decide) rfl (fun ls hl => ?_)
            refine lv_iload_n F.1.1 F.1.2.1 dX3_told_61 rfl (lv_at hl 3 rfl) ?_
            refine lv_iconst (v := nI 3) F.1.1 F.1.2.1 dX3_told_62 (by decide) ?_
            refine lv_icmp_ne (tgt := 78) F.1.1 F.1.2.1 dX3_told_63 (by decide) (fun _ => ?_) (fun c9 => absurd c9 (kne (by omega) (by omega) (by omega)))
            refine lv_lload_n F.1.1 F.1.2.1 dX3_told_78 rfl (lv_at hl 0 rfl) ?_
            exact kLret F hr hlocks (D, U) hw ⟨by subst et1; rfl, rfl⟩ dX3_told_79
          · refine lv_iload_n F.1.1 F.1.2.1 dX3_told_37 rfl (lv_at hl 2 rfl) ?_
            refine lv_if_ne (tgt := 54) F.1.1 F.1.2.1 dX3_told_38 (by decide) (fun _ => ?_) (fun c9 => absurd c9 (nI_ne0 (by omega) (by omega)))
            refine lv_aload_n F.1.1 F.1.2.1 dX3_told_54 rfl (lv_at hl 0 rfl) ?_
            refine mGf (v := .ref (am 1)) F hw 3 (by decide) rfl q262 (fun _ h9 => h9) dX3_told_55 ?_
            refine lv_iload_n F.1.1 F.1.2.1 dX3_told_58 rfl (lv_at hl 2 rfl) ?_
            refine mLc F hw 3 rfl (by omega) dX3_told_59 ?_
            refine lv_topl (fun t1 et1 => ?_)
            refine lv_lstore_n (lv' := [(3, .long t1), (0, .ref (am 0)), (1, .int w), (2, .int (nI 3))]) F.1.1 F.1.2.1 dX3_told_60 rfl hl (by decide) rfl (fun ls hl => ?_)
            refine lv_iload_n F.1.1 F.1.2.1 dX3_told_61 rfl (lv_at hl 3 rfl) ?_
            refine lv_iconst (v := nI 3) F.1.1 F.1.2.1 dX3_told_62 (by decide) ?_
            refine lv_icmp_ne (tgt := 78) F.1.1 F.1.2.1 dX3_told_63 (by decide) (fun c9 => absurd (keq (by omega)) c9) (fun _ => ?_)
            refine lv_lload_n F.1.1 F.1.2.1 dX3_told_66 rfl (lv_at hl 0 rfl) ?_
            refine lv_ldc2 (v := 4611686018427387903) F.1.1 F.1.2.1 F.1.2.2.2.1 (F.1.2.2.2.2 _ q398) dX3_told_67 ?_
            refine lv_land F.1.1 F.1.2.1 dX3_told_70 ?_
            refine lv_ldc2 (v := 4611686018427387904) F.1.1 F.1.2.1 F.1.2.2.2.1 (F.1.2.2.2.2 _ q399) dX3_told_71 ?_
            refine lv_lor F.1.1 F.1.2.1 dX3_told_74 ?_
            refine lv_goto (tgt := 79) F.1.1 F.1.2.1 dX3_told_75 (by decide) ?_
            exact kLret F hr hlocks (D, U) hw ⟨by subst et1; rfl, rfl⟩ dX3_told_79
      · refine lv_aload_n F.1.1 F.1.2.1 dX3_told_25 rfl (lv_at hl 0 rfl) ?_
        refine mGf (v := .ref (am 2)) F hw 4 (by decide) rfl q263 (fun _ h9 => h9) dX3_told_26 ?_
        refine lv_iload_n F.1.1 F.1.2.1 dX3_told_29 rfl (lv_at hl 2 rfl) ?_
        refine mLt F hw q rfl (by omega) dX3_told_30 ?_
        exact kLret F hr hlocks (D, U) hw (by rw [if_neg c10, if_pos c22]; exact ⟨rfl, rfl⟩) dX3_told_31
    · refine lv_aload_n F.1.1 F.1.2.1 dX3_told_13 rfl (lv_at hl 0 rfl) ?_
      refine mGf (v := .ref (am 1)) F hw 3 (by decide) rfl q262 (fun _ h9 => h9) dX3_told_14 ?_
      refine lv_iload_n F.1.1 F.1.2.1 dX3_told_17 rfl (lv_at hl 2 rfl) ?_
      refine mLc F hw q rfl (by omega) dX3_told_18 ?_
      exact kLret F hr hlocks (D, U) hw (by rw [if_pos c10]; exact ⟨rfl, rfl⟩) dX3_told_19
  · refine lv_lconst (v := 0) F.1.1 F.1.2.1 dX3_told_7 (by decide) ?_
    exact kLret F hr hlocks (D, U) hw (by rw [hp1] at c4; rw [if_pos c4]; exact ⟨rfl, rfl⟩) dX3_told_8

def mckF (D : Nat → Int32) : Int32 := if (if zrF (dMul 11 5 1 D) 1 16 = 0 then smF (dMul 11 5 1 D) 11 0 16 else zrF (dMul 11 5 1 D) 5 16) = 0 then 0 else 1

abbrev rX3_check : Room := { frames := 4, cells := 0, slots := 0, locals := 95 }
/-- check -/
theorem met_X3_check {l : Launch} {G : va_G} {cJ cI : ClassId} {am : Nat → Nat} {D : Nat → Int32} {U : Nat → Int64} {sc pt : Nat → Int64} {ph md rs : Int32} {sz : Nat}  : kMi l yX3_check cX3_check 2 .int rX3_check G cJ cI [.ref (am 0)] (mW cJ cI am D U ((sc, pt, ph, md, rs))) sz (fun r (u : (Nat → Int32) × (Nat → Int64)) => (ph = nI 2 → r = mckF D ∧ u.1 = dMul 11 5 1 D) ∧ (¬ ph = nI 2 → r = 1 ∧ u.1 = D)) (fun u => mW cJ cI am (u.1) (u.2) ((sc, pt, ph, md, rs))) := by
  refine kStart (by decide) (Nat.le_of_ble_eq_true rfl) ?_
  intro p e s m below meth c ls F hr hlocks hin hsz hA hw hl
  have hl : lv_has ls 2 [(0, .ref (am 0))] := hl
  refine lv_aload_n F.1.1 F.1.2.1 dX3_check_0 rfl (lv_at hl 0 rfl) ?_
  refine mGf (v := .int ph) F hw 0 (by decide) rfl q259 (fun _ h9 => h9) dX3_check_1 ?_
  refine lv_iconst (v := nI 2) F.1.1 F.1.2.1 dX3_check_4 (by decide) ?_
  refine lv_icmp_eq (tgt := 10) F.1.1 F.1.2.1 dX3_check_5 (by decide) (fun c5 => ?_) (fun c5 => ?_)
  · refine lv_aload_n F.1.1 F.1.2.1 dX3_check_10 rfl (lv_at hl 0 rfl) ?_
    refine lv_bipush (v := nI 11) F.1.1 F.1.2.1 dX3_check_11 (by decide) ?_
    refine lv_iconst (v := nI 5) F.1.1 F.1.2.1 dX3_check_13 (by decide) ?_
    refine lv_iconst (v := nI 1) F.1.1 F.1.2.1 dX3_check_14 (by decide) ?_
    refine kCv (As := [.int (nI 11), .int (nI 5), .int (nI 1)]) F hw hA (met_X3_multiply 11 (by decide) 5 (by decide) 1 (by decide)) (cwV 3 F.1.2.2.2.2 (lw_V q355 q357 qs15 q24 q358) rfl rfl rfl (by decide +kernel) ⟨Nat.le_of_ble_eq_true rfl, Nat.le_of_ble_eq_true rfl⟩) mRc rfl hl.1 rfl (Nat.le_of_ble_eq_true rfl) dX3_check_15 ⟨Nat.le_of_ble_eq_true rfl, Nat.le_of_ble_eq_true rfl⟩ (fun U H locs hp hw => ?_)
    refine lv_aload_n F.1.1 F.1.2.1 dX3_check_18 rfl (lv_at hl 0 rfl) ?_
    refine lv_iconst (v := nI 1) F.1.1 F.1.2.1 dX3_check_19 (by decide) ?_
    refine kCi (As := [.int (nI 1)]) F hw hA (met_X3_isZero 1 (by decide)) (cwV 1 F.1.2.2.2.2 (lw_V q408 q410 qs18 q24 q411) rfl rfl rfl (by decide +kernel) ⟨Nat.le_of_ble_eq_true rfl, Nat.le_of_ble_eq_true rfl⟩) mRc rfl hl.1 rfl (Nat.le_of_ble_eq_true rfl) dX3_check_20 ⟨Nat.le_of_ble_eq_true rfl, Nat.le_of_ble_eq_true rfl⟩ (fun r20 u20 H locs hp20 hw => ?_)
    refine lv_if_eq (tgt := 34) F.1.1 F.1.2.1 dX3_check_23 (by decide) (fun c23 => ?_) (fun c23 => ?_)
    · refine lv_aload_n F.1.1 F.1.2.1 dX3_check_34 rfl (lv_at hl 0 rfl) ?_
      refine lv_bipush (v := nI 11) F.1.1 F.1.2.1 dX3_check_35 (by decide) ?_
      refine lv_iconst (v := nI 0) F.1.1 F.1.2.1 dX3_check_37 (by decide) ?_
      refine kCi (As := [.int (nI 11), .int (nI 0)]) F hw hA (met_X3_isSame 11 (by decide) 0 (by decide)) (cwV 2 F.1.2.2.2.2 (lw_V q412 q414 qs19 q24 q415) rfl rfl rfl (by decide +kernel) ⟨Nat.le_of_ble_eq_true rfl, Nat.le_of_ble_eq_true rfl⟩) mRc rfl hl.1 rfl (Nat.le_of_ble_eq_true rfl) dX3_check_38 ⟨Nat.le_of_ble_eq_true rfl, Nat.le_of_ble_eq_true rfl⟩ (fun r38 u38 H locs hp38 hw => ?_)
      refine lv_istore_n (lv' := [(1, .int r38), (0, .ref (am 0))]) F.1.1 F.1.2.1 dX3_check_41 rfl hl (by decide) rfl (fun ls hl => ?_)
      refine lv_iload_n F.1.1 F.1.2.1 dX3_check_42 rfl (lv_at hl 0 rfl) ?_
      refine lv_if_eq (tgt := 50) F.1.1 F.1.2.1 dX3_check_43 (by decide) (fun c43 => ?_) (fun c43 => ?_)
      · refine lv_iconst (v := nI 0) F.1.1 F.1.2.1 dX3_check_50 (by decide) ?_
        exact kIret F hr hlocks (dMul 11 5 1 D, U) hw ⟨fun _ => ⟨by
    rw [hp20] at c23
    unfold mckF
    first
    | (rw [if_pos c23, ← hp38, if_pos c43]; rfl)
    | (rw [if_pos c23, ← hp38, if_neg c43]; rfl)
    | (rw [if_neg c23, ← hp28, if_pos c43]; rfl)
    | (rw [if_neg c23, ← hp28, if_neg c43]; rfl), rfl⟩, fun h9 => absurd c5 h9⟩ dX3_check_51
      · refine lv_iconst (v := nI 1) F.1.1 F.1.2.1 dX3_check_46 (by decide) ?_
        refine lv_goto (tgt := 51) F.1.1 F.1.2.1 dX3_check_47 (by decide) ?_
        exact kIret F hr hlocks (dMul 11 5 1 D, U) hw ⟨fun _ => ⟨by
    rw [hp20] at c23
    unfold mckF
    first
    | (rw [if_pos c23, ← hp38, if_pos c43]; rfl)
    | (rw [if_pos c23, ← hp38, if_neg c43]; rfl)
    | (rw [if_neg c23, ← hp28, if_pos c43]; rfl)
    | (rw [if_neg c23, ← hp28, if_neg c43]; rfl), rfl⟩, fun h9 => absurd c5 h9⟩ dX3_check_51
    · refine lv_aload_n F.1.1 F.1.2.1 dX3_check_26 rfl (lv_at hl 0 rfl) ?_
      refine lv_iconst (v := nI 5) F.1.1 F.1.2.1 dX3_check_27 (by decide) ?_
      refine kCi (As := [.int (nI 5)]) F hw hA (met_X3_isZero 5 (by decide)) (cwV 1 F.1.2.2.2.2 (lw_V q408 q410 qs18 q24 q411) rfl rfl rfl (by decide +kernel) ⟨Nat.le_of_ble_eq_true rfl, Nat.le_of_ble_eq_true rfl⟩) mRc rfl hl.1 rfl (Nat.le_of_ble_eq_true rfl) dX3_check_28 ⟨Nat.le_of_ble_eq_true rfl, Nat.le_of_ble_eq_true rfl⟩ (fun r28 u28 H locs hp28 hw => ?_)
      refine lv_goto (tgt := 41) F.1.1 F.1.2.1 dX3_check_31 (by decide) ?_
      refine lv_istore_n (lv' := [(1, .int r28), (0, .ref (am 0))]) F.1.1 F.1.2.1 dX3_check_41 rfl hl (by decide) rfl (fun ls hl => ?_)
      refine lv_iload_n F.1.1 F.1.2.1 dX3_check_42 rfl (lv_at hl 0 rfl) ?_
      refine lv_if_eq (tgt := 50) F.1.1 F.1.2.1 dX3_check_43 (by decide) (fun c43 => ?_) (fun c43 => ?_)
      · refine lv_iconst (v := nI 0) F.1.1 F.1.2.1 dX3_check_50 (by decide) ?_
        exact kIret F hr hlocks (dMul 11 5 1 D, U) hw ⟨fun _ => ⟨by
    rw [hp20] at c23
    unfold mckF
    first
    | (rw [if_pos c23, ← hp38, if_pos c43]; rfl)
    | (rw [if_pos c23, ← hp38, if_neg c43]; rfl)
    | (rw [if_neg c23, ← hp28, if_pos c43]; rfl)
    | (rw [if_neg c23, ← hp28, if_neg c43]; rfl), rfl⟩, fun h9 => absurd c5 h9⟩ dX3_check_51
      · refine lv_iconst (v := nI 1) F.1.1 F.1.2.1 dX3_check_46 (by decide) ?_
        refine lv_goto (tgt := 51) F.1.1 F.1.2.1 dX3_check_47 (by decide) ?_
        exact kIret F hr hlocks (dMul 11 5 1 D, U) hw ⟨fun _ => ⟨by
    rw [hp20] at c23
    unfold mckF
    first
    | (rw [if_pos c23, ← hp38, if_pos c43]; rfl)
    | (rw [if_pos c23, ← hp38, if_neg c43]; rfl)
    | (rw [if_neg c23, ← hp28, if_pos c43]; rfl)
    | (rw [if_neg c23, ← hp28, if_neg c43]; rfl), rfl⟩, fun h9 => absurd c5 h9⟩ dX3_check_51
  · refine lv_iconst (v := nI 1) F.1.1 F.1.2.1 dX3_check_8 (by decide) ?_
    exact kIret F hr hlocks (D, U) hw ⟨fun h9 => absurd h9 c5, fun _ => ⟨rfl, rfl⟩⟩ dX3_check_9
end
section
/-! ===== constructors, and calls with a part of the world ===== -/
set_option maxRecDepth 100000
/-! two worlds side by side -/
theorem pw_l {G : va_G} {cl : List vw_C} {v w : va_W} {H : Heap} (h : va_P G cl (v ++ w) H) : va_P G cl v H := fun k q hk => h k q (by rw [List.getElem?_append_left (List.getElem?_eq_some_iff.mp hk).1]; exact hk)
theorem pw_r {G : va_G} {cl : List vw_C} {v w : va_W} {H : Heap} (h : va_P G cl (v ++ w) H) : va_P G cl w H := fun k q hk => h (v.length + k) q (by rw [List.getElem?_append_right (by omega), show v.length + k - v.length = k by omega]; exact hk)
theorem dw_r {A : Nat → Prop} {v w : va_W} (h : va_D A (v ++ w)) : va_D A w := by
  have e : ∀ (k : Nat) (q : Nat × va_E), w[k]? = some q → (v ++ w)[v.length + k]? = some q := fun k q hk => by rw [List.getElem?_append_right (by omega), show v.length + k - v.length = k by omega]; exact hk
  refine ⟨fun i j p q hi hj hpq => ?_, fun k q hk => h.2 _ q (e k q hk)⟩
  have := h.1 _ _ p q (e i p hi) (e j q hj) hpq
  omega
theorem dw_l {A : Nat → Prop} {v w : va_W} (h : va_D A (v ++ w)) : va_D A v := by
  have e : ∀ (k : Nat) (q : Nat × va_E), v[k]? = some q → (v ++ w)[k]? = some q := fun k q hk => by rw [List.getElem?_append_left (List.getElem?_eq_some_iff.mp hk).1]; exact hk
  exact ⟨fun i j p q hi hj hpq => h.1 _ _ p q (e i p hi) (e j q hj) hpq, fun k q hk => h.2 _ q (e k q hk)⟩
theorem dw_ne {A : Nat → Prop} {v w : va_W} (h : va_D A (v ++ w)) {i j : Nat} {p q : Nat × va_E} (hi : v[i]? = some p) (hj : w[j]? = some q) : p.1 ≠ q.1 := by
  intro e
  have hl := (List.getElem?_eq_some_iff.mp hi).1
  have := h.1 i (v.length + j) p q (by rw [List.getElem?_append_left hl]; exact hi) (by rw [List.getElem?_append_right (by omega), show v.length + j - v.length = j by omega]; exact hj) e
  omega
theorem kW.swap {G : va_G} {A : Nat → Prop} {s : State} {H : Heap} {locs : List Loc} {v w : va_W} (h : kW G A s H locs (v ++ w)) : kW G A s H locs (w ++ v) :=
  ⟨(pw_r h.1).app (pw_l h.1), (dw_r h.2.1).app (dw_l h.2.1) (fun _ _ _ _ hi hj e => dw_ne h.2.1 hj hi e.symm), h.2.2⟩
theorem kW.join {G : va_G} {A : Nat → Prop} {s : State} {H H1 : Heap} {locs locs1 : List Loc} {v w w1 : va_W} (h : kW G A s H locs (v ++ w)) (hA : ∀ q : Nat, s.heap.size ≤ q → A q) (hk : ∀ q : Nat, q < H.size → ¬ va_A w H.size q → H1[q]? = H[q]?) (hP1 : va_P G kCl w1 H1) (hD1 : va_D (va_A w H.size) w1) (hS : va_S A s.heap H1 locs1) : kW G A s H1 locs1 (v ++ w1) := by
  have hw : kW G A s H locs w := ⟨pw_r h.1, dw_r h.2.1, h.2.2⟩
  have ap : ∀ (k : Nat) (q : Nat × va_E), v[k]? = some q → q.1 < H.size ∧ ¬ va_A w H.size q.1 := by
    intro k q hq
    have hl := (pw_l h.1 k q hq).lt
    refine ⟨hl, fun h9 => ?_⟩
    rcases h9 with ⟨j, e, h9⟩ | h9
    · exact dw_ne h.2.1 hq h9 rfl
    · omega
  refine ⟨va_P.app (fun k q hq => ?_) hP1, va_D.app (dw_l h.2.1) (hD1.weaken (fun _ q _ h9 => hw.free hA q.1 h9)) (fun i j x y hx hy e => ?_), hS⟩
  · exact (pw_l h.1 k q hq).kept (hk q.1 (ap k q hq).1 (ap k q hq).2)
  · exact (ap i x hx).2 (by rw [e]; exact hD1.2 j y hy)
section KP
variable {p : Program} {l : Launch} {e : Env} {R : Room} {s : State} {m : MethodId} {args : Array Value} {below : List Frame} {meth : Method} {c : Code} {H : Heap} {locs : List Loc} {cells slots : Nat} {Q : State → Prop}
variable {cc : ByteArray} {nL : Nat} {pc : Nat} {ls : Array Slot} {rest : List Value} {G : va_G} {cJ cI : ClassId} {A : Nat → Prop} {own : String} {v w : va_W}
variable {y : MethodName} {cy : ByteArray} {ny n index : Nat} {rm : Room} {C : String} {b : Nat} {As st0 : List Value}
/-- a call whose world is the right part of ours -/
theorem kCiR {S : Type} {ty : FieldType} {post : Int32 → S → Prop} {w2 : S → va_W} (F : kF p m c cc nL s args own G cJ cI) (hvw : kW G A s H locs (v ++ w)) (hA : ∀ q : Nat, s.heap.size ≤ q → A q) (hM : kMi l y cy ny ty rm G cJ cI (.ref b :: As) w H.size post w2) (cw : CallW R s args own C index y cy ny (some ty) (ws_ y cy ny (some ty)) rm 0 0 n) (hrc : kRc w b C) (hn : As.length = n) (hls : ls.size = nL) (hst : st0 = As.reverse ++ .ref b :: rest) (hroom : (rest.map fun v => v.category).sum ≤ 8) (hdg : decode cc pc = .ok (.invokevirtual index, 3)) (hf : cells ≤ R.cells ∧ slots ≤ R.slots)
    (kk : ∀ (r : Int32) (u : S) (H1 : Heap) (locs1 : List Loc), post r u → kW G A s H1 locs1 (v ++ w2 u) → W p l e R s m args below meth c H1 locs1 cells slots Q (F0 m (pc + 3) ls (.int r :: rest))) : W p l e R s m args below meth c H locs cells slots Q (F0 m pc ls st0) := by
  have hw : kW G A s H locs w := ⟨pw_r hvw.1, dw_r hvw.2.1, hvw.2.2⟩
  refine va_calli (va_runV (As := As) (rest := rest) F.1 hM cw ⟨kPre.blind, hw.recv F hrc, hw.pre F _⟩ rfl hn hls hst (lv_room (m := m) (pc := pc) (ls := ls) (rest := st0) hroom) hdg hf) hw.2.2 (fun q _ h => hw.free hA q h) (hw.free hA) (fun r u t H1 locs1 ht hvm hp hB hz hk hS => ?_)
  refine kk r u H1 locs1 hp (hvw.join hA hk (by rw [← ht]; exact hB.1) hB.2 hS)
theorem kClR {S : Type} {post : Int64 → S → Prop} {w2 : S → va_W} (F : kF p m c cc nL s args own G cJ cI) (hvw : kW G A s H locs (v ++ w)) (hA : ∀ q : Nat, s.heap.size ≤ q → A q) (hM : kMl l y cy ny rm G cJ cI (.ref b :: As) w H.size post w2) (cw : CallW R s args own C index y cy ny (some .long) (ws_ y cy ny (some .long)) rm 0 0 n) (hrc : kRc w b C) (hn : As.length = n) (hls : ls.size = nL) (hst : st0 = As.reverse ++ .ref b :: rest) (hroom : (rest.map fun v => v.category).sum ≤ 8) (hdg : decode cc pc = .ok (.invokevirtual index, 3)) (hf : cells ≤ R.cells ∧ slots ≤ R.slots)
    (kk : ∀ (r : Int64) (u : S) (H1 : Heap) (locs1 : List Loc), post r u → kW G A s H1 locs1 (v ++ w2 u) → W p l e R s m args below meth c H1 locs1 cells slots Q (F0 m (pc + 3) ls (.long r :: rest))) : W p l e R s m args below meth c H locs cells slots Q (F0 m pc ls st0) := by
  have hw : kW G A s H locs w := ⟨pw_r hvw.1, dw_r hvw.2.1, hvw.2.2⟩
  refine va_calll (va_runV (As := As) (rest := rest) F.1 hM cw ⟨kPre.blind, hw.recv F hrc, hw.pre F _⟩ rfl hn hls hst (lv_room (m := m) (pc := pc) (ls := ls) (rest := st0) hroom) hdg hf) hw.2.2 (fun q _ h => hw.free hA q h) (hw.free hA) (fun r u t H1 locs1 ht hvm hp hB hz hk hS => ?_)
  refine kk r u H1 locs1 hp (hvw.join hA hk (by rw [← ht]; exact hB.1) hB.2 hS)
/-- a constructor of a class of our own nest, on the last cell of the world -/
theorem kCnR {S : Type} {host : String} {mc ms : Nat} {post : S → Prop} {w2 : S → va_W} (F : kF p m c cc nL s args own G cJ cI) (hvw : kW G A s H locs (v ++ w)) (hA : ∀ q : Nat, s.heap.size ≤ q → A q) (hM : Met l y (ws_ y cy ny none) rm (kPre G cJ cI [.ref b] w H.size) (va_Qv post (kB G w2 (va_A w H.size)) (va_A w H.size)) mc ms (va_A w H.size)) (cw : va_CN R s args own index y host cy ny none (ws_ y cy ny none) rm mc ms 0 ∧ y.name = "<init>" ∧ (Cond.instanceMethod y).before args s = true) (hls : ls.size = nL) (hroom : (rest.map fun v => v.category).sum ≤ 8) (hdg : decode cc pc = .ok (.invokespecial index, 3)) (hf : cells + mc ≤ R.cells ∧ slots + ms ≤ R.slots)
    (kk : ∀ (u : S) (H1 : Heap) (locs1 : List Loc), post u → kW G A s H1 locs1 (v ++ w2 u) → W p l e R s m args below meth c H1 locs1 (cells + mc) (slots + ms) Q (F0 m (pc + 3) ls rest)) : W p l e R s m args below meth c H locs cells slots Q (F0 m pc ls (.ref b :: rest)) := by
  have hw : kW G A s H locs w := ⟨pw_r hvw.1, dw_r hvw.2.1, hvw.2.2⟩
  refine va_callv (va_runIN (As := []) (rest := rest) F.1 hM cw ⟨kPre.blind, hw.pre F _⟩ rfl rfl hls rfl (lv_room (m := m) (pc := pc) (ls := ls) (rest := .ref b :: rest) hroom) hdg hf) hw.2.2 (fun q _ h => hw.free hA q h) (hw.free hA) (fun u t H1 locs1 ht hvm hp hB hz hk hS => ?_)
  refine kk u H1 locs1 hp (hvw.join hA hk (by rw [← ht]; exact hB.1) hB.2 hS)
/-- a constructor, called by the law -/
theorem kCcR {S : Type} {mc ms : Nat} {post : S → Prop} {w2 : S → va_W} (F : kF p m c cc nL s args own G cJ cI) (hvw : kW G A s H locs (v ++ w)) (hA : ∀ q : Nat, s.heap.size ≤ q → A q) (hM : Met l y (ws_ y cy ny none) rm (kPre G cJ cI [.ref b] w H.size) (va_Qv post (kB G w2 (va_A w H.size)) (va_A w H.size)) mc ms (va_A w H.size)) (cw : CallB R s args own index y cy ny none (ws_ y cy ny none) rm mc ms 0 ∧ y.name = "<init>" ∧ (Cond.instanceMethod y).before args s = true) (hls : ls.size = nL) (hroom : (rest.map fun v => v.category).sum ≤ 8) (hdg : decode cc pc = .ok (.invokespecial index, 3)) (hf : cells + mc ≤ R.cells ∧ slots + ms ≤ R.slots)
    (kk : ∀ (u : S) (H1 : Heap) (locs1 : List Loc), post u → kW G A s H1 locs1 (v ++ w2 u) → W p l e R s m args below meth c H1 locs1 (cells + mc) (slots + ms) Q (F0 m (pc + 3) ls rest)) : W p l e R s m args below meth c H locs cells slots Q (F0 m pc ls (.ref b :: rest)) := by
  have hw : kW G A s H locs w := ⟨pw_r hvw.1, dw_r hvw.2.1, hvw.2.2⟩
  refine va_callv (va_runI (As := []) (rest := rest) F.1 hM cw ⟨kPre.blind, hw.pre F _⟩ rfl rfl hls rfl (lv_room (m := m) (pc := pc) (ls := ls) (rest := .ref b :: rest) hroom) hdg hf) hw.2.2 (fun q _ h => hw.free hA q h) (hw.free hA) (fun u t H1 locs1 ht hvm hp hB hz hk hS => ?_)
  refine kk u H1 locs1 hp (hvw.join hA hk (by rw [← ht]; exact hB.1) hB.2 hS)
/-- new long[N], new int[N] -/
theorem kNewJ (F : kF p m c cc nL s args own G cJ cI) (hw : kW G A s H locs w) (hA : ∀ q : Nat, s.heap.size ≤ q → A q) (N : Nat) (hN : N < 1000) (hcells : cells + 1 ≤ R.cells) (hslots : slots + N ≤ R.slots) (hdg : decode cc pc = .ok (.newarray .long, 2))
    (kk : ∀ (q : Nat) (H1 : Heap), kW G A s H1 locs (w ++ [(q, .inl (cJ, N, .inr (.inl (fun _ => 0))))]) → W p l e R s m args below meth c H1 locs (cells + 1) (slots + N) Q (F0 m (pc + 2) ls (.ref q :: rest))) : W p l e R s m args below meth c H locs cells slots Q (F0 m pc ls (.int (nI N) :: rest)) := by
  refine va_newa (atype := .long) (ty := .long) (a0 := (N, .inr (.inl (fun _ => 0)))) F.1.1 F.1.2.1 (F.1.2.2.2.2 _ q44) rfl F.2.1 hw.1 hw.2.1 hw.2.2 hA (fun cA => rfl) (nI_pos (by omega)) (nI_clamp (by omega)) (by show N * 8 ≤ 536870912; omega) hcells hslots hdg (fun q cA H1 hK hP hD hS => ?_)
  have e : cA = cJ := Option.some.inj ((va_nm_long (hK.2 2 _ rfl).2).symm.trans (va_nm_long (F.2.1.2 0 _ rfl).2))
  subst e
  exact kk q H1 ⟨hP, hD, hS⟩
theorem kNewI (F : kF p m c cc nL s args own G cJ cI) (hw : kW G A s H locs w) (hA : ∀ q : Nat, s.heap.size ≤ q → A q) (N : Nat) (hN : N < 1000) (hcells : cells + 1 ≤ R.cells) (hslots : slots + N ≤ R.slots) (hdg : decode cc pc = .ok (.newarray .int, 2))
    (kk : ∀ (q : Nat) (H1 : Heap), kW G A s H1 locs (w ++ [(q, .inl (cI, N, .inl (fun _ => 0)))]) → W p l e R s m args below meth c H1 locs (cells + 1) (slots + N) Q (F0 m (pc + 2) ls (.ref q :: rest))) : W p l e R s m args below meth c H locs cells slots Q (F0 m pc ls (.int (nI N) :: rest)) := by
  refine va_newa (atype := .int) (ty := .int) (a0 := (N, .inl (fun _ => 0))) F.1.1 F.1.2.1 (F.1.2.2.2.2 _ q281) rfl F.2.1 hw.1 hw.2.1 hw.2.2 hA (fun cA => rfl) (nI_pos (by omega)) (nI_clamp (by omega)) (by show N * 4 ≤ 536870912; omega) hcells hslots hdg (fun q cA H1 hK hP hD hS => ?_)
  have e : cA = cI := Option.some.inj ((va_nm_int (hK.2 2 _ rfl).2).symm.trans (va_nm_int (F.2.1.2 1 _ rfl).2))
  subst e
  exact kk q H1 ⟨hP, hD, hS⟩
end KP
abbrev z16 (cJ : ClassId) : va_E := .inl (cJ, 16, .inr (.inl (fun _ => 0)))

abbrev rX2_init : Room := { frames := 1, cells := 2, slots := 32, locals := 12 }

set_option maxHeartbeats 4000000 in
/-- Number(): two arrays -/
theorem met_X2_init {l : Launch} {G : va_G} {cJ cI : ClassId} {sz : Nat} (q : Nat) : Met l yX2_init (ws_ yX2_init cX2_init 1 none) rX2_init (kPre G cJ cI [.ref q] [(q, .inr (2, [.null, .null]))] sz) (va_Qv (fun _ : Nat × Nat => True) (kB G (fun u => [(q, .inr (2, [.ref u.1, .ref u.2])), (u.1, z16 cJ), (u.2, z16 cJ)]) (va_A [(q, .inr (2, [.null, .null]))] sz)) (va_A [(q, .inr (2, [.null, .null]))] sz)) 2 32 (va_A [(q, .inr (2, [.null, .null]))] sz) := by
  refine kStart (by decide) (Nat.le_of_ble_eq_true rfl) ?_
  intro p e s m below meth c ls F hr hlocks hin hsz hA hw hl
  have hl : lv_has ls 1 [(0, .ref q)] := hl
  have hin : meth.name = "<init>" := hin
  refine lv_aload_n F.1.1 F.1.2.1 dX2_init_0 rfl (lv_at hl 0 rfl) ?_
  refine W.objInit F.1.1 F.1.2.1 F.1.2.2.2.1 (F.1.2.2.2.2 _ q50) (F.1.2.2.2.2 _ q32) (F.1.2.2.2.2 _ q33) rfl (by rw [F.1.2.2.1]; exact hl.1) rfl dX2_init_1 (Nat.le_of_ble_eq_true rfl) (Nat.le_of_ble_eq_true rfl) ?_
  refine W.eq (g2 := F0 m 4 ls []) rfl ?_
  refine lv_aload_n F.1.1 F.1.2.1 dX2_init_4 rfl (lv_at hl 0 rfl) ?_
  refine lv_bipush (v := nI 16) F.1.1 F.1.2.1 dX2_init_5 (by decide) ?_
  refine kNewJ F hw hA 16 (by decide) (Nat.le_of_ble_eq_true rfl) (Nat.le_of_ble_eq_true rfl) dX2_init_7 (fun a H hw => ?_)
  refine va_putF (D := G) (ci := 2) (v := .ref a) (ty := (.array .long)) (C := RX2) (T := TX2) (N := 2) (fs := [.null, .null]) F.1.1 F.1.2.1 F.1.2.2.2.2 in_X2 tyX2 tyX2_ok nmX2 F.1.2.2.2.1 F.2.1 hw.1 hw.2.1 hw.2.2 0 rfl rfl 0 (by decide) (F.1.2.2.2.2 _ q51) (fun _ h9 => h9) rfl hin rfl (by decide +kernel) rfl rfl (Nat.le_of_ble_eq_true rfl) dX2_init_9 (fun H locs hP hD hS => ?_)
  have hw : kW G _ s H locs [(q, .inr (2, [.ref a, .null])), (a, z16 cJ)] := ⟨hP, hD, hS⟩
  refine lv_aload_n F.1.1 F.1.2.1 dX2_init_12 rfl (lv_at hl 0 rfl) ?_
  refine lv_bipush (v := nI 16) F.1.1 F.1.2.1 dX2_init_13 (by decide) ?_
  refine kNewJ F hw hA 16 (by decide) (Nat.le_of_ble_eq_true rfl) (Nat.le_of_ble_eq_true rfl) dX2_init_15 (fun b H hw => ?_)
  refine va_putF (D := G) (ci := 2) (v := .ref b) (ty := (.array .long)) (C := RX2) (T := TX2) (N := 2) (fs := [.ref a, .null]) F.1.1 F.1.2.1 F.1.2.2.2.2 in_X2 tyX2 tyX2_ok nmX2 F.1.2.2.2.1 F.2.1 hw.1 hw.2.1 hw.2.2 0 rfl rfl 1 (by decide) (F.1.2.2.2.2 _ q54) (fun _ h9 => h9) rfl hin rfl (by decide +kernel) rfl rfl (Nat.le_of_ble_eq_true rfl) dX2_init_17 (fun H locs hP hD hS => ?_)
  have hw : kW G _ s H locs [(q, .inr (2, [.ref a, .ref b])), (a, z16 cJ), (b, z16 cJ)] := ⟨hP, hD, hS⟩
  exact kVret F hr hlocks (a, b) hw trivial dX2_init_20

abbrev rX1_init : Room := { frames := 1, cells := 1, slots := 31, locals := 12 }

set_option maxHeartbeats 4000000 in
/-- Products(): its rows -/
theorem met_X1_init {l : Launch} {G : va_G} {cJ cI : ClassId} {sz : Nat} (q : Nat) : Met l yX1_init (ws_ yX1_init cX1_init 1 none) rX1_init (kPre G cJ cI [.ref q] [(q, .inr (1, [.null]))] sz) (va_Qv (fun _ : Nat => True) (kB G (fun u => [(q, .inr (1, [.ref u])), (u, .inl (cJ, 31, .inr (.inl (fun _ => 0))))]) (va_A [(q, .inr (1, [.null]))] sz)) (va_A [(q, .inr (1, [.null]))] sz)) 1 31 (va_A [(q, .inr (1, [.null]))] sz) := by
  refine kStart (by decide) (Nat.le_of_ble_eq_true rfl) ?_
  intro p e s m below meth c ls F hr hlocks hin hsz hA hw hl
  have hl : lv_has ls 1 [(0, .ref q)] := hl
  have hin : meth.name = "<init>" := hin
  refine lv_aload_n F.1.1 F.1.2.1 dX1_init_0 rfl (lv_at hl 0 rfl) ?_
  refine W.objInit F.1.1 F.1.2.1 F.1.2.2.2.1 (F.1.2.2.2.2 _ q39) (F.1.2.2.2.2 _ q32) (F.1.2.2.2.2 _ q33) rfl (by rw [F.1.2.2.1]; exact hl.1) rfl dX1_init_1 (Nat.le_of_ble_eq_true rfl) (Nat.le_of_ble_eq_true rfl) ?_
  refine W.eq (g2 := F0 m 4 ls []) rfl ?_
  refine lv_aload_n F.1.1 F.1.2.1 dX1_init_4 rfl (lv_at hl 0 rfl) ?_
  refine lv_bipush (v := nI 31) F.1.1 F.1.2.1 dX1_init_5 (by decide) ?_
  refine kNewJ F hw hA 31 (by decide) (Nat.le_of_ble_eq_true rfl) (Nat.le_of_ble_eq_true rfl) dX1_init_7 (fun a H hw => ?_)
  refine va_putF (D := G) (ci := 1) (v := .ref a) (ty := (.array .long)) (C := RX1) (T := TX1) (N := 1) (fs := [.null]) F.1.1 F.1.2.1 F.1.2.2.2.2 in_X1 tyX1 tyX1_ok nmX1 F.1.2.2.2.1 F.2.1 hw.1 hw.2.1 hw.2.2 0 rfl rfl 0 (by decide) (F.1.2.2.2.2 _ q40) (fun _ h9 => h9) rfl hin rfl (by decide +kernel) rfl rfl (Nat.le_of_ble_eq_true rfl) dX1_init_9 (fun H locs hP hD hS => ?_)
  have hw : kW G _ s H locs [(q, .inr (1, [.ref a])), (a, .inl (cJ, 31, .inr (.inl (fun _ => 0))))] := ⟨hP, hD, hS⟩
  exact kVret F hr hlocks a hw trivial dX1_init_12

abbrev rX3_init : Room := { frames := 1, cells := 4, slots := 248, locals := 12 }

def zL : Nat → Int64 := fun _ => 0
def zD : Nat → Int32 := fun _ => 0
abbrev mNew (q : Nat) : va_W := [(q, .inr (3, [.int 0, .int 0, .int 0, .null, .null, .null, .null]))]
/-- addresses by a list -/
def amL (l : List Nat) (k : Nat) : Nat := l.getD k 0

set_option maxHeartbeats 4000000 in
/-- LadderDeskModel() -/
theorem met_X3_init {l : Launch} {G : va_G} {cJ cI : ClassId} {sz : Nat} (q : Nat) : Met l yX3_init (ws_ yX3_init cX3_init 1 none) rX3_init (kPre G cJ cI [.ref q] (mNew q) sz) (va_Qv (fun am : Nat → Nat => am 0 = q) (kB G (fun am => mW cJ cI am zD zL (zL, zL, 0, 0, 0)) (va_A (mNew q) sz)) (va_A (mNew q) sz)) 4 248 (va_A (mNew q) sz) := by
  refine kStart (by decide) (Nat.le_of_ble_eq_true rfl) ?_
  intro p e s m below meth c ls F hr hlocks hin hsz hA hw hl
  have hl : lv_has ls 1 [(0, .ref q)] := hl
  have hin : meth.name = "<init>" := hin
  refine lv_aload_n F.1.1 F.1.2.1 dX3_init_0 rfl (lv_at hl 0 rfl) ?_
  refine W.objInit F.1.1 F.1.2.1 F.1.2.2.2.1 (F.1.2.2.2.2 _ q258) (F.1.2.2.2.2 _ q32) (F.1.2.2.2.2 _ q33) rfl (by rw [F.1.2.2.1]; exact hl.1) rfl dX3_init_1 (Nat.le_of_ble_eq_true rfl) (Nat.le_of_ble_eq_true rfl) ?_
  refine W.eq (g2 := F0 m 4 ls []) rfl ?_
  refine lv_aload_n F.1.1 F.1.2.1 dX3_init_4 rfl (lv_at hl 0 rfl) ?_
  refine lv_iconst (v := nI 4) F.1.1 F.1.2.1 dX3_init_5 (by decide) ?_
  refine kNewJ F hw hA 4 (by decide) (Nat.le_of_ble_eq_true rfl) (Nat.le_of_ble_eq_true rfl) dX3_init_6 (fun a1 H hw => ?_)
  refine va_putF (D := G) (ci := 3) (v := .ref a1) (ty := (.array .long)) (C := RX3) (T := TX3) (N := 7) (fs := [.int 0, .int 0, .int 0, .null, .null, .null, .null]) F.1.1 F.1.2.1 F.1.2.2.2.2 in_X3 tyX3 tyX3_ok nmX3 F.1.2.2.2.1 F.2.1 hw.1 hw.2.1 hw.2.2 0 rfl rfl 3 (by decide) (F.1.2.2.2.2 _ q262) (fun _ h9 => h9) rfl hin rfl (by decide +kernel) rfl rfl (Nat.le_of_ble_eq_true rfl) dX3_init_8 (fun H locs hP hD hS => ?_)
  have hw : kW G _ s H locs ([(q, .inr (3, [.int 0, .int 0, .int 0, .ref a1, .null, .null, .null])), (a1, .inl (cJ, 4, .inr (.inl (fun _ => 0))))] : va_W) := ⟨hP, hD, hS⟩
  refine lv_aload_n F.1.1 F.1.2.1 dX3_init_11 rfl (lv_at hl 0 rfl) ?_
  refine lv_iconst (v := nI 4) F.1.1 F.1.2.1 dX3_init_12 (by decide) ?_
  refine kNewJ F hw hA 4 (by decide) (Nat.le_of_ble_eq_true rfl) (Nat.le_of_ble_eq_true rfl) dX3_init_13 (fun a2 H hw => ?_)
  refine va_putF (D := G) (ci := 3) (v := .ref a2) (ty := (.array .long)) (C := RX3) (T := TX3) (N := 7) (fs := [.int 0, .int 0, .int 0, .ref a1, .null, .null, .null]) F.1.1 F.1.2.1 F.1.2.2.2.2 in_X3 tyX3 tyX3_ok nmX3 F.1.2.2.2.1 F.2.1 hw.1 hw.2.1 hw.2.2 0 rfl rfl 4 (by decide) (F.1.2.2.2.2 _ q263) (fun _ h9 => h9) rfl hin rfl (by decide +kernel) rfl rfl (Nat.le_of_ble_eq_true rfl) dX3_init_15 (fun H locs hP hD hS => ?_)
  have hw : kW G _ s H locs ([(q, .inr (3, [.int 0, .int 0, .int 0, .ref a1, .ref a2, .null, .null])), (a1, .inl (cJ, 4, .inr (.inl (fun _ => 0)))), (a2, .inl (cJ, 4, .inr (.inl (fun _ => 0))))] : va_W) := ⟨hP, hD, hS⟩
  refine lv_aload_n F.1.1 F.1.2.1 dX3_init_18 rfl (lv_at hl 0 rfl) ?_
  refine lv_sipush (v := nI 208) F.1.1 F.1.2.1 dX3_init_19 (by decide) ?_
  refine kNewI F hw hA 208 (by decide) (Nat.le_of_ble_eq_true rfl) (Nat.le_of_ble_eq_true rfl) dX3_init_22 (fun a3 H hw => ?_)
  refine va_putF (D := G) (ci := 3) (v := .ref a3) (ty := (.array .int)) (C := RX3) (T := TX3) (N := 7) (fs := [.int 0, .int 0, .int 0, .ref a1, .ref a2, .null, .null]) F.1.1 F.1.2.1 F.1.2.2.2.2 in_X3 tyX3 tyX3_ok nmX3 F.1.2.2.2.1 F.2.1 hw.1 hw.2.1 hw.2.2 0 rfl rfl 5 (by decide) (F.1.2.2.2.2 _ q264) (fun _ h9 => h9) rfl hin rfl (by decide +kernel) rfl rfl (Nat.le_of_ble_eq_true rfl) dX3_init_24 (fun H locs hP hD hS => ?_)
  have hw : kW G _ s H locs ([(q, .inr (3, [.int 0, .int 0, .int 0, .ref a1, .ref a2, .ref a3, .null])), (a1, .inl (cJ, 4, .inr (.inl (fun _ => 0)))), (a2, .inl (cJ, 4, .inr (.inl (fun _ => 0)))), (a3, .inl (cI, 208, .inl (fun _ => 0)))] : va_W) := ⟨hP, hD, hS⟩
  refine lv_aload_n F.1.1 F.1.2.1 dX3_init_27 rfl (lv_at hl 0 rfl) ?_
  refine lv_bipush (v := nI 32) F.1.1 F.1.2.1 dX3_init_28 (by decide) ?_
  refine kNewJ F hw hA 32 (by decide) (Nat.le_of_ble_eq_true rfl) (Nat.le_of_ble_eq_true rfl) dX3_init_30 (fun a4 H hw => ?_)
  refine va_putF (D := G) (ci := 3) (v := .ref a4) (ty := (.array .long)) (C := RX3) (T := TX3) (N := 7) (fs := [.int 0, .int 0, .int 0, .ref a1, .ref a2, .ref a3, .null]) F.1.1 F.1.2.1 F.1.2.2.2.2 in_X3 tyX3 tyX3_ok nmX3 F.1.2.2.2.1 F.2.1 hw.1 hw.2.1 hw.2.2 0 rfl rfl 6 (by decide) (F.1.2.2.2.2 _ q265) (fun _ h9 => h9) rfl hin rfl (by decide +kernel) rfl rfl (Nat.le_of_ble_eq_true rfl) dX3_init_32 (fun H locs hP hD hS => ?_)
  have hw : kW G _ s H locs ([(q, .inr (3, [.int 0, .int 0, .int 0, .ref a1, .ref a2, .ref a3, .ref a4])), (a1, .inl (cJ, 4, .inr (.inl (fun _ => 0)))), (a2, .inl (cJ, 4, .inr (.inl (fun _ => 0)))), (a3, .inl (cI, 208, .inl (fun _ => 0))), (a4, .inl (cJ, 32, .inr (.inl (fun _ => 0))))] : va_W) := ⟨hP, hD, hS⟩
  exact kVret F hr hlocks (amL [q, a1, a2, a3, a4]) hw rfl dX3_init_35

abbrev rX0_init : Room := { frames := 2, cells := 43, slots := 482, locals := 48 }
def zP : Nat → Nat → Int64 := fun _ _ => 0
/-- the desk's fields when i numbers are made -/
def fsP (ad : Nat → Nat → Nat) (i : Nat) : List Value := [.ref (ad 0 1), .ref (ad 0 2), .int 0, .int 0, .int 0, .ref (ad 0 3)] ++ (List.range 13).map (fun j => if j < i then .ref (ad 1 j) else .null)
/-- the addresses with those of number i -/
def adU (ad : Nat → Nat → Nat) (i q a b : Nat) : Nat → Nat → Nat := fun t j => if j = i ∧ t = 1 then q else if j = i ∧ t = 2 then a else if j = i ∧ t = 3 then b else ad t j
theorem adU_0 {ad : Nat → Nat → Nat} {i q a b j : Nat} : adU ad i q a b 0 j = ad 0 j := by simp [adU]
theorem adU_1 {ad : Nat → Nat → Nat} {i q a b : Nat} : adU ad i q a b 1 i = q := by simp [adU]
theorem adU_2 {ad : Nat → Nat → Nat} {i q a b : Nat} : adU ad i q a b 2 i = a := by simp [adU]
theorem adU_3 {ad : Nat → Nat → Nat} {i q a b : Nat} : adU ad i q a b 3 i = b := by simp [adU]
theorem adU_n {ad : Nat → Nat → Nat} {i q a b t j : Nat} (h : j ≠ i) : adU ad i q a b t j = ad t j := by simp [adU, h]
theorem fsP_len (ad : Nat → Nat → Nat) (i : Nat) : (fsP ad i).length = 19 := by simp [fsP]
theorem fsP_s {ad : Nat → Nat → Nat} {i q a b : Nat} (hi : i < 13) : (fsP ad i).set (i + 6) (.ref q) = fsP (adU ad i q a b) (i + 1) := by
  apply List.ext_getElem?
  intro k
  by_cases hk : k = i + 6
  · subst hk
    rw [List.getElem?_set_self (by rw [fsP_len]; omega)]
    unfold fsP
    rw [List.getElem?_append_right (by simp)]
    simp [hi, adU_1]
  · rw [List.getElem?_set_ne (Ne.symm hk)]
    unfold fsP
    by_cases h6 : k < 6
    · rw [List.getElem?_append_left (by simpa using h6), List.getElem?_append_left (by simpa using h6)]
      simp only [adU_0]
    · rw [List.getElem?_append_right (by simpa using h6), List.getElem?_append_right (by simpa using h6)]
      simp only [List.length_cons, List.length_nil, List.getElem?_map]
      by_cases h13 : k - 6 < 13
      · rw [List.getElem?_range h13]
        simp only [Option.map_some]
        have e : k - 6 ≠ i := by omega
        by_cases h9 : k - 6 < i
        · rw [if_pos h9, if_pos (by omega), adU_n e]
        · rw [if_neg h9, if_neg (by omega)]
      · rw [List.getElem?_eq_none (by simpa using h13)]
        rfl
theorem wl_push3 {cJ : ClassId} {ad : Nat → Nat → Nat} {fs : List Value} {i q a b : Nat} : wl (3 * i + 5) (cF cJ ad fs zP zP zL zL zL) ++ [(q, .inr (2, [.ref a, .ref b])), (a, z16 cJ), (b, z16 cJ)] = wl (3 * i + 8) (cF cJ (adU ad i q a b) fs zP zP zL zL zL) := by
  apply List.ext_getElem?
  intro k
  have hl : (wl (3 * i + 5) (cF cJ ad fs zP zP zL zL zL)).length = 3 * i + 5 := by simp [wl]
  by_cases h1 : k < 3 * i + 5
  · rw [List.getElem?_append_left (by rw [hl]; exact h1), wl_at h1, wl_at (by omega)]
    congr 1
    unfold cF
    by_cases c0 : k = 0
    · rw [if_pos c0, if_pos c0, adU_0]
    by_cases c1 : k = 1
    · rw [if_neg c0, if_pos c1, if_neg c0, if_pos c1, adU_0]
    by_cases c2 : k = 2
    · rw [if_neg c0, if_neg c1, if_pos c2, if_neg c0, if_neg c1, if_pos c2, adU_0]
    by_cases c3 : k = 3
    · rw [if_neg c0, if_neg c1, if_neg c2, if_pos c3, if_neg c0, if_neg c1, if_neg c2, if_pos c3, adU_0, adU_0]
    by_cases c4 : k = 4
    · rw [if_neg c0, if_neg c1, if_neg c2, if_neg c3, if_pos c4, if_neg c0, if_neg c1, if_neg c2, if_neg c3, if_pos c4, adU_0]
    have e : (k - 5) / 3 ≠ i := by omega
    rw [if_neg c0, if_neg c1, if_neg c2, if_neg c3, if_neg c4, if_neg c0, if_neg c1, if_neg c2, if_neg c3, if_neg c4, adU_n e, adU_n e, adU_n e]
  · rw [List.getElem?_append_right (by rw [hl]; omega), hl]
    by_cases h2 : k = 3 * i + 5
    · subst h2
      rw [wl_at (by omega), cF_o, Nat.sub_self, adU_1, adU_2, adU_3]
      rfl
    by_cases h3 : k = 3 * i + 6
    · subst h3
      rw [wl_at (by omega), cF_p, show 3 * i + 6 - (3 * i + 5) = 1 by omega, adU_2]
      rfl
    by_cases h4 : k = 3 * i + 7
    · subst h4
      rw [wl_at (by omega), cF_s, show 3 * i + 7 - (3 * i + 5) = 2 by omega, adU_3]
      rfl
    · rw [List.getElem?_eq_none (by simp; omega), List.getElem?_eq_none (by simp [wl]; omega)]
section KN
variable {p : Program} {l : Launch} {e : Env} {s : State} {m : MethodId} {args : Array Value} {below : List Frame} {meth : Method} {c : Code} {H : Heap} {locs : List Loc} {cells slots : Nat} {Q : State → Prop}
variable {pc : Nat} {ls : Array Slot} {G : va_G} {cJ cI : ClassId} {A : Nat → Prop}
set_option maxHeartbeats 4000000 in
/-- this.x = new Number() -/
theorem kNum (F : kF p m c cX0_init 1 s args RX0 G cJ cI) (hin : meth.name = "<init>") (hA : ∀ q : Nat, s.heap.size ≤ q → A q) (i : Nat) (hi : i < 13) {idx : Nat} {ad : Nat → Nat → Nat} (hl : lv_has ls 1 [(0, .ref (ad 0 0))]) (d0 : decode cX0_init pc = .ok (.aload_n 0, 1)) (d1 : decode cX0_init (pc + 1) = .ok (.new 23, 3)) (d2 : decode cX0_init (pc + 4) = .ok (.dup, 1)) (d3 : decode cX0_init (pc + 5) = .ok (.invokespecial 25, 3)) (d4 : decode cX0_init (pc + 8) = .ok (.putfield idx, 3))
    (hlk : Cond.fieldLink RX0 idx "LadderDesk" (TX0 (i + 6)).2.1 (TX0 (i + 6)).2.2.1 ∈ lw_all) (hfin : (TX0 (i + 6)).2.2.2 = true) (hown : (TX0 (i + 6)).1 = RX0) (hd : parseFieldDescriptor (TX0 (i + 6)).2.2.1 = some (.object "LadderDesk$Number")) (hcells : cells + 3 ≤ 43) (hslots : slots + 34 ≤ 482)
    (hw : kW G A s H locs (wl (3 * i + 5) (cF cJ ad (fsP ad i) zP zP zL zL zL)))
    (kk : ∀ (ad' : Nat → Nat → Nat) (H1 : Heap) (locs1 : List Loc), ad' 0 0 = ad 0 0 → lv_has ls 1 [(0, .ref (ad' 0 0))] → kW G A s H1 locs1 (wl (3 * i + 8) (cF cJ ad' (fsP ad' (i + 1)) zP zP zL zL zL)) → W p l e rX0_init s m args below meth c H1 locs1 (cells + 3) (slots + 34) Q (F0 m (pc + 11) ls [])) : W p l e rX0_init s m args below meth c H locs cells slots Q (F0 m pc ls []) := by
  refine lv_aload_n F.1.1 F.1.2.1 d0 rfl (lv_at hl 0 rfl) ?_
  refine va_new (ci := 2) (fs := [.null, .null]) (C := RX2) (T := TX2) (N := 2) F.1.1 F.1.2.1 F.1.2.2.2.2 in_X2 tyX2 tyX2_ok F.1.2.2.2.1 (F.1.2.2.2.2 _ q45) (F.1.2.2.2.2 _ q46) (F.1.2.2.2.2 _ q23) F.2.1 hw.1 hw.2.1 hw.2.2 hA rfl (fun j hj => by rcases (show j = 0 ∨ j = 1 by omega) with rfl | rfl <;> rfl) (by show cells + 1 ≤ 43; omega) (by show slots + 2 ≤ 482; omega) d1 (fun q H hP hD hS => ?_)
  refine lv_dup F.1.1 F.1.2.1 d2 rfl ?_
  refine kCnR (G := G) (cJ := cJ) (cI := cI) (nL := 1) F ⟨hP, hD, hS⟩ hA (met_X2_init q) ⟨va_cnB 0 F.1.2.2.2.2 (lw_meth q49) rfl rfl rfl F.2.2.2.1 (F.1.2.2.2.2 _ q23) (by decide +kernel) ⟨Nat.le_of_ble_eq_true rfl, Nat.le_of_ble_eq_true rfl⟩, rfl, F.1.2.2.2.2 _ q48⟩ hl.1 (Nat.le_of_ble_eq_true rfl) d3 ⟨by show cells + 1 + 2 ≤ 43; omega, by show slots + 2 + 32 ≤ 482; omega⟩ (fun u H locs _ hw => ?_)
  obtain ⟨a, b⟩ := u
  have hw : kW G A s H locs (wl (3 * i + 5) (cF cJ ad (fsP ad i) zP zP zL zL zL) ++ [(q, .inr (2, [.ref a, .ref b])), (a, z16 cJ), (b, z16 cJ)]) := hw
  rw [wl_push3] at hw
  have e0 : adU ad i q a b 0 0 = ad 0 0 := adU_0
  rw [← e0]
  refine va_putF (D := G) (ci := 0) (v := .ref q) (ty := .object "LadderDesk$Number") (C := RX0) (T := TX0) (N := 19) (fs := fsP ad i) F.1.1 F.1.2.1 F.1.2.2.2.2 in_X0 tyX0 tyX0_ok nmX0 F.1.2.2.2.1 F.2.1 hw.1 hw.2.1 hw.2.2 0 (by rw [wl_at (by omega)]; rfl) rfl (i + 6) (by omega) (F.1.2.2.2.2 _ hlk) (fun _ h9 => by rw [hown] at h9; exact h9) hfin hin hown hd rfl rfl (by rw [fsP_len]; omega) d4 (fun H locs hP hD hS => ?_)
  rw [wl_set, cF_up_d, fsP_s (a := a) (b := b) hi] at hP hD
  exact kk (adU ad i q a b) H locs e0 (by rw [e0]; exact hl) ⟨hP, hD, hS⟩
end KN
/-- the desk's numbers when it is made: small alone isn't 0 -/
def smP : Nat → Nat → Int64 := cS (setP 10 (nI 56129).toInt64 zP) 10 1 1
abbrev dNew (q : Nat) : va_W := [(q, .inr (0, [.null, .null, .int 0, .int 0, .int 0, .null, .null, .null, .null, .null, .null, .null, .null, .null, .null, .null, .null, .null, .null]))]
def ad5 (q a1 a2 a3 a4 : Nat) : Nat → Nat → Nat := fun t j => if t = 0 then amL [q, a1, a2, a3, a4] j else 0

set_option maxHeartbeats 8000000 in
/-- LadderDesk() -/
theorem met_X0_init {l : Launch} {G : va_G} {cJ cI : ClassId} {sz : Nat} (q : Nat) : Met l yX0_init (ws_ yX0_init cX0_init 1 none) rX0_init (kPre G cJ cI [.ref q] (dNew q) sz) (va_Qv (fun ad : Nat → Nat → Nat => ad 0 0 = q) (kB G (fun ad => cW cJ ad smP zP zL (zL, zL, 0, 0, 0)) (va_A (dNew q) sz)) (va_A (dNew q) sz)) 43 482 (va_A (dNew q) sz) := by
  refine kStart (by decide) (Nat.le_of_ble_eq_true rfl) ?_
  intro p e s m below meth c ls F hr hlocks hin hsz hA hw hl
  have hl : lv_has ls 1 [(0, .ref q)] := hl
  have hin : meth.name = "<init>" := hin
  refine lv_aload_n F.1.1 F.1.2.1 dX0_init_0 rfl (lv_at hl 0 rfl) ?_
  refine W.objInit F.1.1 F.1.2.1 F.1.2.2.2.1 (F.1.2.2.2.2 _ q31) (F.1.2.2.2.2 _ q32) (F.1.2.2.2.2 _ q33) rfl (by rw [F.1.2.2.1]; exact hl.1) rfl dX0_init_1 (Nat.le_of_ble_eq_true rfl) (Nat.le_of_ble_eq_true rfl) ?_
  refine W.eq (g2 := F0 m 4 ls []) rfl ?_
  refine lv_aload_n F.1.1 F.1.2.1 dX0_init_4 rfl (lv_at hl 0 rfl) ?_
  refine lv_iconst (v := nI 4) F.1.1 F.1.2.1 dX0_init_5 (by decide) ?_
  refine kNewJ F hw hA 4 (by decide) (Nat.le_of_ble_eq_true rfl) (Nat.le_of_ble_eq_true rfl) dX0_init_6 (fun a1 H hw => ?_)
  refine va_putF (D := G) (ci := 0) (v := .ref a1) (ty := (.array .long)) (C := RX0) (T := TX0) (N := 19) (fs := [.null, .null, .int 0, .int 0, .int 0, .null, .null, .null, .null, .null, .null, .null, .null, .null, .null, .null, .null, .null, .null]) F.1.1 F.1.2.1 F.1.2.2.2.2 in_X0 tyX0 tyX0_ok nmX0 F.1.2.2.2.1 F.2.1 hw.1 hw.2.1 hw.2.2 0 rfl rfl 0 (by decide) (F.1.2.2.2.2 _ q65) (fun _ h9 => h9) rfl hin rfl (by decide +kernel) rfl rfl (Nat.le_of_ble_eq_true rfl) dX0_init_8 (fun H locs hP hD hS => ?_)
  have hw : kW G _ s H locs ([(q, .inr (0, [.ref a1, .null, .int 0, .int 0, .int 0, .null, .null, .null, .null, .null, .null, .null, .null, .null, .null, .null, .null, .null, .null])), (a1, .inl (cJ, 4, .inr (.inl (fun _ => 0))))] : va_W) := ⟨hP, hD, hS⟩
  refine lv_aload_n F.1.1 F.1.2.1 dX0_init_11 rfl (lv_at hl 0 rfl) ?_
  refine lv_iconst (v := nI 4) F.1.1 F.1.2.1 dX0_init_12 (by decide) ?_
  refine kNewJ F hw hA 4 (by decide) (Nat.le_of_ble_eq_true rfl) (Nat.le_of_ble_eq_true rfl) dX0_init_13 (fun a2 H hw => ?_)
  refine va_putF (D := G) (ci := 0) (v := .ref a2) (ty := (.array .long)) (C := RX0) (T := TX0) (N := 19) (fs := [.ref a1, .null, .int 0, .int 0, .int 0, .null, .null, .null, .null, .null, .null, .null, .null, .null, .null, .null, .null, .null, .null]) F.1.1 F.1.2.1 F.1.2.2.2.2 in_X0 tyX0 tyX0_ok nmX0 F.1.2.2.2.1 F.2.1 hw.1 hw.2.1 hw.2.2 0 rfl rfl 1 (by decide) (F.1.2.2.2.2 _ q66) (fun _ h9 => h9) rfl hin rfl (by decide +kernel) rfl rfl (Nat.le_of_ble_eq_true rfl) dX0_init_15 (fun H locs hP hD hS => ?_)
  have hw : kW G _ s H locs ([(q, .inr (0, [.ref a1, .ref a2, .int 0, .int 0, .int 0, .null, .null, .null, .null, .null, .null, .null, .null, .null, .null, .null, .null, .null, .null])), (a1, .inl (cJ, 4, .inr (.inl (fun _ => 0)))), (a2, .inl (cJ, 4, .inr (.inl (fun _ => 0))))] : va_W) := ⟨hP, hD, hS⟩
  refine lv_aload_n F.1.1 F.1.2.1 dX0_init_18 rfl (lv_at hl 0 rfl) ?_
  refine va_new (ci := 1) (fs := [.null]) (C := RX1) (T := TX1) (N := 1) F.1.1 F.1.2.1 F.1.2.2.2.2 in_X1 tyX1 tyX1_ok F.1.2.2.2.1 (F.1.2.2.2.2 _ q34) (F.1.2.2.2.2 _ q35) (F.1.2.2.2.2 _ q22) F.2.1 hw.1 hw.2.1 hw.2.2 hA rfl (fun j hj => by rcases (show j = 0 by omega) with rfl; rfl) (Nat.le_of_ble_eq_true rfl) (Nat.le_of_ble_eq_true rfl) dX0_init_19 (fun a3 H hP hD hS => ?_)
  refine lv_dup F.1.1 F.1.2.1 dX0_init_22 rfl ?_
  refine kCnR (G := G) (cJ := cJ) (cI := cI) (nL := 1) F ⟨hP, hD, hS⟩ hA (met_X1_init a3) ⟨va_cnB 0 F.1.2.2.2.2 (lw_meth q38) rfl rfl rfl F.2.2.1 (F.1.2.2.2.2 _ q22) (by decide +kernel) ⟨Nat.le_of_ble_eq_true rfl, Nat.le_of_ble_eq_true rfl⟩, rfl, F.1.2.2.2.2 _ q37⟩ hl.1 (Nat.le_of_ble_eq_true rfl) dX0_init_23 ⟨Nat.le_of_ble_eq_true rfl, Nat.le_of_ble_eq_true rfl⟩ (fun a4 H locs _ hw => ?_)
  have hw : kW G _ s H locs ([(q, .inr (0, [.ref a1, .ref a2, .int 0, .int 0, .int 0, .null, .null, .null, .null, .null, .null, .null, .null, .null, .null, .null, .null, .null, .null])), (a1, .inl (cJ, 4, .inr (.inl (fun _ => 0)))), (a2, .inl (cJ, 4, .inr (.inl (fun _ => 0)))), (a3, .inr (1, [.ref a4])), (a4, .inl (cJ, 31, .inr (.inl (fun _ => 0))))] : va_W) := hw
  refine va_putF (D := G) (ci := 0) (v := .ref a3) (ty := (.object "LadderDesk$Products")) (C := RX0) (T := TX0) (N := 19) (fs := [.ref a1, .ref a2, .int 0, .int 0, .int 0, .null, .null, .null, .null, .null, .null, .null, .null, .null, .null, .null, .null, .null, .null]) F.1.1 F.1.2.1 F.1.2.2.2.2 in_X0 tyX0 tyX0_ok nmX0 F.1.2.2.2.1 F.2.1 hw.1 hw.2.1 hw.2.2 0 rfl rfl 5 (by decide) (F.1.2.2.2.2 _ q70) (fun _ h9 => h9) rfl hin rfl (by decide +kernel) rfl rfl (Nat.le_of_ble_eq_true rfl) dX0_init_26 (fun H locs hP hD hS => ?_)
  have hw : kW G _ s H locs ([(q, .inr (0, [.ref a1, .ref a2, .int 0, .int 0, .int 0, .ref a3, .null, .null, .null, .null, .null, .null, .null, .null, .null, .null, .null, .null, .null])), (a1, .inl (cJ, 4, .inr (.inl (fun _ => 0)))), (a2, .inl (cJ, 4, .inr (.inl (fun _ => 0)))), (a3, .inr (1, [.ref a4])), (a4, .inl (cJ, 31, .inr (.inl (fun _ => 0))))] : va_W) := ⟨hP, hD, hS⟩
  obtain ⟨ad, had⟩ : ∃ ad, ad = ad5 q a1 a2 a3 a4 := ⟨_, rfl⟩
  have hw : kW G (va_A (dNew q) sz) s H locs (wl (3 * 0 + 5) (cF cJ ad (fsP ad 0) zP zP zL zL zL)) := by rw [had]; exact hw
  have hq : ad 0 0 = q := by rw [had]; rfl
  have hl : lv_has ls 1 [(0, .ref (ad 0 0))] := by rw [hq]; exact hl
  clear had
  refine kNum (pc := 29) F hin hA 0 (by decide) hl dX0_init_29 dX0_init_30 dX0_init_33 dX0_init_34 dX0_init_37 q71 rfl rfl (by decide +kernel) (by decide) (by decide) hw (fun ad0 H locs hq0 hl hw => ?_)
  refine kNum (pc := 40) F hin hA 1 (by decide) hl dX0_init_40 dX0_init_41 dX0_init_44 dX0_init_45 dX0_init_48 q72 rfl rfl (by decide +kernel) (by decide) (by decide) hw (fun ad1 H locs hq1 hl hw => ?_)
  refine kNum (pc := 51) F hin hA 2 (by decide) hl dX0_init_51 dX0_init_52 dX0_init_55 dX0_init_56 dX0_init_59 q73 rfl rfl (by decide +kernel) (by decide) (by decide) hw (fun ad2 H locs hq2 hl hw => ?_)
  refine kNum (pc := 62) F hin hA 3 (by decide) hl dX0_init_62 dX0_init_63 dX0_init_66 dX0_init_67 dX0_init_70 q74 rfl rfl (by decide +kernel) (by decide) (by decide) hw (fun ad3 H locs hq3 hl hw => ?_)
  refine kNum (pc := 73) F hin hA 4 (by decide) hl dX0_init_73 dX0_init_74 dX0_init_77 dX0_init_78 dX0_init_81 q75 rfl rfl (by decide +kernel) (by decide) (by decide) hw (fun ad4 H locs hq4 hl hw => ?_)
  refine kNum (pc := 84) F hin hA 5 (by decide) hl dX0_init_84 dX0_init_85 dX0_init_88 dX0_init_89 dX0_init_92 q76 rfl rfl (by decide +kernel) (by decide) (by decide) hw (fun ad5 H locs hq5 hl hw => ?_)
  refine kNum (pc := 95) F hin hA 6 (by decide) hl dX0_init_95 dX0_init_96 dX0_init_99 dX0_init_100 dX0_init_103 q77 rfl rfl (by decide +kernel) (by decide) (by decide) hw (fun ad6 H locs hq6 hl hw => ?_)
  refine kNum (pc := 106) F hin hA 7 (by decide) hl dX0_init_106 dX0_init_107 dX0_init_110 dX0_init_111 dX0_init_114 q78 rfl rfl (by decide +kernel) (by decide) (by decide) hw (fun ad7 H locs hq7 hl hw => ?_)
  refine kNum (pc := 117) F hin hA 8 (by decide) hl dX0_init_117 dX0_init_118 dX0_init_121 dX0_init_122 dX0_init_125 q79 rfl rfl (by decide +kernel) (by decide) (by decide) hw (fun ad8 H locs hq8 hl hw => ?_)
  refine kNum (pc := 128) F hin hA 9 (by decide) hl dX0_init_128 dX0_init_129 dX0_init_132 dX0_init_133 dX0_init_136 q80 rfl rfl (by decide +kernel) (by decide) (by decide) hw (fun ad9 H locs hq9 hl hw => ?_)
  refine kNum (pc := 139) F hin hA 10 (by decide) hl dX0_init_139 dX0_init_140 dX0_init_143 dX0_init_144 dX0_init_147 q81 rfl rfl (by decide +kernel) (by decide) (by decide) hw (fun ad10 H locs hq10 hl hw => ?_)
  refine kNum (pc := 150) F hin hA 11 (by decide) hl dX0_init_150 dX0_init_151 dX0_init_154 dX0_init_155 dX0_init_158 q82 rfl rfl (by decide +kernel) (by decide) (by decide) hw (fun ad11 H locs hq11 hl hw => ?_)
  refine kNum (pc := 161) F hin hA 12 (by decide) hl dX0_init_161 dX0_init_162 dX0_init_165 dX0_init_166 dX0_init_169 q83 rfl rfl (by decide +kernel) (by decide) (by decide) hw (fun ad12 H locs hq12 hl hw => ?_)
  have hq : ad12 0 0 = q := by rw [hq12, hq11, hq10, hq9, hq8, hq7, hq6, hq5, hq4, hq3, hq2, hq1, hq0, hq]
  have hw : kW G (va_A (dNew q) sz) s H locs (cW cJ ad12 zP zP zL (zL, zL, 0, 0, 0)) := hw
  refine lv_aload_n F.1.1 F.1.2.1 dX0_init_172 rfl (lv_at hl 0 rfl) ?_
  refine kGd (v := .ref (ad12 1 10)) F hw 16 (by decide) rfl q81 (fun _ h9 => h9) dX0_init_173 ?_
  refine lv_ldc (v := 56129) F.1.1 F.1.2.1 F.1.2.2.2.1 (F.1.2.2.2.2 _ q60) dX0_init_176 ?_
  refine kTi (show (56129 : Int32) = nI 56129 by decide) ?_
  refine kCv (As := [.int (nI 56129)]) F hw hA (n_set 10 (by decide) (nI 56129)) (cwV 1 F.1.2.2.2.2 (lw_V q61 q62 q63 q23 q64) rfl rfl rfl (by decide +kernel) ⟨Nat.le_of_ble_eq_true rfl, Nat.le_of_ble_eq_true rfl⟩) (cRcN 10 (by decide)) rfl hl.1 rfl (Nat.le_of_ble_eq_true rfl) dX0_init_178 ⟨Nat.le_of_ble_eq_true rfl, Nat.le_of_ble_eq_true rfl⟩ (fun u H locs hp hw => ?_)
  refine lv_aload_n F.1.1 F.1.2.1 dX0_init_181 rfl (lv_at hl 0 rfl) ?_
  refine kGd (v := .ref (ad12 1 10)) F hw 16 (by decide) rfl q81 (fun _ h9 => h9) dX0_init_182 ?_
  refine kGpN F hw 10 (by decide) F.2.2.2.2.1 dX0_init_185 ?_
  refine lv_iconst (v := nI 1) F.1.1 F.1.2.1 dX0_init_188 (by decide) ?_
  refine lv_lconst (v := 1) F.1.1 F.1.2.1 dX0_init_189 (by decide) ?_
  refine kSp F hw 10 (by decide) 1 rfl (by omega) dX0_init_190 (fun H locs hw => ?_)
  exact kVret F hr hlocks ad12 hw hq dX0_init_191
end
section
/-! ===== the plain law: numbers as integers, and what holds between the component and the model ===== -/
set_option maxRecDepth 100000
/-- the number of n digits (of 16 bits) -/
def vL (f : Nat → Int) : Nat → Int
  | 0 => 0
  | n + 1 => vL f n + f n * 65536 ^ n
def pP : Int := 2 ^ 255 - 19
/-- congruent -/
def cg (x y : Int) : Prop := ∃ k : Int, x = y + k * pP
def iL (f : Nat → Int64) : Nat → Int := fun j => (f j).toInt
def iD (D : Nat → Int32) (a : Nat) : Nat → Int := fun j => (D (16 * a + j)).toInt
/-- all limbs between -b and b -/
def Bd (b : Int) (f : Nat → Int) : Prop := ∀ j, j < 16 → -b ≤ f j ∧ f j ≤ b
def Nice (f : Nat → Int) : Prop := (∀ j, 1 ≤ j → j < 16 → 0 ≤ f j ∧ f j ≤ 65535) ∧ -38 ≤ f 0 ∧ f 0 ≤ 65573
def Can (f : Nat → Int) : Prop := ∀ j, j < 16 → 0 ≤ f j ∧ f j ≤ 65535
/-- number i of the component is nice and stands for x -/
def Cn (P : Nat → Nat → Int64) (i : Nat) (x : Int) : Prop := Nice (iL (P i)) ∧ cg (vL (iL (P i)) 16) x
/-- its limbs are small, and it stands for x -/
def Cl (P : Nat → Nat → Int64) (i : Nat) (x : Int) : Prop := Bd 131146 (iL (P i)) ∧ cg (vL (iL (P i)) 16) x
/-- it is x's remainder by P, digit by digit -/
def Cc (P : Nat → Nat → Int64) (i : Nat) (x : Int) : Prop := Can (iL (P i)) ∧ vL (iL (P i)) 16 < pP ∧ cg (vL (iL (P i)) 16) x
/-- number a of the model is x's remainder by P -/
def Mn (D : Nat → Int32) (a : Nat) (x : Int) : Prop := Can (iD D a) ∧ vL (iD D a) 16 < pP ∧ cg (vL (iD D a) 16) x
/-- the point, without its highest bit -/
def uF (pt : Nat → Int64) (j : Nat) : Int64 := if j = 15 then tkL pt 15 &&& 32767 else tkL pt j
def uV (pt : Nat → Int64) : Int := vL (iL (uF pt)) 16
def Small (P : Nat → Nat → Int64) : Prop := P 10 0 = 56129 ∧ P 10 1 = 1 ∧ ∀ j, 2 ≤ j → j < 16 → P 10 j = 0
/-- the ladder stands: both sides stand for the same -/
def Lad (P : Nat → Nat → Int64) (D : Nat → Int32) (pt : Nat → Int64) : Prop := ∃ x2 z2 x3 z3 : Int, (Cn P 1 x2 ∧ Mn D 0 x2) ∧ (Cn P 2 z2 ∧ Mn D 1 z2) ∧ (Cn P 3 x3 ∧ Mn D 2 x3) ∧ (Cn P 4 z3 ∧ Mn D 3 z3) ∧ Cn P 0 (uV pt) ∧ Mn D 4 (uV pt)
def Res (P : Nat → Nat → Int64) (D : Nat → Int32) : Prop := ∃ r : Int, Cc P 11 r ∧ Mn D 5 r
def INV (P : Nat → Nat → Int64) (D : Nat → Int32) (sc pt : Nat → Int64) (ph : Int32) (a : Nat) : Prop := a ≤ 255 ∧ (ph = nI 0 ∨ ph = nI 1 ∨ ph = nI 2) ∧ Small P ∧ (¬ ph = nI 0 → Lad P D pt) ∧ (ph = nI 2 → Res P D)
end
section
/-! ===== longs as integers ===== -/
set_option maxRecDepth 100000
theorem l_add {x y : Int64} (h1 : -9223372036854775808 ≤ x.toInt + y.toInt) (h2 : x.toInt + y.toInt < 9223372036854775808) : (x + y).toInt = x.toInt + y.toInt := by
  rw [Int64.toInt_add]
  exact Int.bmod_eq_of_le_mul_two (by omega) (by omega)
theorem l_sub {x y : Int64} (h1 : -9223372036854775808 ≤ x.toInt - y.toInt) (h2 : x.toInt - y.toInt < 9223372036854775808) : (x - y).toInt = x.toInt - y.toInt := by
  rw [Int64.toInt_sub]
  exact Int.bmod_eq_of_le_mul_two (by omega) (by omega)
theorem l_mul {x y : Int64} (h1 : -9223372036854775808 ≤ x.toInt * y.toInt) (h2 : x.toInt * y.toInt < 9223372036854775808) : (x * y).toInt = x.toInt * y.toInt := by
  rw [Int64.toInt_mul]
  exact Int.bmod_eq_of_le_mul_two (by omega) (by omega)
theorem l_shr (x : Int64) (s : Int64) (k : Nat) (hs : (s.toBitVec.smod 64).toNat = k) : (x >>> s).toInt = x.toInt / 2 ^ k := by
  show (BitVec.sshiftRight' x.toBitVec (s.toBitVec.smod 64)).toInt = _
  rw [BitVec.toInt_sshiftRight', hs, Int.shiftRight_eq_div_pow]
  rfl
theorem l_shr16 (x : Int64) : (x >>> (16 : Int64)).toInt = x.toInt / 65536 := l_shr x 16 16 (by decide)
theorem l_shr15 (x : Int64) : (x >>> (15 : Int64)).toInt = x.toInt / 32768 := l_shr x 15 15 (by decide)
theorem l_shl16m (x : Int64) : x <<< (16 : Int64) = x * 65536 := by
  apply Int64.toBitVec_inj.mp
  show x.toBitVec <<< ((16 : Int64).toBitVec.smod 64) = x.toBitVec * (65536 : Int64).toBitVec
  rw [show ((16 : Int64).toBitVec.smod 64) = 16#64 by decide, show (65536 : Int64).toBitVec = BitVec.twoPow 64 16 by decide]
  rw [BitVec.shiftLeft_eq', BitVec.shiftLeft_eq_mul_twoPow]
  rfl
theorem l_shl16 {x : Int64} (h1 : -140737488355328 ≤ x.toInt) (h2 : x.toInt < 140737488355328) : (x <<< (16 : Int64)).toInt = x.toInt * 65536 := by
  rw [l_shl16m, l_mul (by rw [show (65536 : Int64).toInt = 65536 by decide]; omega) (by rw [show (65536 : Int64).toInt = 65536 by decide]; omega)]
  rfl
theorem l_mask (x : Int64) (m : Int64) (k : Nat) (hk : k < 63) (hm : m.toBitVec.toNat = 2 ^ k - 1) : (x &&& m).toInt = x.toInt % 2 ^ k := by
  have e1 : (x &&& m).toBitVec.toNat = x.toBitVec.toNat % 2 ^ k := by
    show (x.toBitVec &&& m.toBitVec).toNat = _
    rw [BitVec.toNat_and, hm, Nat.and_two_pow_sub_one_eq_mod]
  have hp : 2 ^ k ≤ 2 ^ 62 := Nat.pow_le_pow_right (by decide) (by omega)
  have hlt : x.toBitVec.toNat % 2 ^ k < 2 ^ k := Nat.mod_lt _ (Nat.two_pow_pos k)
  have e2 : (x &&& m).toInt = ((x.toBitVec.toNat % 2 ^ k : Nat) : Int) := by
    show (x &&& m).toBitVec.toInt = _
    rw [BitVec.toInt_eq_toNat_of_lt (by rw [e1]; omega), e1]
  have e3 : x.toInt % (2 ^ k : Int) = ((x.toBitVec.toNat : Int)) % (2 ^ k : Int) := by
    show x.toBitVec.toInt % _ = _
    rw [BitVec.toInt_eq_toNat_cond]
    split
    · rfl
    · have hd : ((2 : Int) ^ k) ∣ (2 : Int) ^ 64 := by
        refine ⟨2 ^ (64 - k), ?_⟩
        rw [← Int.pow_add]
        congr 1
        omega
      rw [show ((2 ^ 64 : Nat) : Int) = (2 : Int) ^ 64 by rfl]
      rw [Int.sub_emod, Int.emod_eq_zero_of_dvd hd]
      simp
  rw [e2, e3]
  simp
theorem l_and16 (x : Int64) : (x &&& 65535).toInt = x.toInt % 65536 := l_mask x 65535 16 (by decide) (by decide)
theorem l_and15 (x : Int64) : (x &&& 32767).toInt = x.toInt % 32768 := l_mask x 32767 15 (by decide) (by decide)
theorem l_to32 {x : Int64} (h1 : -2147483648 ≤ x.toInt) (h2 : x.toInt < 2147483648) : x.toInt32.toInt = x.toInt := by
  rw [Int64.toInt_toInt32]
  exact Int.bmod_eq_of_le_mul_two (by omega) (by omega)
theorem a_mul {a b m : Int} (h1 : -m ≤ a) (h2 : a ≤ m) (h3 : -m ≤ b) (h4 : b ≤ m) : -(m * m) ≤ a * b ∧ a * b ≤ m * m := by
  have hm : 0 ≤ m := by omega
  have ha : a.natAbs ≤ m.natAbs := by omega
  have hb : b.natAbs ≤ m.natAbs := by omega
  have h : (a * b).natAbs ≤ (m * m).natAbs := by
    rw [Int.natAbs_mul, Int.natAbs_mul]
    exact Nat.mul_le_mul ha hb
  have h5 : 0 ≤ m * m := Int.mul_nonneg hm hm
  omega
/-! digits and carries of integers -/
def crI (f : Nat → Int) : Nat → Int
  | 0 => 0
  | k + 1 => (f k + crI f k) / 65536
def dgI (f : Nat → Int) (k : Nat) : Int := (f k + crI f k) % 65536
theorem vL_s (f : Nat → Int) (n : Nat) : vL f (n + 1) = vL f n + f n * 65536 ^ n := rfl
theorem vL_congr {f g : Nat → Int} : ∀ {n : Nat}, (∀ j, j < n → f j = g j) → vL f n = vL g n
  | 0, _ => rfl
  | n + 1, h => by rw [vL_s, vL_s, vL_congr (fun j hj => h j (by omega)), h n (by omega)]
theorem vL_dg (f : Nat → Int) : ∀ n, vL (dgI f) n + crI f n * 65536 ^ n = vL f n
  | 0 => rfl
  | n + 1 => by
    have ih := vL_dg f n
    have e : f n + crI f n = 65536 * crI f (n + 1) + dgI f n := by
      unfold dgI
      show f n + crI f n = 65536 * ((f n + crI f n) / 65536) + (f n + crI f n) % 65536
      omega
    rw [vL_s, vL_s, ← ih, Int.pow_succ]
    have e2 : f n = 65536 * crI f (n + 1) + dgI f n - crI f n := by omega
    rw [e2]
    grind
theorem dg_can (f : Nat → Int) : ∀ j, 0 ≤ dgI f j ∧ dgI f j ≤ 65535 := by
  intro j
  unfold dgI
  omega
theorem vL_lt {f : Nat → Int} : ∀ {n : Nat}, (∀ j, j < n → 0 ≤ f j ∧ f j ≤ 65535) → 0 ≤ vL f n ∧ vL f n < 65536 ^ n
  | 0, _ => by
    show (0 : Int) ≤ 0 ∧ (0 : Int) < 65536 ^ 0
    decide
  | n + 1, h => by
    have ih := vL_lt (f := f) (n := n) (fun j hj => h j (by omega))
    have h1 := h n (by omega)
    have hp : (0 : Int) < 65536 ^ n := by exact Int.pow_pos (by decide)
    rw [vL_s, Int.pow_succ]
    have h2 : 0 ≤ f n * 65536 ^ n := Int.mul_nonneg h1.1 (Int.le_of_lt hp)
    have h3 : f n * 65536 ^ n ≤ 65535 * 65536 ^ n := Int.mul_le_mul_of_nonneg_right h1.2 (Int.le_of_lt hp)
    omega
theorem vL_inj {f g : Nat → Int} : ∀ {n : Nat}, (∀ j, j < n → 0 ≤ f j ∧ f j ≤ 65535) → (∀ j, j < n → 0 ≤ g j ∧ g j ≤ 65535) → vL f n = vL g n → ∀ j, j < n → f j = g j
  | 0, _, _, _ => fun j hj => absurd hj (Nat.not_lt_zero j)
  | n + 1, hf, hg, h => by
    have f1 := vL_lt (f := f) (n := n) (fun j hj => hf j (by omega))
    have g1 := vL_lt (f := g) (n := n) (fun j hj => hg j (by omega))
    have hp : (0 : Int) < 65536 ^ n := by exact Int.pow_pos (by decide)
    rw [vL_s, vL_s] at h
    have ef : (vL f n + f n * 65536 ^ n) / 65536 ^ n = f n := by
      rw [Int.add_mul_ediv_right _ _ (by omega), Int.ediv_eq_zero_of_lt f1.1 f1.2]
      omega
    have eg : (vL g n + g n * 65536 ^ n) / 65536 ^ n = g n := by
      rw [Int.add_mul_ediv_right _ _ (by omega), Int.ediv_eq_zero_of_lt g1.1 g1.2]
      omega
    have e : f n = g n := by rw [← ef, ← eg, h]
    rw [e] at h
    have e2 : vL f n = vL g n := by omega
    intro j hj
    by_cases c : j = n
    · rw [c]; exact e
    · exact vL_inj (fun j hj => hf j (by omega)) (fun j hj => hg j (by omega)) e2 j (by omega)
theorem vL_add (f g : Nat → Int) : ∀ n, vL (fun j => f j + g j) n = vL f n + vL g n
  | 0 => rfl
  | n + 1 => by
    rw [vL_s, vL_s, vL_s, vL_add f g n]
    grind
theorem vL_sub (f g : Nat → Int) : ∀ n, vL (fun j => f j - g j) n = vL f n - vL g n
  | 0 => rfl
  | n + 1 => by
    rw [vL_s, vL_s, vL_s, vL_sub f g n]
    grind
theorem vL_mul (f : Nat → Int) (c : Int) : ∀ n, vL (fun j => f j * c) n = vL f n * c
  | 0 => by show (0 : Int) = 0 * c; omega
  | n + 1 => by
    rw [vL_s, vL_s, vL_mul f c n]
    grind
/-- one place changed -/
theorem vL_up {f g : Nat → Int} {k : Nat} (h : ∀ j, j ≠ k → g j = f j) : ∀ {n : Nat}, k < n → vL g n = vL f n + (g k - f k) * 65536 ^ k
  | 0, hk => absurd hk (Nat.not_lt_zero k)
  | n + 1, hk => by
    rw [vL_s, vL_s]
    by_cases c : k = n
    · subst c
      rw [vL_congr (f := g) (g := f) (fun j hj => h j (by omega))]
      grind
    · rw [vL_up h (by omega), h n (by omega)]
      grind
theorem vL_split (f : Nat → Int) (n : Nat) : ∀ m, vL f (n + m) = vL f n + 65536 ^ n * vL (fun j => f (n + j)) m
  | 0 => by show vL f n = vL f n + 65536 ^ n * 0; omega
  | m + 1 => by
    rw [← Nat.add_assoc, vL_s, vL_s, vL_split f n m, Int.pow_add]
    grind
/-! congruence -/
theorem cg_rf (x : Int) : cg x x := ⟨0, by omega⟩
theorem cg_sy {x y : Int} (h : cg x y) : cg y x := by
  obtain ⟨k, h⟩ := h
  exact ⟨-k, by rw [h]; grind⟩
theorem cg_tr {x y z : Int} (h1 : cg x y) (h2 : cg y z) : cg x z := by
  obtain ⟨k, h1⟩ := h1
  obtain ⟨l, h2⟩ := h2
  exact ⟨k + l, by rw [h1, h2]; grind⟩
theorem cg_ad {x y u v : Int} (h1 : cg x y) (h2 : cg u v) : cg (x + u) (y + v) := by
  obtain ⟨k, h1⟩ := h1
  obtain ⟨l, h2⟩ := h2
  exact ⟨k + l, by rw [h1, h2]; grind⟩
theorem cg_sb {x y u v : Int} (h1 : cg x y) (h2 : cg u v) : cg (x - u) (y - v) := by
  obtain ⟨k, h1⟩ := h1
  obtain ⟨l, h2⟩ := h2
  exact ⟨k - l, by rw [h1, h2]; grind⟩
theorem cg_ml {x y u v : Int} (h1 : cg x y) (h2 : cg u v) : cg (x * u) (y * v) := by
  obtain ⟨k, h1⟩ := h1
  obtain ⟨l, h2⟩ := h2
  exact ⟨k * v + y * l + k * l * pP, by rw [h1, h2]; grind⟩
theorem cg_eq {x y : Int} (h : cg x y) (hx : 0 ≤ x) (hx2 : x < pP) (hy : 0 ≤ y) (hy2 : y < pP) : x = y := by
  obtain ⟨k, h⟩ := h
  unfold pP at *
  omega
theorem cg_k {x y : Int} (k : Int) (h : x = y + k * pP) : cg x y := ⟨k, h⟩
theorem p256 : (65536 : Int) ^ 16 = 2 * pP + 38 := by unfold pP; decide
theorem p255 : (2 : Int) ^ 255 = pP + 19 := by unfold pP; omega
end
section
/-! ===== the component's arithmetic ===== -/
set_option maxRecDepth 100000
theorem upL_s (f : Nat → Int64) (k : Nat) (v : Int64) : vp_updL f k v k = v := pk_uLs
theorem upL_n {f : Nat → Int64} {k j : Nat} (v : Int64) (h : j ≠ k) : vp_updL f k v j = f j := pk_uLn h
/-- carries are small when the places are -/
theorem cr_b {f : Nat → Int} {b c : Int} (hb : ∀ j, j < 16 → -b ≤ f j ∧ f j ≤ b) (h1 : 0 ≤ c) (h2 : b + c ≤ 65536 * c) : ∀ k, k ≤ 16 → -c ≤ crI f k ∧ crI f k ≤ c
  | 0, _ => by
    show -c ≤ 0 ∧ 0 ≤ c
    omega
  | k + 1, hk => by
    have ih := cr_b hb h1 h2 k (by omega)
    have hf := hb k (by omega)
    show -c ≤ (f k + crI f k) / 65536 ∧ (f k + crI f k) / 65536 ≤ c
    omega
/-- carry, k turns done -/
theorem car_k {f : Nat → Int64} (hb : Bd 1125899906842624 (iL f)) : ∀ k, k ≤ 15 → (∀ j, j < k → (it carSt k f j).toInt = dgI (iL f) j) ∧ (it carSt k f k).toInt = iL f k + crI (iL f) k ∧ ∀ j, k < j → it carSt k f j = f j
  | 0, _ => by
    refine ⟨fun j hj => absurd hj (Nat.not_lt_zero j), ?_, fun j _ => rfl⟩
    show (f 0).toInt = (f 0).toInt + 0
    omega
  | k + 1, hk => by
    obtain ⟨h1, h2, h3⟩ := car_k hb k (by omega)
    have hc := cr_b (c := 1125899906842624) hb (by decide) (by decide) k (by omega)
    have hf := hb k (by omega)
    have hf1 := hb (k + 1) (by omega)
    rw [it_s, carSt_lt (by omega)]
    generalize it carSt k f = g at h1 h2 h3
    have ho : (g k >>> (16 : Int64)).toInt = crI (iL f) (k + 1) := by
      rw [l_shr16, h2]; rfl
    have hob : -34359738400 ≤ crI (iL f) (k + 1) ∧ crI (iL f) (k + 1) ≤ 34359738400 := by
      show -34359738400 ≤ (iL f k + crI (iL f) k) / 65536 ∧ (iL f k + crI (iL f) k) / 65536 ≤ 34359738400
      have := hb k (by omega)
      have hc2 := cr_b (c := 17180200000) hb (by decide) (by decide) k (by omega)
      omega
    have hs : ((g k >>> (16 : Int64)) <<< (16 : Int64)).toInt = crI (iL f) (k + 1) * 65536 := by
      rw [l_shl16 (by omega) (by omega), ho]
    have hd : (g k - (g k >>> (16 : Int64)) <<< (16 : Int64)).toInt = dgI (iL f) k := by
      rw [l_sub (by omega) (by omega), hs, h2]
      unfold dgI
      show iL f k + crI (iL f) k - (iL f k + crI (iL f) k) / 65536 * 65536 = _
      omega
    refine ⟨fun j hj => ?_, ?_, fun j hj => ?_⟩
    · rw [upL_n _ (by omega)]
      by_cases c : j = k
      · rw [c, upL_s, hd]
      · rw [upL_n _ c, h1 j (by omega)]
    · rw [upL_s, upL_n _ (by omega), h3 (k + 1) (by omega)]
      have e : (f (k + 1)).toInt = iL f (k + 1) := rfl
      rw [l_add (by rw [e, ho]; omega) (by rw [e, ho]; omega), e, ho]
    · rw [upL_n _ (by omega), upL_n _ (by omega), h3 j (by omega)]
/-- carry -/
theorem car_i {f : Nat → Int64} (hb : Bd 1125899906842624 (iL f)) : iL (carF f) 0 = dgI (iL f) 0 + 38 * crI (iL f) 16 ∧ ∀ j, 1 ≤ j → j < 16 → iL (carF f) j = dgI (iL f) j := by
  obtain ⟨h1, h2, h3⟩ := car_k hb 15 (by omega)
  have hc := cr_b (c := 17180200000) hb (by decide) (by decide) 15 (by omega)
  have hf := hb 15 (by omega)
  have hob : -34359738400 ≤ crI (iL f) 16 ∧ crI (iL f) 16 ≤ 34359738400 := by
    show -34359738400 ≤ (iL f 15 + crI (iL f) 15) / 65536 ∧ (iL f 15 + crI (iL f) 15) / 65536 ≤ 34359738400
    omega
  have e : carF f = carSt 15 (it carSt 15 f) := rfl
  have d0 := dg_can (iL f) 0
  have hh : ∀ j, (carF f j).toInt = iL (carF f) j := fun j => rfl
  rw [e, carSt_ge (by omega)]
  generalize it carSt 15 f = g at h1 h2 h3
  have ho : (g 15 >>> (16 : Int64)).toInt = crI (iL f) 16 := by
    rw [l_shr16, h2]; rfl
  have hs : ((g 15 >>> (16 : Int64)) <<< (16 : Int64)).toInt = crI (iL f) 16 * 65536 := by
    rw [l_shl16 (by omega) (by omega), ho]
  have hd : (g 15 - (g 15 >>> (16 : Int64)) <<< (16 : Int64)).toInt = dgI (iL f) 15 := by
    rw [l_sub (by omega) (by omega), hs, h2]
    unfold dgI
    show iL f 15 + crI (iL f) 15 - (iL f 15 + crI (iL f) 15) / 65536 * 65536 = _
    omega
  have hm : ((38 : Int64) * (g 15 >>> (16 : Int64))).toInt = 38 * crI (iL f) 16 := by
    have e38 : (38 : Int64).toInt = 38 := by decide
    rw [l_mul (by rw [e38, ho]; omega) (by rw [e38, ho]; omega), e38, ho]
  refine ⟨?_, fun j hj1 hj2 => ?_⟩
  · show (vp_updL _ 0 _ 0).toInt = _
    rw [upL_s, upL_n _ (by omega)]
    have h10 := h1 0 (by omega)
    rw [l_add (by omega) (by omega), h10, hm]
  · show (vp_updL _ 0 _ j).toInt = _
    rw [upL_n _ (by omega)]
    by_cases c : j = 15
    · rw [c, upL_s, hd]
    · rw [upL_n _ c, h1 j (by omega)]
theorem car_v {f : Nat → Int64} (hb : Bd 1125899906842624 (iL f)) : cg (vL (iL (carF f)) 16) (vL (iL f) 16) := by
  obtain ⟨h0, h1⟩ := car_i hb
  have e1 : vL (iL (carF f)) 16 = vL (dgI (iL f)) 16 + 38 * crI (iL f) 16 := by
    have := vL_up (f := dgI (iL f)) (g := fun j => if j = 0 then dgI (iL f) 0 + 38 * crI (iL f) 16 else dgI (iL f) j) (k := 0) (fun j hj => by simp [hj]) (n := 16) (by decide)
    rw [vL_congr (f := iL (carF f)) (g := fun j => if j = 0 then dgI (iL f) 0 + 38 * crI (iL f) 16 else dgI (iL f) j) (fun j hj => by
      by_cases c : j = 0
      · subst c; simp [h0]
      · simp only [c, if_false]; exact h1 j (by omega) hj), this]
    simp only [if_true]
    rw [Int.pow_zero]
    omega
  have e2 := vL_dg (iL f) 16
  rw [p256] at e2
  refine cg_k (-2 * crI (iL f) 16) ?_
  rw [e1]
  grind
/-- two carries make it nice -/
theorem nice_2 {f : Nat → Int64} (hb : Bd 17592186044416 (iL f)) : Nice (iL (carF (carF f))) ∧ cg (vL (iL (carF (carF f))) 16) (vL (iL f) 16) := by
  have hb' : Bd 1125899906842624 (iL f) := fun j hj => by have := hb j hj; omega
  obtain ⟨h0, h1⟩ := car_i hb'
  have c16 := cr_b (c := 268500000) hb (by decide) (by decide) 16 (by omega)
  have d0 := dg_can (iL f) 0
  have hv := car_v hb'
  generalize carF f = g at h0 h1 hv
  have g0 : -10203000000 ≤ iL g 0 ∧ iL g 0 ≤ 10203070000 := by omega
  have gj : ∀ j, 1 ≤ j → j < 16 → 0 ≤ iL g j ∧ iL g j ≤ 65535 := fun j a b => by rw [h1 j a b]; exact dg_can _ j
  have hg : Bd 1125899906842624 (iL g) := fun j hj => by
    by_cases c : j = 0
    · subst c; omega
    · have := gj j (by omega) hj; omega
  have k1 : -155700 ≤ crI (iL g) 1 ∧ crI (iL g) 1 ≤ 155700 := by
    show -155700 ≤ (iL g 0 + 0) / 65536 ∧ (iL g 0 + 0) / 65536 ≤ 155700
    omega
  have k2 : -3 ≤ crI (iL g) 2 ∧ crI (iL g) 2 ≤ 3 := by
    have := gj 1 (by omega) (by omega)
    show -3 ≤ (iL g 1 + crI (iL g) 1) / 65536 ∧ (iL g 1 + crI (iL g) 1) / 65536 ≤ 3
    omega
  have k3 : ∀ k, k ≤ 13 → -1 ≤ crI (iL g) (k + 3) ∧ crI (iL g) (k + 3) ≤ 1 := by
    intro k
    induction k with
    | zero =>
      intro _
      have := gj 2 (by omega) (by omega)
      show -1 ≤ (iL g 2 + crI (iL g) 2) / 65536 ∧ (iL g 2 + crI (iL g) 2) / 65536 ≤ 1
      omega
    | succ k ih =>
      intro hk
      have := gj (k + 3) (by omega) (by omega)
      have := ih (by omega)
      show -1 ≤ (iL g (k + 3) + crI (iL g) (k + 3)) / 65536 ∧ (iL g (k + 3) + crI (iL g) (k + 3)) / 65536 ≤ 1
      omega
  obtain ⟨m0, m1⟩ := car_i hg
  have k16 : -1 ≤ crI (iL g) 16 ∧ crI (iL g) 16 ≤ 1 := k3 13 (by omega)
  have e0 := dg_can (iL g) 0
  refine ⟨⟨fun j a b => by rw [m1 j a b]; exact dg_can _ j, ?_, ?_⟩, cg_tr (car_v hg) hv⟩
  · rw [m0]; omega
  · rw [m0]; omega
theorem cr_can {f : Nat → Int} (h : Can f) : ∀ k, k ≤ 16 → crI f k = 0
  | 0, _ => rfl
  | k + 1, hk => by
    have ih := cr_can h k (by omega)
    have hf := h k (by omega)
    show (f k + crI f k) / 65536 = 0
    rw [ih]
    omega
theorem dg_id {f : Nat → Int} (h : Can f) : ∀ k, k < 16 → dgI f k = f k := by
  intro k hk
  have hf := h k hk
  unfold dgI
  rw [cr_can h k (by omega)]
  omega
/-- three carries make digits of it -/
theorem can_3 {f : Nat → Int64} (hb : Bd 65611 (iL f)) : Can (iL (carF (carF (carF f)))) ∧ cg (vL (iL (carF (carF (carF f)))) 16) (vL (iL f) 16) := by
  have hb' : Bd 1125899906842624 (iL f) := fun j hj => by have := hb j hj; omega
  obtain ⟨h0, h1⟩ := car_i hb'
  have c16 := cr_b (c := 2) hb (by decide) (by decide) 16 (by omega)
  have d0 := dg_can (iL f) 0
  have hv := car_v hb'
  generalize carF f = g at h0 h1 hv
  have g0 : -76 ≤ iL g 0 ∧ iL g 0 ≤ 65611 := by omega
  have gj : ∀ j, 1 ≤ j → j < 16 → 0 ≤ iL g j ∧ iL g j ≤ 65535 := fun j a b => by rw [h1 j a b]; exact dg_can _ j
  have hg : Bd 1125899906842624 (iL g) := fun j hj => by
    by_cases c : j = 0
    · subst c; omega
    · have := gj j (by omega) hj; omega
  have k1 : crI (iL g) 1 = iL g 0 / 65536 := by
    show (iL g 0 + 0) / 65536 = _
    rw [Int.add_zero]
  have e0 : dgI (iL g) 0 = iL g 0 % 65536 := by
    show (iL g 0 + 0) % 65536 = _
    rw [Int.add_zero]
  have kk : ∀ k, k ≤ 15 → -1 ≤ crI (iL g) (k + 1) ∧ crI (iL g) (k + 1) ≤ 1 ∧ (crI (iL g) 1 ≤ 0 → crI (iL g) (k + 1) ≤ 0) ∧ (0 ≤ crI (iL g) 1 → 0 ≤ crI (iL g) (k + 1)) := by
    intro k
    induction k with
    | zero =>
      intro _
      show -1 ≤ crI (iL g) 1 ∧ crI (iL g) 1 ≤ 1 ∧ (crI (iL g) 1 ≤ 0 → crI (iL g) 1 ≤ 0) ∧ (0 ≤ crI (iL g) 1 → 0 ≤ crI (iL g) 1)
      rw [k1]
      omega
    | succ k ih =>
      intro hk
      have := gj (k + 1) (by omega) (by omega)
      have := ih (by omega)
      have e : crI (iL g) (k + 1 + 1) = (iL g (k + 1) + crI (iL g) (k + 1)) / 65536 := rfl
      rw [e]
      omega
  obtain ⟨m0, m1⟩ := car_i hg
  have k16 : -1 ≤ crI (iL g) 16 ∧ crI (iL g) 16 ≤ 1 ∧ (crI (iL g) 1 ≤ 0 → crI (iL g) 16 ≤ 0) ∧ (0 ≤ crI (iL g) 1 → 0 ≤ crI (iL g) 16) := kk 15 (by omega)
  have hc2 : Can (iL (carF g)) := by
    intro j hj
    by_cases c : j = 0
    · subst c
      rw [m0, e0]
      rw [k1] at k16
      omega
    · rw [m1 j (by omega) hj]; exact dg_can _ j
  have hv2 := car_v hg
  generalize carF g = h at hc2 hv2
  have hh : Bd 1125899906842624 (iL h) := fun j hj => by have := hc2 j hj; omega
  obtain ⟨n0, n1⟩ := car_i hh
  have z16 := cr_can hc2 16 (by omega)
  refine ⟨?_, cg_tr (car_v hh) (cg_tr hv2 hv)⟩
  intro j hj
  by_cases c : j = 0
  · subst c
    rw [n0, z16, dg_id hc2 0 (by omega)]
    have := hc2 0 (by omega)
    omega
  · rw [n1 j (by omega) hj]; exact dg_can _ j
/-! takeAway -/
def pkI (k : Nat) : Int := if k = 0 then 65517 else if k = 15 then 32767 else 65535
theorem pK_i (k : Nat) : (pK k).toInt = pkI k := by
  unfold pK pkI
  by_cases h0 : k = 0
  · rw [if_pos h0, if_pos h0]; decide
  · by_cases h1 : k = 15
    · rw [if_neg h0, if_pos h1, if_neg h0, if_pos h1]; decide
    · rw [if_neg h0, if_neg h1, if_neg h0, if_neg h1]; decide
theorem pk_b (k : Nat) : 0 ≤ pkI k ∧ pkI k ≤ 65535 := by
  unfold pkI
  split
  · omega
  · split <;> omega
theorem pk_v : vL pkI 16 = pP := by
  unfold pP
  decide
def tkI (f : Nat → Int64) (k : Nat) : Int := iL f k - pkI k
theorem tk_cr {f : Nat → Int64} (h : Can (iL f)) : ∀ k, k ≤ 16 → -1 ≤ crI (tkI f) k ∧ crI (tkI f) k ≤ 0
  | 0, _ => by
    show -1 ≤ (0 : Int) ∧ (0 : Int) ≤ 0
    omega
  | k + 1, hk => by
    have ih := tk_cr h k (by omega)
    have hf := h k (by omega)
    have hp := pk_b k
    show -1 ≤ (iL f k - pkI k + crI (tkI f) k) / 65536 ∧ (iL f k - pkI k + crI (tkI f) k) / 65536 ≤ 0
    omega
theorem tk_bw {f : Nat → Int64} (h : Can (iL f)) : ∀ k, k ≤ 16 → (bwF f k).toInt = -crI (tkI f) k
  | 0, _ => rfl
  | k + 1, hk => by
    have ih := tk_bw h k (by omega)
    have hc := tk_cr h k (by omega)
    have hf := h k (by omega)
    have hp := pk_b k
    have e1 : (f k - pK k).toInt = iL f k - pkI k := by
      rw [l_sub (by rw [pK_i]; show _ ≤ iL f k - _; omega) (by rw [pK_i]; show iL f k - _ < _; omega), pK_i]
      rfl
    have e2 : (f k - pK k - bwF f k).toInt = tkI f k + crI (tkI f) k := by
      rw [l_sub (by rw [e1, ih]; omega) (by rw [e1, ih]; omega), e1, ih]
      unfold tkI
      omega
    have e3 : crI (tkI f) (k + 1) = (tkI f k + crI (tkI f) k) / 65536 := rfl
    show (if f k - pK k - bwF f k < 0 then (1 : Int64) else 0).toInt = _
    rw [e3]
    have hb : tkI f k = iL f k - pkI k := rfl
    by_cases c : f k - pK k - bwF f k < 0
    · rw [if_pos c]
      rw [Int64.lt_iff_toInt_lt, e2] at c
      have c : tkI f k + crI (tkI f) k < 0 := c
      show (1 : Int) = _
      omega
    · rw [if_neg c]
      rw [Int64.lt_iff_toInt_lt, e2] at c
      have c : ¬ tkI f k + crI (tkI f) k < 0 := c
      show (0 : Int) = _
      omega
theorem tk_tr {f : Nat → Int64} (h : Can (iL f)) {k : Nat} (hk : k < 16) : (trF f k).toInt = dgI (tkI f) k := by
  have ih := tk_bw h k (by omega)
  have hc := tk_cr h k (by omega)
  have hf := h k (by omega)
  have hp := pk_b k
  have e1 : (f k - pK k).toInt = iL f k - pkI k := by
    rw [l_sub (by rw [pK_i]; show _ ≤ iL f k - _; omega) (by rw [pK_i]; show iL f k - _ < _; omega), pK_i]
    rfl
  have e2 : (f k - pK k - bwF f k).toInt = tkI f k + crI (tkI f) k := by
    rw [l_sub (by rw [e1, ih]; omega) (by rw [e1, ih]; omega), e1, ih]
    unfold tkI
    omega
  unfold trF
  rw [l_and16, e2]
  rfl
theorem ta_ok {f : Nat → Int64} (h : Can (iL f)) : Can (iL (taF f)) ∧ ((vL (iL f) 16 < pP ∧ vL (iL (taF f)) 16 = vL (iL f) 16) ∨ (pP ≤ vL (iL f) 16 ∧ vL (iL (taF f)) 16 = vL (iL f) 16 - pP)) := by
  have hb := tk_bw h 16 (by omega)
  have hc := tk_cr h 16 (by omega)
  have hv := vL_dg (tkI f) 16
  have e : vL (tkI f) 16 = vL (iL f) 16 - pP := by
    rw [← pk_v, ← vL_sub]
    rfl
  have hd := vL_lt (f := dgI (tkI f)) (n := 16) (fun j _ => dg_can _ j)
  rw [e, p256] at hv
  rw [p256] at hd
  unfold taF
  by_cases c : bwF f 16 = 1
  · rw [if_pos c]
    rw [c] at hb
    have hb : (1 : Int) = -crI (tkI f) 16 := hb
    have hb : crI (tkI f) 16 = -1 := by omega
    rw [hb] at hv
    refine ⟨h, Or.inl ⟨?_, rfl⟩⟩
    omega
  · rw [if_neg c]
    have hz : crI (tkI f) 16 = 0 := by
      rcases (show crI (tkI f) 16 = 0 ∨ crI (tkI f) 16 = -1 by omega) with h9 | h9
      · exact h9
      · exfalso
        apply c
        apply Int64.toInt_inj.mp
        rw [hb, h9]
        decide
    rw [hz] at hv
    have ed : ∀ j, j < 16 → iL (fl f 16 (trF f)) j = dgI (tkI f) j := fun j hj => by
      show (fl f 16 (trF f) j).toInt = _
      rw [fl_lt hj, tk_tr h hj]
    refine ⟨fun j hj => by rw [ed j hj]; exact dg_can _ j, Or.inr ⟨?_, ?_⟩⟩
    · omega
    · rw [vL_congr ed]
      omega
/-- close: the remainder -/
theorem cl_ok {f : Nat → Int64} (hb : Bd 65611 (iL f)) : Can (iL (clF f)) ∧ vL (iL (clF f)) 16 < pP ∧ cg (vL (iL (clF f)) 16) (vL (iL f) 16) := by
  obtain ⟨h1, h2⟩ := can_3 hb
  unfold clF
  generalize carF (carF (carF f)) = g at h1 h2
  obtain ⟨a1, a2⟩ := ta_ok h1
  obtain ⟨b1, b2⟩ := ta_ok a1
  have hl := vL_lt (n := 16) h1
  rw [p256] at hl
  have hp : (38 : Int) < pP := by unfold pP; decide
  refine ⟨b1, ?_, cg_tr ?_ h2⟩
  · omega
  · rcases a2 with a2 | a2 <;> rcases b2 with b2 | b2
    · rw [b2.2, a2.2]; exact cg_rf _
    · rw [b2.2, a2.2]; exact cg_k (-1) (by omega)
    · rw [b2.2, a2.2]; exact cg_k (-1) (by omega)
    · rw [b2.2, a2.2]; exact cg_k (-2) (by omega)
end
section
/-! ===== products ===== -/
set_option maxRecDepth 100000
theorem vL_zero : ∀ n, vL (fun _ => 0) n = 0
  | 0 => rfl
  | n + 1 => by rw [vL_s, vL_zero n]; omega
/-- row i of the product, z places done -/
theorem mul_in {x y r : Nat → Int64} {i : Nat} (hi : i < 16) (hx : Bd 131146 (iL x)) (hy : Bd 131146 (iL y)) {nn : Prop} (hn : nn → ∀ a, a < 16 → 0 ≤ iL x a ∧ 0 ≤ iL y a) (hr : ∀ k, -((i : Int) * 17199273316) ≤ (r k).toInt ∧ (r k).toInt ≤ (i : Int) * 17199273316 ∧ (nn → 0 ≤ (r k).toInt)) :
    ∀ z, z ≤ 16 → (∀ k, -(((i : Int) + 1) * 17199273316) ≤ (it (mulSt x y i) z r k).toInt ∧ (it (mulSt x y i) z r k).toInt ≤ ((i : Int) + 1) * 17199273316 ∧ (nn → 0 ≤ (it (mulSt x y i) z r k).toInt) ∧ (i + z ≤ k → it (mulSt x y i) z r k = r k)) ∧ ∀ N, i + z ≤ N → vL (iL (it (mulSt x y i) z r)) N = vL (iL r) N + iL x i * 65536 ^ i * vL (iL y) z
  | 0, _ => by
    refine ⟨fun k => ?_, fun N _ => ?_⟩
    · have := hr k
      rw [it_0]
      exact ⟨by omega, by omega, this.2.2, fun _ => rfl⟩
    · show vL (iL r) N = vL (iL r) N + iL x i * 65536 ^ i * 0
      omega
  | z + 1, hz => by
    obtain ⟨h1, h2⟩ := mul_in hi hx hy hn hr z (by omega)
    rw [it_s]
    generalize it (mulSt x y i) z r = g at h1 h2
    have hxi := hx i hi
    have hyz := hy z (by omega)
    have hm := a_mul hxi.1 hxi.2 hyz.1 hyz.2
    have hg := (h1 (i + z)).2.2.2 (by omega)
    have hri := hr (i + z)
    have e1 : (x i * y z).toInt = iL x i * iL y z := l_mul (by show _ ≤ iL x i * iL y z; omega) (by show iL x i * iL y z < _; omega)
    have e2 : (g (i + z) + x i * y z).toInt = (r (i + z)).toInt + iL x i * iL y z := by
      rw [hg, l_add (by rw [e1]; omega) (by rw [e1]; omega), e1]
    refine ⟨fun k => ?_, fun N hN => ?_⟩
    · by_cases c : k = i + z
      · subst c
        show _ ≤ (vp_updL g (i + z) _ (i + z)).toInt ∧ (vp_updL g (i + z) _ (i + z)).toInt ≤ _ ∧ (nn → 0 ≤ (vp_updL g (i + z) _ (i + z)).toInt) ∧ _
        rw [upL_s, e2]
        refine ⟨by omega, by omega, fun h9 => ?_, fun h9 => by omega⟩
        have a1 := hn h9 i hi
        have a2 := hn h9 z (by omega)
        have := Int.mul_nonneg a1.1 a2.2
        have := hri.2.2 h9
        omega
      · have hk := h1 k
        show _ ≤ (vp_updL g (i + z) _ k).toInt ∧ (vp_updL g (i + z) _ k).toInt ≤ _ ∧ (nn → 0 ≤ (vp_updL g (i + z) _ k).toInt) ∧ (_ → vp_updL g (i + z) _ k = _)
        rw [upL_n _ c]
        exact ⟨hk.1, hk.2.1, hk.2.2.1, fun h9 => hk.2.2.2 (by omega)⟩
    · have e3 := vL_up (f := iL g) (g := iL (mulSt x y i z g)) (k := i + z) (fun j hj => by
        show (vp_updL g (i + z) _ j).toInt = _
        rw [upL_n _ hj]
        rfl) (n := N) (by omega)
      have e4 : iL (mulSt x y i z g) (i + z) = iL g (i + z) + iL x i * iL y z := by
        show (vp_updL g (i + z) _ (i + z)).toInt = _
        rw [upL_s, e2, ← hg]
        rfl
      rw [e3, e4, h2 N (by omega), vL_s, Int.pow_add]
      grind
/-- i rows done -/
theorem mul_out {x y : Nat → Int64} (hx : Bd 131146 (iL x)) (hy : Bd 131146 (iL y)) {nn : Prop} (hn : nn → ∀ a, a < 16 → 0 ≤ iL x a ∧ 0 ≤ iL y a) : ∀ i : Nat, i ≤ 16 → (∀ k, -((i : Int) * 17199273316) ≤ (it (mulO x y) i (fun _ => 0) k).toInt ∧ (it (mulO x y) i (fun _ => 0) k).toInt ≤ (i : Int) * 17199273316 ∧ (nn → 0 ≤ (it (mulO x y) i (fun _ => 0) k).toInt)) ∧ ∀ N, 31 ≤ N → vL (iL (it (mulO x y) i (fun _ => 0))) N = vL (iL x) i * vL (iL y) 16
  | 0, _ => by
    refine ⟨fun k => ?_, fun N _ => ?_⟩
    · show -((0 : Int) * 17199273316) ≤ 0 ∧ (0 : Int) ≤ (0 : Int) * 17199273316 ∧ (nn → (0 : Int) ≤ 0)
      exact ⟨by decide, by decide, fun _ => by decide⟩
    · show vL (fun _ => 0) N = 0 * vL (iL y) 16
      rw [vL_zero]
      omega
  | i + 1, hi => by
    obtain ⟨h1, h2⟩ := mul_out hx hy hn i (by omega)
    obtain ⟨h3, h4⟩ := mul_in (by omega) hx hy hn h1 16 (by omega)
    rw [it_s]
    refine ⟨fun k => ?_, fun N hN => ?_⟩
    · have := h3 k
      exact ⟨by have := this.1; exact this, by have := this.2.1; exact this, this.2.2.1⟩
    · show vL (iL (it (mulSt x y i) 16 _)) N = _
      rw [h4 N (by omega), h2 N hN, vL_s (iL x) i, Int.add_mul]
theorem fo_k (R : Nat → Int64) : ∀ n, n ≤ 16 → ∀ k, it foSt n R k = if k < n then R k + (38 : Int64) * R (k + 16) else R k
  | 0, _, k => by rw [it_0, if_neg (by omega)]
  | n + 1, hn, k => by
    rw [it_s]
    show vp_updL _ n _ k = _
    by_cases c : k = n
    · subst c
      rw [upL_s, fo_k R k (by omega) k, fo_k R k (by omega) (k + 16), if_neg (by omega), if_neg (by omega), if_pos (by omega)]
    · rw [upL_n _ c, fo_k R n (by omega) k]
      by_cases c2 : k < n
      · rw [if_pos c2, if_pos (by omega)]
      · rw [if_neg c2, if_neg (by omega)]
theorem fo_i {a b : Int64} (h1 : -275188373056 ≤ a.toInt) (h2 : a.toInt ≤ 275188373056) (h3 : -275188373056 ≤ b.toInt) (h4 : b.toInt ≤ 275188373056) : (a + (38 : Int64) * b).toInt = a.toInt + 38 * b.toInt := by
  have e38 : (38 : Int64).toInt = 38 := by decide
  have e1 : ((38 : Int64) * b).toInt = 38 * b.toInt := by
    rw [l_mul (by rw [e38]; omega) (by rw [e38]; omega), e38]
  rw [l_add (by rw [e1]; omega) (by rw [e1]; omega), e1]
/-- Products.multiply -/
theorem mul_ok {x y : Nat → Int64} (g : Nat → Int64) (hx : Bd 131146 (iL x)) (hy : Bd 131146 (iL y)) : Nice (iL (mulF x y g)) ∧ cg (vL (iL (mulF x y g)) 16) (vL (iL x) 16 * vL (iL y) 16) := by
  obtain ⟨h1, h2⟩ := mul_out hx hy (nn := False) (fun h => h.elim) 16 (by omega)
  have h3 := h2 31 (by omega)
  have hR : it (mulO x y) 16 (fun _ => 0) = mulR x y := rfl
  rw [hR] at h1 h3
  unfold mulF
  generalize mulR x y = R at h1 h3
  have hb : ∀ k, -275188373056 ≤ (R k).toInt ∧ (R k).toInt ≤ 275188373056 := fun k => by
    have := h1 k
    exact ⟨this.1, this.2.1⟩
  have e : ∀ j, j < 16 → iL (fl g 16 (it foSt 15 R)) j = iL R j + (if j < 15 then 38 * iL R (16 + j) else 0) := by
    intro j hj
    show (fl g 16 (it foSt 15 R) j).toInt = _
    rw [fl_lt hj, fo_k R 15 (by omega) j]
    by_cases c : j < 15
    · rw [if_pos c, if_pos c, fo_i (hb j).1 (hb j).2 (hb (j + 16)).1 (hb (j + 16)).2, Nat.add_comm j 16]
      rfl
    · rw [if_neg c, if_neg c]
      show _ = iL R j + 0
      rw [Int.add_zero]
      rfl
  have hbd : Bd 17592186044416 (iL (fl g 16 (it foSt 15 R))) := by
    intro j hj
    rw [e j hj]
    have a1 := hb j
    have a2 := hb (16 + j)
    have a1 : -275188373056 ≤ iL R j ∧ iL R j ≤ 275188373056 := a1
    have a2 : -275188373056 ≤ iL R (16 + j) ∧ iL R (16 + j) ≤ 275188373056 := a2
    split <;> omega
  obtain ⟨n1, n2⟩ := nice_2 hbd
  refine ⟨n1, cg_tr n2 ?_⟩
  have e5 : vL (iL (fl g 16 (it foSt 15 R))) 16 = vL (iL R) 16 + vL (fun j => iL R (16 + j)) 15 * 38 := by
    have s1 : vL (fun j => iL R j + (if j < 15 then 38 * iL R (16 + j) else 0)) 16 = vL (fun j => iL R j + (if j < 15 then 38 * iL R (16 + j) else 0)) 15 + (iL R 15 + (if 15 < 15 then 38 * iL R (16 + 15) else 0)) * 65536 ^ 15 := rfl
    have s2 : vL (iL R) 16 = vL (iL R) 15 + iL R 15 * 65536 ^ 15 := rfl
    have s3 : vL (fun j => iL R j + (if j < 15 then 38 * iL R (16 + j) else 0)) 15 = vL (iL R) 15 + vL (fun j => iL R (16 + j)) 15 * 38 := by
      rw [vL_congr (f := fun j => iL R j + (if j < 15 then 38 * iL R (16 + j) else 0)) (g := fun j => iL R j + iL R (16 + j) * 38) (n := 15) (fun j hj => by
        show iL R j + (if j < 15 then 38 * iL R (16 + j) else 0) = iL R j + iL R (16 + j) * 38
        rw [if_pos hj]
        omega), vL_add, vL_mul]
    rw [vL_congr e]
    rw [if_neg (by omega), Int.add_zero] at s1
    rw [s1, s2, s3]
    omega
  have e6 := vL_split (iL R) 16 15
  rw [p256, show 16 + 15 = 31 from rfl, h3] at e6
  rw [e5]
  refine cg_k (-2 * vL (fun j => iL R (16 + j)) 15) ?_
  rw [e6]
  grind
/-- the model's products -/
theorem mulm_ok {x y : Nat → Int64} (hx : Can (iL x)) (hy : Can (iL y)) : (∀ j, j < 16 → 0 ≤ iL (it foSt 16 (mulR x y)) j ∧ iL (it foSt 16 (mulR x y)) j ≤ 17592186044416) ∧ cg (vL (iL (it foSt 16 (mulR x y))) 16) (vL (iL x) 16 * vL (iL y) 16) := by
  have hx' : Bd 131146 (iL x) := fun j hj => by have := hx j hj; omega
  have hy' : Bd 131146 (iL y) := fun j hj => by have := hy j hj; omega
  obtain ⟨h1, h2⟩ := mul_out hx' hy' (nn := True) (fun _ a ha => ⟨(hx a ha).1, (hy a ha).1⟩) 16 (by omega)
  have h3 := h2 32 (by omega)
  have hR : it (mulO x y) 16 (fun _ => 0) = mulR x y := rfl
  rw [hR] at h1 h3
  generalize mulR x y = R at h1 h3
  have hb : ∀ k, 0 ≤ (R k).toInt ∧ (R k).toInt ≤ 275188373056 := fun k => by
    have := h1 k
    exact ⟨this.2.2 trivial, this.2.1⟩
  have e : ∀ j, j < 16 → iL (it foSt 16 R) j = iL R j + iL R (16 + j) * 38 := by
    intro j hj
    show (it foSt 16 R j).toInt = _
    have b1 := hb j
    have b2 := hb (j + 16)
    rw [fo_k R 16 (by omega) j, if_pos hj, fo_i (by omega) (by omega) (by omega) (by omega), Nat.add_comm j 16]
    show iL R j + 38 * iL R (16 + j) = iL R j + iL R (16 + j) * 38
    omega
  refine ⟨fun j hj => ?_, ?_⟩
  · rw [e j hj]
    have a1 : 0 ≤ iL R j ∧ iL R j ≤ 275188373056 := hb j
    have a2 : 0 ≤ iL R (16 + j) ∧ iL R (16 + j) ≤ 275188373056 := hb (16 + j)
    omega
  · have e6 := vL_split (iL R) 16 16
    rw [p256, show 16 + 16 = 32 from rfl, h3] at e6
    rw [vL_congr e, vL_add, vL_mul]
    refine cg_k (-2 * vL (fun j => iL R (16 + j)) 16) ?_
    rw [e6]
    grind
end
section
/-! ===== the model's store ===== -/
set_option maxRecDepth 100000
def Su (f : Nat → Int) : Prop := ∀ j, j < 16 → 0 ≤ f j ∧ f j ≤ 35184372088832
theorem cr_nn {f : Nat → Int} (h : Su f) : ∀ k, k ≤ 16 → 0 ≤ crI f k
  | 0, _ => Int.le_refl 0
  | k + 1, hk => by
    have ih := cr_nn h k (by omega)
    have hf := h k (by omega)
    show 0 ≤ (f k + crI f k) / 65536
    omega
theorem cr_su {f : Nat → Int} (h : Su f) : ∀ k, k ≤ 16 → 0 ≤ crI f k ∧ crI f k ≤ 1073741824 := fun k hk =>
  ⟨cr_nn h k hk, (cr_b (b := 35184372088832) (c := 1073741824) (fun j hj => by have := h j hj; omega) (by decide) (by decide) k hk).2⟩
theorem cy_i {V : Nat → Int64} (h : Su (iL V)) : ∀ k, k ≤ 16 → (cyF V k).toInt = crI (iL V) k
  | 0, _ => rfl
  | k + 1, hk => by
    have ih := cy_i h k (by omega)
    have hc := cr_su h k (by omega)
    have hf := h k (by omega)
    have e : (V k + cyF V k).toInt = iL V k + crI (iL V) k := by
      have e0 : (V k).toInt = iL V k := rfl
      rw [l_add (by rw [ih, e0]; omega) (by rw [ih, e0]; omega), ih, e0]
    show ((V k + cyF V k) >>> (16 : Int64)).toInt = _
    rw [l_shr16, e]
    rfl
theorem ps_i {V : Nat → Int64} (h : Su (iL V)) {k : Nat} (hk : k < 16) : (psF V k).toInt = dgI (iL V) k := by
  have ih := cy_i h k (by omega)
  have hc := cr_su h k (by omega)
  have hf := h k (by omega)
  have e : (V k + cyF V k).toInt = iL V k + crI (iL V) k := by
    have e0 : (V k).toInt = iL V k := rfl
    rw [l_add (by rw [ih, e0]; omega) (by rw [ih, e0]; omega), ih, e0]
  show ((V k + cyF V k) &&& 65535).toInt = _
  rw [l_and16, e]
  rfl
/-- one turn: what is above 255 bits comes back nineteen times -/
theorem tu_ok {V : Nat → Int64} (h : Su (iL V)) : ∃ T a : Int, 0 ≤ T ∧ T < 2 ^ 255 ∧ 0 ≤ a ∧ a ≤ 2147483650 ∧ vL (iL V) 16 = T + a * 2 ^ 255 ∧ vL (iL (tuF V)) 16 = T + 19 * a ∧ (∀ j, 1 ≤ j → j < 16 → 0 ≤ iL (tuF V) j ∧ iL (tuF V) j ≤ 65535) ∧ 0 ≤ iL (tuF V) 0 ∧ iL (tuF V) 0 ≤ 65535 + 19 * a := by
  have hc := cr_su h 16 (by omega)
  have h15 := dg_can (iL V) 15
  have h0 := dg_can (iL V) 0
  have p15 := ps_i h (k := 15) (by omega)
  have p0 := ps_i h (k := 0) (by omega)
  have hcy := cy_i h 16 (by omega)
  have em : (psF V 15 &&& 32767).toInt = dgI (iL V) 15 % 32768 := by rw [l_and15, p15]
  have eq : (psF V 15 >>> (15 : Int64)).toInt = dgI (iL V) 15 / 32768 := by rw [l_shr15, p15]
  have e2 : (2 : Int64).toInt = 2 := by decide
  have e19 : (19 : Int64).toInt = 19 := by decide
  have ec : (cyF V 16 * (2 : Int64)).toInt = crI (iL V) 16 * 2 := by
    rw [l_mul (by rw [hcy, e2]; omega) (by rw [hcy, e2]; omega), hcy, e2]
  obtain ⟨a, ha⟩ : ∃ a : Int, a = crI (iL V) 16 * 2 + dgI (iL V) 15 / 32768 := ⟨_, rfl⟩
  have ea : (cyF V 16 * (2 : Int64) + (psF V 15 >>> (15 : Int64))).toInt = a := by
    rw [l_add (by rw [ec, eq]; omega) (by rw [ec, eq]; omega), ec, eq, ha]
  have ea2 : ((19 : Int64) * (cyF V 16 * (2 : Int64) + (psF V 15 >>> (15 : Int64)))).toInt = 19 * a := by
    rw [l_mul (by rw [ea, e19]; omega) (by rw [ea, e19]; omega), ea, e19]
  have t0 : iL (tuF V) 0 = dgI (iL V) 0 + 19 * a := by
    show (vp_updL _ 0 _ 0).toInt = _
    rw [upL_s, upL_n _ (by omega), fl_lt (by omega), l_add (by rw [p0, ea2]; omega) (by rw [p0, ea2]; omega), p0, ea2]
  have t15 : iL (tuF V) 15 = dgI (iL V) 15 % 32768 := by
    show (vp_updL _ 0 _ 15).toInt = _
    rw [upL_n _ (by omega), upL_s, em]
  have tj : ∀ j, 1 ≤ j → j < 15 → iL (tuF V) j = dgI (iL V) j := fun j a b => by
    show (vp_updL _ 0 _ j).toInt = _
    rw [upL_n _ (by omega), upL_n _ (by omega), fl_lt (by omega), ps_i h (by omega)]
  have v15 := vL_lt (f := dgI (iL V)) (n := 15) (fun j _ => dg_can _ j)
  have vd := vL_dg (iL V) 16
  have vs : vL (dgI (iL V)) 16 = vL (dgI (iL V)) 15 + dgI (iL V) 15 * 65536 ^ 15 := rfl
  have vt : vL (iL (tuF V)) 16 = vL (iL (tuF V)) 15 + iL (tuF V) 15 * 65536 ^ 15 := rfl
  have vu := vL_up (f := dgI (iL V)) (g := fun j => if j = 0 then dgI (iL V) 0 + 19 * a else dgI (iL V) j) (k := 0) (fun j hj => by simp [hj]) (n := 15) (by decide)
  have vw : vL (iL (tuF V)) 15 = vL (dgI (iL V)) 15 + 19 * a := by
    rw [vL_congr (f := iL (tuF V)) (g := fun j => if j = 0 then dgI (iL V) 0 + 19 * a else dgI (iL V) j) (fun j hj => by
      by_cases c : j = 0
      · subst c; simp [t0]
      · simp only [c, if_false]; exact tj j (by omega) hj), vu]
    simp only [if_true]
    rw [Int.pow_zero]
    omega
  refine ⟨vL (dgI (iL V)) 15 + dgI (iL V) 15 % 32768 * 65536 ^ 15, a, ?_, ?_, ?_, ?_, ?_, ?_, ?_, ?_, ?_⟩
  · omega
  · omega
  · omega
  · omega
  · rw [← vd, vs, ha]
    omega
  · rw [vt, vw, t15]
    omega
  · intro j j1 j2
    by_cases c : j = 15
    · rw [c, t15]; omega
    · rw [tj j j1 (by omega)]; exact dg_can _ j
  · rw [t0]; omega
  · rw [t0]; omega
theorem tu_su {V : Nat → Int64} {a : Int} (h1 : ∀ j, 1 ≤ j → j < 16 → 0 ≤ iL V j ∧ iL V j ≤ 65535) (h2 : 0 ≤ iL V 0) (h3 : iL V 0 ≤ 65535 + 19 * a) (ha : a ≤ 2147483650) : Su (iL V) := by
  intro j hj
  by_cases c : j = 0
  · subst c; omega
  · have := h1 j (by omega) hj; omega
theorem v3_ok {V : Nat → Int64} (h : Su (iL V)) : Can (iL (v3F V)) ∧ vL (iL (v3F V)) 16 < 2 ^ 255 ∧ cg (vL (iL (v3F V)) 16) (vL (iL V) 16) := by
  obtain ⟨T1, a1, b1, b2, b3, b4, b5, b6, b7, b8, b9⟩ := tu_ok h
  obtain ⟨T2, a2, c1, c2, c3, c4, c5, c6, c7, c8, c9⟩ := tu_ok (tu_su b7 b8 b9 b4)
  obtain ⟨T3, a3, d1, d2, d3, d4, d5, d6, d7, d8, d9⟩ := tu_ok (tu_su c7 c8 c9 c4)
  have e : v3F V = tuF (tuF (tuF V)) := rfl
  rw [e]
  have x2 : a2 ≤ 1 := by omega
  have x3 : a3 = 0 := by omega
  refine ⟨?_, ?_, ?_⟩
  · intro j hj
    by_cases c : j = 0
    · subst c
      exact ⟨d8, by omega⟩
    · exact d7 j (by omega) hj
  · omega
  · refine cg_k (-a1 - a2) ?_
    unfold pP
    omega
theorem v4_ok {V : Nat → Int64} (h : Su (iL V)) : Can (iL (v4F V)) ∧ vL (iL (v4F V)) 16 < 2 ^ 255 ∧ cg (vL (iL (v4F V)) 16) (vL (iL V) 16) := by
  obtain ⟨h1, h2, h3⟩ := v3_ok h
  have hs : Su (iL (v3F V)) := fun j hj => by have := h1 j hj; omega
  have e : ∀ j, j < 16 → iL (v4F V) j = iL (v3F V) j := fun j hj => by
    show (fl (v3F V) 16 (psF (v3F V)) j).toInt = _
    rw [fl_lt hj, ps_i hs hj, dg_id h1 j hj]
  refine ⟨fun j hj => by rw [e j hj]; exact h1 j hj, ?_, ?_⟩
  · rw [vL_congr e]; exact h2
  · rw [vL_congr e]; exact h3
theorem pI_i (k : Nat) : (pI k).toInt64.toInt = pkI k := by
  unfold pI pkI
  by_cases h0 : k = 0
  · rw [if_pos h0, if_pos h0]; decide
  · by_cases h1 : k = 15
    · rw [if_neg h0, if_pos h1, if_neg h0, if_pos h1]; decide
    · rw [if_neg h0, if_neg h1, if_neg h0, if_neg h1]; decide
theorem gr_ok2 {U : Nat → Int64} (h : Can (iL U)) : ∀ n, n ≤ 16 → grF U n = if vL pkI n ≤ vL (iL U) n then 1 else 0
  | 0, _ => rfl
  | n + 1, hn => by
    have ih := gr_ok2 h n (by omega)
    have hp : (0 : Int) < 65536 ^ n := by exact Int.pow_pos (by decide)
    have hU := vL_lt (f := iL U) (n := n) (fun j hj => h j (by omega))
    have hP := vL_lt (f := pkI) (n := n) (fun j _ => pk_b j)
    rw [vL_s, vL_s]
    have e0 : (U n).toInt = iL U n := rfl
    by_cases c : U n = (pI n).toInt64
    · have ce : iL U n = pkI n := by rw [← e0, c, pI_i]
      rw [gr_eq c, ih, ce]
      by_cases k : vL pkI n ≤ vL (iL U) n
      · rw [if_pos k, if_pos (by omega)]
      · rw [if_neg k, if_neg (by omega)]
    · have cn : iL U n ≠ pkI n := fun h9 => c (Int64.toInt_inj.mp (by rw [pI_i]; exact h9))
      by_cases c2 : (pI n).toInt64 < U n
      · rw [gr_gt c c2]
        rw [Int64.lt_iff_toInt_lt, pI_i, e0] at c2
        have := Int.mul_le_mul_of_nonneg_right (show (1 : Int) ≤ iL U n - pkI n by omega) (Int.le_of_lt hp)
        rw [Int.sub_mul] at this
        rw [if_pos (by omega)]
      · rw [gr_le c c2]
        rw [Int64.lt_iff_toInt_lt, pI_i, e0] at c2
        have := Int.mul_le_mul_of_nonneg_right (show (1 : Int) ≤ pkI n - iL U n by omega) (Int.le_of_lt hp)
        rw [Int.sub_mul] at this
        rw [if_neg (by omega)]
def gqI (g : Int32) (k : Nat) : Int := if g = 0 then 0 else pkI k
theorem gp_i (g : Int32) (k : Nat) : (gpF g k).toInt64.toInt = gqI g k := by
  unfold gpF gqI
  by_cases h : g = 0
  · rw [if_pos h, if_pos h]; decide
  · rw [if_neg h, if_neg h, pI_i]
theorem gq_b (g : Int32) (k : Nat) : 0 ≤ gqI g k ∧ gqI g k ≤ 65535 := by
  unfold gqI
  split
  · omega
  · exact pk_b k
def lfI (U : Nat → Int64) (g : Int32) (k : Nat) : Int := iL U k - gqI g k
theorem lf_cr {U : Nat → Int64} {g : Int32} (h : Can (iL U)) : ∀ k, k ≤ 16 → -2 ≤ crI (lfI U g) k ∧ crI (lfI U g) k ≤ 2 :=
  cr_b (b := 65535) (fun j hj => by
    have h1 := h j hj
    have h2 := gq_b g j
    show -65535 ≤ iL U j - gqI g j ∧ iL U j - gqI g j ≤ 65535
    omega) (by decide) (by decide)
theorem lf_e {U : Nat → Int64} {g : Int32} (h : Can (iL U)) {k : Nat} (hk : k < 16) {b : Int64} (hb : b.toInt = crI (lfI U g) k) : (U k - (gpF g k).toInt64 + b).toInt = lfI U g k + crI (lfI U g) k := by
  have h1 := h k hk
  have h2 := gq_b g k
  have h3 := lf_cr (g := g) h k (by omega)
  have e0 : (U k).toInt = iL U k := rfl
  have e1 : (U k - (gpF g k).toInt64).toInt = iL U k - gqI g k := by
    rw [l_sub (by rw [gp_i, e0]; omega) (by rw [gp_i, e0]; omega), gp_i, e0]
  rw [l_add (by rw [e1, hb]; omega) (by rw [e1, hb]; omega), e1, hb]
  rfl
theorem bo_i {U : Nat → Int64} {g : Int32} (h : Can (iL U)) : ∀ k, k ≤ 16 → (boF U g k).toInt = crI (lfI U g) k
  | 0, _ => rfl
  | k + 1, hk => by
    have ih := bo_i h k (by omega) (g := g)
    show ((U k - (gpF g k).toInt64 + boF U g k) >>> (16 : Int64)).toInt = _
    rw [l_shr16, lf_e h (by omega) ih]
    rfl
theorem dgf_i {U : Nat → Int64} {g : Int32} (h : Can (iL U)) {k : Nat} (hk : k < 16) : (dgF U g k).toInt = dgI (lfI U g) k := by
  have e : ((U k - (gpF g k).toInt64 + boF U g k) &&& 65535).toInt = dgI (lfI U g) k := by
    rw [l_and16, lf_e h hk (bo_i h k (by omega))]
    rfl
  have hd := dg_can (lfI U g) k
  show ((U k - (gpF g k).toInt64 + boF U g k) &&& 65535).toInt32.toInt = _
  rw [l_to32 (by rw [e]; omega) (by rw [e]; omega), e]
/-- store -/
theorem st_ok {V : Nat → Int64} (h : Su (iL V)) : Can (fun j => (stF V j).toInt) ∧ vL (fun j => (stF V j).toInt) 16 < pP ∧ cg (vL (fun j => (stF V j).toInt) 16) (vL (iL V) 16) := by
  obtain ⟨h1, h2, h3⟩ := v4_ok h
  unfold stF
  have hg := gr_ok2 h1 16 (by omega)
  rw [pk_v] at hg
  generalize v4F V = U at h1 h2 h3 hg
  generalize grF U 16 = g at hg
  have e : ∀ j, j < 16 → (dgF U g j).toInt = dgI (lfI U g) j := fun j hj => dgf_i h1 hj
  have hv := vL_dg (lfI U g) 16
  have hs : vL (lfI U g) 16 = vL (iL U) 16 - vL (gqI g) 16 := vL_sub _ _ 16
  have hd := vL_lt (f := dgI (lfI U g)) (n := 16) (fun j _ => dg_can _ j)
  have hl := vL_lt (n := 16) h1
  rw [p256] at hd hl hv
  have hp : (100 : Int) < pP := by unfold pP; decide
  have h255 := p255
  have hc := lf_cr (g := g) h1 16 (by omega)
  refine ⟨fun j hj => by show 0 ≤ (dgF U g j).toInt ∧ (dgF U g j).toInt ≤ 65535; rw [e j hj]; exact dg_can _ j, ?_, ?_⟩
  · rw [vL_congr e]
    by_cases c : pP ≤ vL (iL U) 16
    · rw [if_pos c] at hg
      have hq : vL (gqI g) 16 = pP := by
        rw [← pk_v]
        apply vL_congr
        intro j _
        unfold gqI
        rw [hg]
        rfl
      have : crI (lfI U g) 16 = 0 := by
        rcases (show crI (lfI U g) 16 = -2 ∨ crI (lfI U g) 16 = -1 ∨ crI (lfI U g) 16 = 0 ∨ crI (lfI U g) 16 = 1 ∨ crI (lfI U g) 16 = 2 by omega) with k | k | k | k | k <;> rw [k] at hv <;> omega
      rw [this] at hv
      omega
    · rw [if_neg c] at hg
      have hq : vL (gqI g) 16 = 0 := by
        rw [← vL_zero 16]
        apply vL_congr
        intro j _
        unfold gqI
        rw [hg]
        rfl
      have : crI (lfI U g) 16 = 0 := by
        rcases (show crI (lfI U g) 16 = -2 ∨ crI (lfI U g) 16 = -1 ∨ crI (lfI U g) 16 = 0 ∨ crI (lfI U g) 16 = 1 ∨ crI (lfI U g) 16 = 2 by omega) with k | k | k | k | k <;> rw [k] at hv <;> omega
      rw [this] at hv
      omega
  · rw [vL_congr e]
    refine cg_tr ?_ h3
    by_cases c : pP ≤ vL (iL U) 16
    · rw [if_pos c] at hg
      have hq : vL (gqI g) 16 = pP := by
        rw [← pk_v]
        apply vL_congr
        intro j _
        unfold gqI
        rw [hg]
        rfl
      have : crI (lfI U g) 16 = 0 := by
        rcases (show crI (lfI U g) 16 = -2 ∨ crI (lfI U g) 16 = -1 ∨ crI (lfI U g) 16 = 0 ∨ crI (lfI U g) 16 = 1 ∨ crI (lfI U g) 16 = 2 by omega) with k | k | k | k | k <;> rw [k] at hv <;> omega
      rw [this] at hv
      exact cg_k (-1) (by omega)
    · rw [if_neg c] at hg
      have hq : vL (gqI g) 16 = 0 := by
        rw [← vL_zero 16]
        apply vL_congr
        intro j _
        unfold gqI
        rw [hg]
        rfl
      have : crI (lfI U g) 16 = 0 := by
        rcases (show crI (lfI U g) 16 = -2 ∨ crI (lfI U g) 16 = -1 ∨ crI (lfI U g) 16 = 0 ∨ crI (lfI U g) 16 = 1 ∨ crI (lfI U g) 16 = 2 by omega) with k | k | k | k | k <;> rw [k] at hv <;> omega
      rw [this] at hv
      exact cg_k 0 (by omega)
end
section
/-! ===== numbers of both sides, as what they stand for ===== -/
set_option maxRecDepth 100000
section NU
variable {P P' : Nat → Nat → Int64} {x y : Int} {i j a b t : Nat}
theorem Nice.bd {f : Nat → Int} (h : Nice f) : Bd 65573 f := fun j hj => by
  by_cases c : j = 0
  · subst c; have := h.2; omega
  · have := h.1 j (by omega) hj; omega
theorem Can.nice {f : Nat → Int} (h : Can f) : Nice f := ⟨fun j _ hj => h j hj, by have := h 0 (by omega); omega, by have := h 0 (by omega); omega⟩
theorem Bd.le {b c : Int} {f : Nat → Int} (h : Bd b f) (hc : b ≤ c) : Bd c f := fun j hj => by have := h j hj; omega
theorem Cn.cl (h : Cn P i x) : Cl P i x := ⟨h.1.bd.le (by decide), h.2⟩
theorem Cc.cn (h : Cc P i x) : Cn P i x := ⟨h.1.nice, h.2.2⟩
theorem Cn.of (e : P' i = P i) (h : Cn P i x) : Cn P' i x := by unfold Cn; rw [e]; exact h
theorem Cl.of (e : P' i = P i) (h : Cl P i x) : Cl P' i x := by unfold Cl; rw [e]; exact h
theorem Cc.of (e : P' i = P i) (h : Cc P i x) : Cc P' i x := by unfold Cc; rw [e]; exact h
theorem Small.of (e : P' 10 = P 10) (h : Small P) : Small P' := by unfold Small; rw [e]; exact h
theorem Cn.eq (h : Cn P i x) (e : x = y) : Cn P i y := e ▸ h
theorem Nice.congr {f g : Nat → Int} (h : ∀ j, j < 16 → f j = g j) (hg : Nice g) : Nice f := ⟨fun j a b => by rw [h j b]; exact hg.1 j a b, by rw [h 0 (by decide)]; exact hg.2.1, by rw [h 0 (by decide)]; exact hg.2.2⟩
theorem Bd.congr {c : Int} {f g : Nat → Int} (h : ∀ j, j < 16 → f j = g j) (hg : Bd c g) : Bd c f := fun j hj => by rw [h j hj]; exact hg j hj
theorem Can.congr {f g : Nat → Int} (h : ∀ j, j < 16 → f j = g j) (hg : Can g) : Can f := fun j hj => by rw [h j hj]; exact hg j hj
theorem ne_m (h : j ≠ t) : mP a b t P j = P j := va_up_ne _ _ h
theorem ne_a (h : j ≠ t) : aP t a b P j = P j := va_up_ne _ _ h
theorem ne_s (h : j ≠ t) : sP t a b P j = P j := va_up_ne _ _ h
theorem ne_tk (h : j ≠ t) : tkP t a P j = P j := va_up_ne _ _ h
theorem ne_cl (h : j ≠ t) : clP t P j = P j := va_up_ne _ _ h
theorem ne_set {v : Int64} (h : j ≠ t) : setP t v P j = P j := va_up_ne _ _ h
theorem ne_tl {pt : Nat → Int64} (h : j ≠ t) : tlP t pt P j = P j := va_up_ne _ _ h
theorem c_mul (h1 : Cl P a x) (h2 : Cl P b y) : Cn (mP a b t P) t (x * y) := by
  obtain ⟨k1, k2⟩ := mul_ok (P t) h1.1 h2.1
  unfold Cn
  rw [show mP a b t P t = mulF (P a) (P b) (P t) from va_up_self _ _ _]
  exact ⟨k1, cg_tr k2 (cg_ml h1.2 h2.2)⟩
theorem c_add (h1 : Cn P a x) (h2 : Cn P b y) : Cl (aP t a b P) t (x + y) := by
  have b1 := h1.1.bd
  have b2 := h2.1.bd
  have e : ∀ j, j < 16 → iL (aP t a b P t) j = iL (P a) j + iL (P b) j := fun j hj => by
    have c1 := b1 j hj
    have c2 := b2 j hj
    show (va_up P t _ t j).toInt = _
    rw [va_up_self, fl_lt hj, l_add (by show _ ≤ iL (P a) j + iL (P b) j; omega) (by show iL (P a) j + iL (P b) j < _; omega)]
    rfl
  refine ⟨fun j hj => ?_, ?_⟩
  · rw [e j hj]
    have c1 := b1 j hj
    have c2 := b2 j hj
    omega
  · rw [vL_congr e, vL_add]
    exact cg_ad h1.2 h2.2
theorem c_sub' (h1 : Cn P a x) (h2 : Cn P b y) : Bd 65611 (iL (sP t a b P t)) ∧ cg (vL (iL (sP t a b P t)) 16) (x - y) := by
  have b1 := h1.1.bd
  have b2 := h2.1.bd
  have e : ∀ j, j < 16 → iL (sP t a b P t) j = iL (P a) j - iL (P b) j := fun j hj => by
    have c1 := b1 j hj
    have c2 := b2 j hj
    show (va_up P t _ t j).toInt = _
    rw [va_up_self, fl_lt hj, l_sub (by show _ ≤ iL (P a) j - iL (P b) j; omega) (by show iL (P a) j - iL (P b) j < _; omega)]
    rfl
  refine ⟨fun j hj => ?_, ?_⟩
  · rw [e j hj]
    by_cases c : j = 0
    · subst c
      have c1 := h1.1.2
      have c2 := h2.1.2
      omega
    · have c1 := h1.1.1 j (by omega) hj
      have c2 := h2.1.1 j (by omega) hj
      omega
  · rw [vL_congr e, vL_sub]
    exact cg_sb h1.2 h2.2
theorem c_sub (h1 : Cn P a x) (h2 : Cn P b y) : Cl (sP t a b P) t (x - y) := ⟨(c_sub' h1 h2).1.le (by decide), (c_sub' h1 h2).2⟩
theorem c_cl (h1 : Bd 65611 (iL (P t))) (h2 : cg (vL (iL (P t)) 16) x) : Cc (clP t P) t x := by
  obtain ⟨k1, k2, k3⟩ := cl_ok h1
  unfold Cc
  rw [show clP t P t = clF (P t) from va_up_self _ _ _]
  exact ⟨k1, k2, cg_tr k3 h2⟩
theorem Cn.close (h : Cn P t x) : Cc (clP t P) t x := c_cl (h.1.bd.le (by decide)) h.2
theorem c_tk (h : Cn P a x) : Cn (tkP t a P) t x := by
  have e : ∀ j, j < 16 → iL (tkP t a P t) j = iL (P a) j := fun j hj => by
    show (va_up P t _ t j).toInt = _
    rw [va_up_self, fl_lt hj]
    rfl
  exact ⟨Nice.congr e h.1, by rw [vL_congr e]; exact h.2⟩
theorem tkL_b (Ls : Nat → Int64) (j : Nat) : 0 ≤ (tkL Ls j).toInt ∧ (tkL Ls j).toInt ≤ 65535 := by
  unfold tkL
  rw [l_and16]
  omega
theorem uF_can (pt : Nat → Int64) : Can (iL (uF pt)) := by
  intro j _
  show 0 ≤ (uF pt j).toInt ∧ (uF pt j).toInt ≤ 65535
  unfold uF
  by_cases c : j = 15
  · rw [if_pos c, l_and15]
    omega
  · rw [if_neg c]
    exact tkL_b pt j
theorem tl_e {pt : Nat → Int64} : ∀ j, j < 16 → iL (tlP t pt P t) j = iL (uF pt) j := fun j hj => by
  show (va_up P t _ t j).toInt = (uF pt j).toInt
  rw [va_up_self]
  unfold tlF uF
  by_cases c : j = 15
  · rw [if_pos c, c, upL_s, fl_lt (by decide)]
  · rw [if_neg c, upL_n _ c, fl_lt hj]
theorem c_tl {pt : Nat → Int64} : Cn (tlP t pt P) t (uV pt) := ⟨Nice.congr tl_e (uF_can pt).nice, by rw [vL_congr tl_e]; exact cg_rf _⟩
theorem vL_one {f : Nat → Int} {v : Int} (h0 : f 0 = v) (h : ∀ j, 1 ≤ j → j < 16 → f j = 0) : vL f 16 = v := by
  have := vL_up (f := fun _ => 0) (g := fun j => if j = 0 then v else 0) (k := 0) (fun j hj => by simp [hj]) (n := 16) (by decide)
  rw [vL_congr (f := f) (g := fun j => if j = 0 then v else 0) (fun j hj => by
    by_cases c : j = 0
    · subst c; simp [h0]
    · simp only [c, if_false]; exact h j (by omega) hj), this, vL_zero]
  simp only [if_true]
  rw [Int.pow_zero]
  omega
theorem c_set {v : Int64} (h : 0 ≤ v.toInt ∧ v.toInt ≤ 1) : Cn (setP t v P) t v.toInt := by
  have e0 : iL (setP t v P t) 0 = v.toInt := by
    show (va_up P t _ t 0).toInt = _
    rw [va_up_self]
    unfold setF
    rw [upL_s]
  have ej : ∀ j, 1 ≤ j → j < 16 → iL (setP t v P t) j = 0 := fun j h1 h2 => by
    show (va_up P t _ t j).toInt = _
    rw [va_up_self]
    unfold setF
    rw [upL_n _ (by omega), fl_lt h2]
    rfl
  exact ⟨⟨fun j h1 h2 => by rw [ej j h1 h2]; omega, by rw [e0]; omega, by rw [e0]; omega⟩, by rw [vL_one e0 ej]; exact cg_rf _⟩
theorem Small.cl (h : Small P) : Cl P 10 121665 := by
  obtain ⟨h0, h1, hj⟩ := h
  have e0 : iL (P 10) 0 = 56129 := by show (P 10 0).toInt = _; rw [h0]; rfl
  have e1 : iL (P 10) 1 = 1 := by show (P 10 1).toInt = _; rw [h1]; rfl
  have ej : ∀ j, 2 ≤ j → j < 16 → iL (P 10) j = 0 := fun j a b => by show (P 10 j).toInt = _; rw [hj j a b]; rfl
  refine ⟨fun j h9 => ?_, ?_⟩
  · by_cases c : j = 0
    · rw [c, e0]; omega
    · by_cases c1 : j = 1
      · rw [c1, e1]; omega
      · rw [ej j (by omega) h9]; omega
  · have e : vL (iL (P 10)) 16 = 121665 := by
      rw [vL_congr (f := iL (P 10)) (g := fun j => if j = 0 then 56129 else if j = 1 then 1 else 0) (n := 16) (fun j h9 => by
        by_cases c : j = 0
        · subst c; simp [e0]
        · by_cases c1 : j = 1
          · subst c1; simp [e1]
          · simp only [c, c1, if_false]; exact ej j (by omega) h9)]
      decide
    rw [e]
    exact cg_rf _
end NU
/-! the model's -/
section MU
variable {D D' : Nat → Int32} {x y : Int} {a b t : Nat} {f : Nat → Int32}
theorem Mn.of (e : ∀ j, j < 16 → D' (16 * a + j) = D (16 * a + j)) (h : Mn D a x) : Mn D' a x := by
  have e' : ∀ j, j < 16 → iD D' a j = iD D a j := fun j hj => by show (D' _).toInt = (D _).toInt; rw [e j hj]
  exact ⟨Can.congr e' h.1, by rw [vL_congr e']; exact h.2.1, by rw [vL_congr e']; exact h.2.2⟩
theorem Mn.eq (h : Mn D a x) (e : x = y) : Mn D a y := e ▸ h
theorem mn_fl (h1 : Can (fun j => (f j).toInt)) (h2 : vL (fun j => (f j).toInt) 16 < pP) (h3 : cg (vL (fun j => (f j).toInt) 16) x) : Mn (flD D t 16 f) t x := by
  have e : ∀ j, j < 16 → iD (flD D t 16 f) t j = (f j).toInt := fun j hj => by show (flD D t 16 f (16 * t + j)).toInt = _; rw [flD_at hj]
  exact ⟨Can.congr e h1, by rw [vL_congr e]; exact h2, by rw [vL_congr e]; exact h3⟩
theorem Mn.ne (h : a ≠ t) (hm : Mn D a x) : Mn (flD D t 16 f) a x := hm.of (fun j hj => flD_ne h hj)
theorem m_sto {V : Nat → Int64} (h1 : Su (iL V)) (h2 : cg (vL (iL V) 16) x) : Mn (dSto t V D) t x := by
  obtain ⟨k1, k2, k3⟩ := st_ok h1
  exact mn_fl k1 k2 (cg_tr k3 h2)
theorem dL_i (k : Nat) : (dL D a k).toInt = iD D a k := by
  show (D (16 * a + k)).toInt64.toInt = _
  rw [Int32.toInt_toInt64]
  rfl
theorem m_add (h1 : Mn D a x) (h2 : Mn D b y) : Mn (dAdd t a b D) t (x + y) := by
  have e : ∀ j, j < 16 → iL (fun k => dL D a k + dL D b k) j = iD D a j + iD D b j := fun j hj => by
    have c1 := h1.1 j hj
    have c2 := h2.1 j hj
    show (dL D a j + dL D b j).toInt = _
    rw [l_add (by rw [dL_i, dL_i]; omega) (by rw [dL_i, dL_i]; omega), dL_i, dL_i]
  refine m_sto (fun j hj => ?_) ?_
  · rw [e j hj]
    have c1 := h1.1 j hj
    have c2 := h2.1 j hj
    omega
  · rw [vL_congr e, vL_add]
    exact cg_ad h1.2.2 h2.2.2
theorem m_muS {v : Int32} (hv : 0 ≤ v.toInt ∧ v.toInt ≤ 200000) (h1 : Mn D a x) : Mn (dMuS t a v D) t (x * v.toInt) := by
  have e : ∀ j, j < 16 → iL (fun k => dL D a k * v.toInt64) j = iD D a j * v.toInt := fun j hj => by
    have c1 := h1.1 j hj
    have hm := a_mul (m := 200000) (a := iD D a j) (b := v.toInt) (by omega) (by omega) (by omega) (by omega)
    show (dL D a j * v.toInt64).toInt = _
    rw [l_mul (by rw [dL_i, Int32.toInt_toInt64]; omega) (by rw [dL_i, Int32.toInt_toInt64]; omega), dL_i, Int32.toInt_toInt64]
  refine m_sto (fun j hj => ?_) ?_
  · rw [e j hj]
    have c1 := h1.1 j hj
    have hm := a_mul (m := 200000) (a := iD D a j) (b := v.toInt) (by omega) (by omega) (by omega) (by omega)
    have := Int.mul_nonneg c1.1 hv.1
    omega
  · rw [vL_congr e, vL_mul]
    exact cg_ml h1.2.2 (cg_rf _)
theorem m_mul (h1 : Mn D a x) (h2 : Mn D b y) : Mn (dMul t a b D) t (x * y) := by
  have ea : ∀ j, iL (dL D a) j = iD D a j := fun j => dL_i j
  have eb : ∀ j, iL (dL D b) j = iD D b j := fun j => dL_i j
  obtain ⟨k1, k2⟩ := mulm_ok (x := dL D a) (y := dL D b) (Can.congr (fun j _ => ea j) h1.1) (Can.congr (fun j _ => eb j) h2.1)
  refine m_sto (fun j hj => ?_) ?_
  · have := k1 j hj
    omega
  · refine cg_tr k2 ?_
    rw [vL_congr (fun j _ => ea j), vL_congr (fun j _ => eb j)]
    exact cg_ml h1.2.2 h2.2.2
def sbI (D : Nat → Int32) (a b : Nat) (k : Nat) : Int := iD D a k + pkI k - iD D b k
theorem sb_e (h1 : Can (iD D a)) (h2 : Can (iD D b)) {k : Nat} (hk : k < 16) {c : Int64} (hc : c.toInt = crI (sbI D a b) k) (hc2 : -3 ≤ crI (sbI D a b) k ∧ crI (sbI D a b) k ≤ 3) : ((D (16 * a + k)).toInt64 + (pI k).toInt64 - (D (16 * b + k)).toInt64 + c).toInt = sbI D a b k + crI (sbI D a b) k := by
  have c1 := h1 k hk
  have c2 := h2 k hk
  have c3 := pk_b k
  have ea : (D (16 * a + k)).toInt64.toInt = iD D a k := dL_i k
  have eb : (D (16 * b + k)).toInt64.toInt = iD D b k := dL_i k
  have e1 : ((D (16 * a + k)).toInt64 + (pI k).toInt64).toInt = iD D a k + pkI k := by
    rw [l_add (by rw [ea, pI_i]; omega) (by rw [ea, pI_i]; omega), ea, pI_i]
  have e2 : ((D (16 * a + k)).toInt64 + (pI k).toInt64 - (D (16 * b + k)).toInt64).toInt = iD D a k + pkI k - iD D b k := by
    rw [l_sub (by rw [e1, eb]; omega) (by rw [e1, eb]; omega), e1, eb]
  rw [l_add (by rw [e2, hc]; omega) (by rw [e2, hc]; omega), e2, hc]
  rfl
theorem sb_cr (h1 : Can (iD D a)) (h2 : Can (iD D b)) : ∀ k, k ≤ 16 → -3 ≤ crI (sbI D a b) k ∧ crI (sbI D a b) k ≤ 3 :=
  cr_b (b := 131070) (fun j hj => by
    have c1 := h1 j hj
    have c2 := h2 j hj
    have c3 := pk_b j
    show -131070 ≤ iD D a j + pkI j - iD D b j ∧ iD D a j + pkI j - iD D b j ≤ 131070
    omega) (by decide) (by decide)
theorem sb_i (h1 : Can (iD D a)) (h2 : Can (iD D b)) : ∀ k, k ≤ 16 → (sbF D a b k).toInt = crI (sbI D a b) k
  | 0, _ => rfl
  | k + 1, hk => by
    have ih := sb_i h1 h2 k (by omega)
    show (((D (16 * a + k)).toInt64 + (pI k).toInt64 - (D (16 * b + k)).toInt64 + sbF D a b k) >>> (16 : Int64)).toInt = _
    rw [l_shr16, sb_e h1 h2 (by omega) ih (sb_cr h1 h2 k (by omega))]
    rfl
theorem sd_i (h1 : Can (iD D a)) (h2 : Can (iD D b)) {k : Nat} (hk : k < 16) : (sdF D a b k).toInt = dgI (sbI D a b) k := by
  show (((D (16 * a + k)).toInt64 + (pI k).toInt64 - (D (16 * b + k)).toInt64 + sbF D a b k) &&& 65535).toInt = _
  rw [l_and16, sb_e h1 h2 hk (sb_i h1 h2 k (by omega)) (sb_cr h1 h2 k (by omega))]
  rfl
theorem sub_v : vL (sbI D a b) 16 = vL (iD D a) 16 + pP - vL (iD D b) 16 := by
  rw [← pk_v, ← vL_add, ← vL_sub]
  rfl
theorem sub_z (h1 : Mn D a x) (h2 : Mn D b y) : 0 ≤ crI (sbI D a b) 16 := by
  have hv := vL_dg (sbI D a b) 16
  have hd := vL_lt (f := dgI (sbI D a b)) (n := 16) (fun j _ => dg_can _ j)
  have hl := vL_lt (n := 16) h1.1
  have hc := sb_cr h1.1 h2.1 16 (by omega)
  rw [sub_v] at hv
  rw [p256] at hv hd
  have h3 := h2.2.1
  have h4 := h1.2.1
  rcases (show crI (sbI D a b) 16 = -3 ∨ crI (sbI D a b) 16 = -2 ∨ crI (sbI D a b) 16 = -1 ∨ 0 ≤ crI (sbI D a b) 16 by clear hv hd hl h3 h4; omega) with k | k | k | k
  · rw [k] at hv; omega
  · rw [k] at hv; omega
  · rw [k] at hv; omega
  · exact k
theorem sub_e (h1 : Can (iD D a)) (h2 : Can (iD D b)) : ∀ j, j < 16 → iL (vp_updL (sdF D a b) 15 (sdF D a b 15 + sbF D a b 16 * (65536 : Int64))) j = if j = 15 then dgI (sbI D a b) 15 + crI (sbI D a b) 16 * 65536 else dgI (sbI D a b) j := by
  have hc := sb_cr h1 h2 16 (by omega)
  have hi := sb_i h1 h2 16 (by omega)
  have h15 := dg_can (sbI D a b) 15
  have e65 : (65536 : Int64).toInt = 65536 := by decide
  have em : (sbF D a b 16 * (65536 : Int64)).toInt = crI (sbI D a b) 16 * 65536 := by
    rw [l_mul (by rw [hi, e65]; omega) (by rw [hi, e65]; omega), hi, e65]
  have e15 : (sdF D a b 15 + sbF D a b 16 * (65536 : Int64)).toInt = dgI (sbI D a b) 15 + crI (sbI D a b) 16 * 65536 := by
    have e := sd_i h1 h2 (k := 15) (by omega)
    rw [l_add (by rw [e, em]; omega) (by rw [e, em]; omega), e, em]
  intro j hj
  show (vp_updL _ 15 _ j).toInt = _
  by_cases c : j = 15
  · rw [if_pos c, c, upL_s, e15]
  · rw [if_neg c, upL_n _ c, sd_i h1 h2 hj]
theorem sub_su (h1 : Mn D a x) (h2 : Mn D b y) : Su (iL (vp_updL (sdF D a b) 15 (sdF D a b 15 + sbF D a b 16 * (65536 : Int64)))) := by
  have hz := sub_z h1 h2
  have hc := sb_cr h1.1 h2.1 16 (by omega)
  intro j hj
  rw [sub_e h1.1 h2.1 j hj]
  have hj := dg_can (sbI D a b) j
  have h15 := dg_can (sbI D a b) 15
  split <;> omega
theorem sub_c (h1 : Can (iD D a)) (h2 : Can (iD D b)) : vL (iL (vp_updL (sdF D a b) 15 (sdF D a b 15 + sbF D a b 16 * (65536 : Int64)))) 16 = vL (sbI D a b) 16 := by
  have := vL_up (f := dgI (sbI D a b)) (g := fun j => if j = 15 then dgI (sbI D a b) 15 + crI (sbI D a b) 16 * 65536 else dgI (sbI D a b) j) (k := 15) (fun j hj => by simp [hj]) (n := 16) (by decide)
  rw [vL_congr (sub_e h1 h2), this, ← vL_dg (sbI D a b) 16]
  simp only [if_true]
  have e : ∀ u v : Int, (u + v * 65536 - u) * 65536 ^ 15 = v * 65536 ^ 16 := by
    intro u v
    rw [show (65536 : Int) ^ 16 = 65536 * 65536 ^ 15 by decide]
    grind
  rw [e]
theorem m_sub (h1 : Mn D a x) (h2 : Mn D b y) : Mn (dSub t a b D) t (x - y) := by
  refine m_sto (sub_su h1 h2) ?_
  rw [sub_c h1.1 h2.1, sub_v]
  refine cg_tr ?_ (cg_sb h1.2.2 h2.2.2)
  exact cg_k 1 (by omega)
theorem m_mkU {pt : Nat → Int64} : Mn (dMkU pt D) 4 (uV pt) := by
  have e : ∀ j, j < 16 → iL (vp_updL (tkL pt) 15 (tkL pt 15 &&& 32767)) j = iL (uF pt) j := fun j hj => by
    show (vp_updL _ 15 _ j).toInt = (uF pt j).toInt
    unfold uF
    by_cases c : j = 15
    · rw [if_pos c, c, upL_s]
    · rw [if_neg c, upL_n _ c]
  refine m_sto (fun j hj => ?_) ?_
  · rw [e j hj]
    have := uF_can pt j hj
    omega
  · rw [vL_congr e]
    exact cg_rf _
theorem m_set {v : Int32} (h : 0 ≤ v.toInt ∧ v.toInt ≤ 1) : Mn (dSet t v D) t v.toInt := by
  have e0 : (fun k : Nat => ((if k = 0 then v else nI 0 : Int32)).toInt) 0 = v.toInt := by simp
  have ej : ∀ j, 1 ≤ j → j < 16 → (fun k : Nat => ((if k = 0 then v else nI 0 : Int32)).toInt) j = 0 := fun j h1 _ => by
    show ((if j = 0 then v else nI 0 : Int32)).toInt = 0
    rw [if_neg (by omega)]
    decide
  have hv := vL_one e0 ej
  have hp : (38 : Int) < pP := by unfold pP; decide
  refine mn_fl (fun j hj => ?_) ?_ ?_
  · by_cases c : j = 0
    · subst c; rw [e0]; omega
    · rw [ej j (by omega) hj]; omega
  · rw [hv]; omega
  · rw [hv]; exact cg_rf _
theorem m_cpy (h : Mn D a x) : Mn (dCpy t a D) t x := mn_fl h.1 h.2.1 h.2.2
end MU
end
section
/-! ===== one step of the ladder, on both sides ===== -/
set_option maxRecDepth 100000
def coreP (P : Nat → Nat → Int64) : Nat → Nat → Int64 := mP 4 0 4 (mP 4 4 4 (sP 4 8 7 (mP 3 3 3 (aP 3 8 7 (mP 2 9 2 (aP 2 2 5 (mP 9 10 2 (sP 9 5 6 (mP 5 6 1 (mP 6 6 6 (mP 5 5 5 (mP 7 6 7 (mP 8 5 8 (sP 8 3 4 (aP 7 3 4 (sP 6 1 2 (aP 5 1 2 P)))))))))))))))))
theorem step_core (mask : Int64) (P : Nat → Nat → Int64) : stepP mask P = cP 2 4 mask (cP 1 3 mask (coreP (cP 2 4 mask (cP 1 3 mask P)))) := rfl
def lX2 (x2 z2 : Int) : Int := (((x2 + z2) * (x2 + z2)) * ((x2 - z2) * (x2 - z2)))
def lZ2 (x2 z2 : Int) : Int := ((((((x2 + z2) * (x2 + z2)) - ((x2 - z2) * (x2 - z2))) * 121665) + ((x2 + z2) * (x2 + z2))) * (((x2 + z2) * (x2 + z2)) - ((x2 - z2) * (x2 - z2))))
def lX3 (x2 z2 x3 z3 : Int) : Int := ((((x3 - z3) * (x2 + z2)) + ((x3 + z3) * (x2 - z2))) * (((x3 - z3) * (x2 + z2)) + ((x3 + z3) * (x2 - z2))))
def lZ3 (x2 z2 x3 z3 u : Int) : Int := (((((x3 - z3) * (x2 + z2)) - ((x3 + z3) * (x2 - z2))) * (((x3 - z3) * (x2 + z2)) - ((x3 + z3) * (x2 - z2)))) * u)
theorem core_c {P : Nat → Nat → Int64} {x2 z2 x3 z3 u : Int} (h1 : Cn P 1 x2) (h2 : Cn P 2 z2) (h3 : Cn P 3 x3) (h4 : Cn P 4 z3) (h0 : Cn P 0 u) (hs : Small P) : Cn (coreP P) 1 (lX2 x2 z2) ∧ Cn (coreP P) 2 (lZ2 x2 z2) ∧ Cn (coreP P) 3 (lX3 x2 z2 x3 z3) ∧ Cn (coreP P) 4 (lZ3 x2 z2 x3 z3 u) ∧ Cn (coreP P) 0 u ∧ Small (coreP P) := by
  unfold coreP
  have k5_0 : Cl (aP 5 1 2 P) 5 (x2 + z2) := c_add h1 h2
  have k0_0 : Cn (aP 5 1 2 P) 0 u := h0.of (ne_a (by decide))
  have k1_0 : Cn (aP 5 1 2 P) 1 x2 := h1.of (ne_a (by decide))
  have k2_0 : Cn (aP 5 1 2 P) 2 z2 := h2.of (ne_a (by decide))
  have k3_0 : Cn (aP 5 1 2 P) 3 x3 := h3.of (ne_a (by decide))
  have k4_0 : Cn (aP 5 1 2 P) 4 z3 := h4.of (ne_a (by decide))
  have s_0 : Small (aP 5 1 2 P) := hs.of (ne_a (by decide))
  generalize aP 5 1 2 P = P1 at k5_0 k0_0 k1_0 k2_0 k3_0 k4_0 s_0 ⊢
  have k6_1 : Cl (sP 6 1 2 P1) 6 (x2 - z2) := c_sub k1_0 k2_0
  have k0_1 : Cn (sP 6 1 2 P1) 0 u := k0_0.of (ne_s (by decide))
  have k3_1 : Cn (sP 6 1 2 P1) 3 x3 := k3_0.of (ne_s (by decide))
  have k4_1 : Cn (sP 6 1 2 P1) 4 z3 := k4_0.of (ne_s (by decide))
  have k5_1 : Cl (sP 6 1 2 P1) 5 (x2 + z2) := k5_0.of (ne_s (by decide))
  have s_1 : Small (sP 6 1 2 P1) := s_0.of (ne_s (by decide))
  generalize sP 6 1 2 P1 = P2 at k6_1 k0_1 k3_1 k4_1 k5_1 s_1 ⊢
  have k7_2 : Cl (aP 7 3 4 P2) 7 (x3 + z3) := c_add k3_1 k4_1
  have k0_2 : Cn (aP 7 3 4 P2) 0 u := k0_1.of (ne_a (by decide))
  have k3_2 : Cn (aP 7 3 4 P2) 3 x3 := k3_1.of (ne_a (by decide))
  have k4_2 : Cn (aP 7 3 4 P2) 4 z3 := k4_1.of (ne_a (by decide))
  have k5_2 : Cl (aP 7 3 4 P2) 5 (x2 + z2) := k5_1.of (ne_a (by decide))
  have k6_2 : Cl (aP 7 3 4 P2) 6 (x2 - z2) := k6_1.of (ne_a (by decide))
  have s_2 : Small (aP 7 3 4 P2) := s_1.of (ne_a (by decide))
  generalize aP 7 3 4 P2 = P3 at k7_2 k0_2 k3_2 k4_2 k5_2 k6_2 s_2 ⊢
  have k8_3 : Cl (sP 8 3 4 P3) 8 (x3 - z3) := c_sub k3_2 k4_2
  have k0_3 : Cn (sP 8 3 4 P3) 0 u := k0_2.of (ne_s (by decide))
  have k5_3 : Cl (sP 8 3 4 P3) 5 (x2 + z2) := k5_2.of (ne_s (by decide))
  have k6_3 : Cl (sP 8 3 4 P3) 6 (x2 - z2) := k6_2.of (ne_s (by decide))
  have k7_3 : Cl (sP 8 3 4 P3) 7 (x3 + z3) := k7_2.of (ne_s (by decide))
  have s_3 : Small (sP 8 3 4 P3) := s_2.of (ne_s (by decide))
  generalize sP 8 3 4 P3 = P4 at k8_3 k0_3 k5_3 k6_3 k7_3 s_3 ⊢
  have k8_4 : Cn (mP 8 5 8 P4) 8 ((x3 - z3) * (x2 + z2)) := c_mul k8_3 k5_3
  have k0_4 : Cn (mP 8 5 8 P4) 0 u := k0_3.of (ne_m (by decide))
  have k5_4 : Cl (mP 8 5 8 P4) 5 (x2 + z2) := k5_3.of (ne_m (by decide))
  have k6_4 : Cl (mP 8 5 8 P4) 6 (x2 - z2) := k6_3.of (ne_m (by decide))
  have k7_4 : Cl (mP 8 5 8 P4) 7 (x3 + z3) := k7_3.of (ne_m (by decide))
  have s_4 : Small (mP 8 5 8 P4) := s_3.of (ne_m (by decide))
  generalize mP 8 5 8 P4 = P5 at k8_4 k0_4 k5_4 k6_4 k7_4 s_4 ⊢
  have k7_5 : Cn (mP 7 6 7 P5) 7 ((x3 + z3) * (x2 - z2)) := c_mul k7_4 k6_4
  have k0_5 : Cn (mP 7 6 7 P5) 0 u := k0_4.of (ne_m (by decide))
  have k5_5 : Cl (mP 7 6 7 P5) 5 (x2 + z2) := k5_4.of (ne_m (by decide))
  have k6_5 : Cl (mP 7 6 7 P5) 6 (x2 - z2) := k6_4.of (ne_m (by decide))
  have k8_5 : Cn (mP 7 6 7 P5) 8 ((x3 - z3) * (x2 + z2)) := k8_4.of (ne_m (by decide))
  have s_5 : Small (mP 7 6 7 P5) := s_4.of (ne_m (by decide))
  generalize mP 7 6 7 P5 = P6 at k7_5 k0_5 k5_5 k6_5 k8_5 s_5 ⊢
  have k5_6 : Cn (mP 5 5 5 P6) 5 ((x2 + z2) * (x2 + z2)) := c_mul k5_5 k5_5
  have k0_6 : Cn (mP 5 5 5 P6) 0 u := k0_5.of (ne_m (by decide))
  have k6_6 : Cl (mP 5 5 5 P6) 6 (x2 - z2) := k6_5.of (ne_m (by decide))
  have k7_6 : Cn (mP 5 5 5 P6) 7 ((x3 + z3) * (x2 - z2)) := k7_5.of (ne_m (by decide))
  have k8_6 : Cn (mP 5 5 5 P6) 8 ((x3 - z3) * (x2 + z2)) := k8_5.of (ne_m (by decide))
  have s_6 : Small (mP 5 5 5 P6) := s_5.of (ne_m (by decide))
  generalize mP 5 5 5 P6 = P7 at k5_6 k0_6 k6_6 k7_6 k8_6 s_6 ⊢
  have k6_7 : Cn (mP 6 6 6 P7) 6 ((x2 - z2) * (x2 - z2)) := c_mul k6_6 k6_6
  have k0_7 : Cn (mP 6 6 6 P7) 0 u := k0_6.of (ne_m (by decide))
  have k5_7 : Cn (mP 6 6 6 P7) 5 ((x2 + z2) * (x2 + z2)) := k5_6.of (ne_m (by decide))
  have k7_7 : Cn (mP 6 6 6 P7) 7 ((x3 + z3) * (x2 - z2)) := k7_6.of (ne_m (by decide))
  have k8_7 : Cn (mP 6 6 6 P7) 8 ((x3 - z3) * (x2 + z2)) := k8_6.of (ne_m (by decide))
  have s_7 : Small (mP 6 6 6 P7) := s_6.of (ne_m (by decide))
  generalize mP 6 6 6 P7 = P8 at k6_7 k0_7 k5_7 k7_7 k8_7 s_7 ⊢
  have k1_8 : Cn (mP 5 6 1 P8) 1 (((x2 + z2) * (x2 + z2)) * ((x2 - z2) * (x2 - z2))) := c_mul k5_7.cl k6_7.cl
  have k0_8 : Cn (mP 5 6 1 P8) 0 u := k0_7.of (ne_m (by decide))
  have k5_8 : Cn (mP 5 6 1 P8) 5 ((x2 + z2) * (x2 + z2)) := k5_7.of (ne_m (by decide))
  have k6_8 : Cn (mP 5 6 1 P8) 6 ((x2 - z2) * (x2 - z2)) := k6_7.of (ne_m (by decide))
  have k7_8 : Cn (mP 5 6 1 P8) 7 ((x3 + z3) * (x2 - z2)) := k7_7.of (ne_m (by decide))
  have k8_8 : Cn (mP 5 6 1 P8) 8 ((x3 - z3) * (x2 + z2)) := k8_7.of (ne_m (by decide))
  have s_8 : Small (mP 5 6 1 P8) := s_7.of (ne_m (by decide))
  generalize mP 5 6 1 P8 = P9 at k1_8 k0_8 k5_8 k6_8 k7_8 k8_8 s_8 ⊢
  have k9_9 : Cl (sP 9 5 6 P9) 9 (((x2 + z2) * (x2 + z2)) - ((x2 - z2) * (x2 - z2))) := c_sub k5_8 k6_8
  have k0_9 : Cn (sP 9 5 6 P9) 0 u := k0_8.of (ne_s (by decide))
  have k1_9 : Cn (sP 9 5 6 P9) 1 (((x2 + z2) * (x2 + z2)) * ((x2 - z2) * (x2 - z2))) := k1_8.of (ne_s (by decide))
  have k5_9 : Cn (sP 9 5 6 P9) 5 ((x2 + z2) * (x2 + z2)) := k5_8.of (ne_s (by decide))
  have k7_9 : Cn (sP 9 5 6 P9) 7 ((x3 + z3) * (x2 - z2)) := k7_8.of (ne_s (by decide))
  have k8_9 : Cn (sP 9 5 6 P9) 8 ((x3 - z3) * (x2 + z2)) := k8_8.of (ne_s (by decide))
  have s_9 : Small (sP 9 5 6 P9) := s_8.of (ne_s (by decide))
  generalize sP 9 5 6 P9 = P10 at k9_9 k0_9 k1_9 k5_9 k7_9 k8_9 s_9 ⊢
  have k2_10 : Cn (mP 9 10 2 P10) 2 ((((x2 + z2) * (x2 + z2)) - ((x2 - z2) * (x2 - z2))) * 121665) := c_mul k9_9 s_9.cl
  have k0_10 : Cn (mP 9 10 2 P10) 0 u := k0_9.of (ne_m (by decide))
  have k1_10 : Cn (mP 9 10 2 P10) 1 (((x2 + z2) * (x2 + z2)) * ((x2 - z2) * (x2 - z2))) := k1_9.of (ne_m (by decide))
  have k5_10 : Cn (mP 9 10 2 P10) 5 ((x2 + z2) * (x2 + z2)) := k5_9.of (ne_m (by decide))
  have k7_10 : Cn (mP 9 10 2 P10) 7 ((x3 + z3) * (x2 - z2)) := k7_9.of (ne_m (by decide))
  have k8_10 : Cn (mP 9 10 2 P10) 8 ((x3 - z3) * (x2 + z2)) := k8_9.of (ne_m (by decide))
  have k9_10 : Cl (mP 9 10 2 P10) 9 (((x2 + z2) * (x2 + z2)) - ((x2 - z2) * (x2 - z2))) := k9_9.of (ne_m (by decide))
  have s_10 : Small (mP 9 10 2 P10) := s_9.of (ne_m (by decide))
  generalize mP 9 10 2 P10 = P11 at k2_10 k0_10 k1_10 k5_10 k7_10 k8_10 k9_10 s_10 ⊢
  have k2_11 : Cl (aP 2 2 5 P11) 2 (((((x2 + z2) * (x2 + z2)) - ((x2 - z2) * (x2 - z2))) * 121665) + ((x2 + z2) * (x2 + z2))) := c_add k2_10 k5_10
  have k0_11 : Cn (aP 2 2 5 P11) 0 u := k0_10.of (ne_a (by decide))
  have k1_11 : Cn (aP 2 2 5 P11) 1 (((x2 + z2) * (x2 + z2)) * ((x2 - z2) * (x2 - z2))) := k1_10.of (ne_a (by decide))
  have k7_11 : Cn (aP 2 2 5 P11) 7 ((x3 + z3) * (x2 - z2)) := k7_10.of (ne_a (by decide))
  have k8_11 : Cn (aP 2 2 5 P11) 8 ((x3 - z3) * (x2 + z2)) := k8_10.of (ne_a (by decide))
  have k9_11 : Cl (aP 2 2 5 P11) 9 (((x2 + z2) * (x2 + z2)) - ((x2 - z2) * (x2 - z2))) := k9_10.of (ne_a (by decide))
  have s_11 : Small (aP 2 2 5 P11) := s_10.of (ne_a (by decide))
  generalize aP 2 2 5 P11 = P12 at k2_11 k0_11 k1_11 k7_11 k8_11 k9_11 s_11 ⊢
  have k2_12 : Cn (mP 2 9 2 P12) 2 ((((((x2 + z2) * (x2 + z2)) - ((x2 - z2) * (x2 - z2))) * 121665) + ((x2 + z2) * (x2 + z2))) * (((x2 + z2) * (x2 + z2)) - ((x2 - z2) * (x2 - z2)))) := c_mul k2_11 k9_11
  have k0_12 : Cn (mP 2 9 2 P12) 0 u := k0_11.of (ne_m (by decide))
  have k1_12 : Cn (mP 2 9 2 P12) 1 (((x2 + z2) * (x2 + z2)) * ((x2 - z2) * (x2 - z2))) := k1_11.of (ne_m (by decide))
  have k7_12 : Cn (mP 2 9 2 P12) 7 ((x3 + z3) * (x2 - z2)) := k7_11.of (ne_m (by decide))
  have k8_12 : Cn (mP 2 9 2 P12) 8 ((x3 - z3) * (x2 + z2)) := k8_11.of (ne_m (by decide))
  have s_12 : Small (mP 2 9 2 P12) := s_11.of (ne_m (by decide))
  generalize mP 2 9 2 P12 = P13 at k2_12 k0_12 k1_12 k7_12 k8_12 s_12 ⊢
  have k3_13 : Cl (aP 3 8 7 P13) 3 (((x3 - z3) * (x2 + z2)) + ((x3 + z3) * (x2 - z2))) := c_add k8_12 k7_12
  have k0_13 : Cn (aP 3 8 7 P13) 0 u := k0_12.of (ne_a (by decide))
  have k1_13 : Cn (aP 3 8 7 P13) 1 (((x2 + z2) * (x2 + z2)) * ((x2 - z2) * (x2 - z2))) := k1_12.of (ne_a (by decide))
  have k2_13 : Cn (aP 3 8 7 P13) 2 ((((((x2 + z2) * (x2 + z2)) - ((x2 - z2) * (x2 - z2))) * 121665) + ((x2 + z2) * (x2 + z2))) * (((x2 + z2) * (x2 + z2)) - ((x2 - z2) * (x2 - z2)))) := k2_12.of (ne_a (by decide))
  have k7_13 : Cn (aP 3 8 7 P13) 7 ((x3 + z3) * (x2 - z2)) := k7_12.of (ne_a (by decide))
  have k8_13 : Cn (aP 3 8 7 P13) 8 ((x3 - z3) * (x2 + z2)) := k8_12.of (ne_a (by decide))
  have s_13 : Small (aP 3 8 7 P13) := s_12.of (ne_a (by decide))
  generalize aP 3 8 7 P13 = P14 at k3_13 k0_13 k1_13 k2_13 k7_13 k8_13 s_13 ⊢
  have k3_14 : Cn (mP 3 3 3 P14) 3 ((((x3 - z3) * (x2 + z2)) + ((x3 + z3) * (x2 - z2))) * (((x3 - z3) * (x2 + z2)) + ((x3 + z3) * (x2 - z2)))) := c_mul k3_13 k3_13
  have k0_14 : Cn (mP 3 3 3 P14) 0 u := k0_13.of (ne_m (by decide))
  have k1_14 : Cn (mP 3 3 3 P14) 1 (((x2 + z2) * (x2 + z2)) * ((x2 - z2) * (x2 - z2))) := k1_13.of (ne_m (by decide))
  have k2_14 : Cn (mP 3 3 3 P14) 2 ((((((x2 + z2) * (x2 + z2)) - ((x2 - z2) * (x2 - z2))) * 121665) + ((x2 + z2) * (x2 + z2))) * (((x2 + z2) * (x2 + z2)) - ((x2 - z2) * (x2 - z2)))) := k2_13.of (ne_m (by decide))
  have k7_14 : Cn (mP 3 3 3 P14) 7 ((x3 + z3) * (x2 - z2)) := k7_13.of (ne_m (by decide))
  have k8_14 : Cn (mP 3 3 3 P14) 8 ((x3 - z3) * (x2 + z2)) := k8_13.of (ne_m (by decide))
  have s_14 : Small (mP 3 3 3 P14) := s_13.of (ne_m (by decide))
  generalize mP 3 3 3 P14 = P15 at k3_14 k0_14 k1_14 k2_14 k7_14 k8_14 s_14 ⊢
  have k4_15 : Cl (sP 4 8 7 P15) 4 (((x3 - z3) * (x2 + z2)) - ((x3 + z3) * (x2 - z2))) := c_sub k8_14 k7_14
  have k0_15 : Cn (sP 4 8 7 P15) 0 u := k0_14.of (ne_s (by decide))
  have k1_15 : Cn (sP 4 8 7 P15) 1 (((x2 + z2) * (x2 + z2)) * ((x2 - z2) * (x2 - z2))) := k1_14.of (ne_s (by decide))
  have k2_15 : Cn (sP 4 8 7 P15) 2 ((((((x2 + z2) * (x2 + z2)) - ((x2 - z2) * (x2 - z2))) * 121665) + ((x2 + z2) * (x2 + z2))) * (((x2 + z2) * (x2 + z2)) - ((x2 - z2) * (x2 - z2)))) := k2_14.of (ne_s (by decide))
  have k3_15 : Cn (sP 4 8 7 P15) 3 ((((x3 - z3) * (x2 + z2)) + ((x3 + z3) * (x2 - z2))) * (((x3 - z3) * (x2 + z2)) + ((x3 + z3) * (x2 - z2)))) := k3_14.of (ne_s (by decide))
  have s_15 : Small (sP 4 8 7 P15) := s_14.of (ne_s (by decide))
  generalize sP 4 8 7 P15 = P16 at k4_15 k0_15 k1_15 k2_15 k3_15 s_15 ⊢
  have k4_16 : Cn (mP 4 4 4 P16) 4 ((((x3 - z3) * (x2 + z2)) - ((x3 + z3) * (x2 - z2))) * (((x3 - z3) * (x2 + z2)) - ((x3 + z3) * (x2 - z2)))) := c_mul k4_15 k4_15
  have k0_16 : Cn (mP 4 4 4 P16) 0 u := k0_15.of (ne_m (by decide))
  have k1_16 : Cn (mP 4 4 4 P16) 1 (((x2 + z2) * (x2 + z2)) * ((x2 - z2) * (x2 - z2))) := k1_15.of (ne_m (by decide))
  have k2_16 : Cn (mP 4 4 4 P16) 2 ((((((x2 + z2) * (x2 + z2)) - ((x2 - z2) * (x2 - z2))) * 121665) + ((x2 + z2) * (x2 + z2))) * (((x2 + z2) * (x2 + z2)) - ((x2 - z2) * (x2 - z2)))) := k2_15.of (ne_m (by decide))
  have k3_16 : Cn (mP 4 4 4 P16) 3 ((((x3 - z3) * (x2 + z2)) + ((x3 + z3) * (x2 - z2))) * (((x3 - z3) * (x2 + z2)) + ((x3 + z3) * (x2 - z2)))) := k3_15.of (ne_m (by decide))
  have s_16 : Small (mP 4 4 4 P16) := s_15.of (ne_m (by decide))
  generalize mP 4 4 4 P16 = P17 at k4_16 k0_16 k1_16 k2_16 k3_16 s_16 ⊢
  have k4_17 : Cn (mP 4 0 4 P17) 4 (((((x3 - z3) * (x2 + z2)) - ((x3 + z3) * (x2 - z2))) * (((x3 - z3) * (x2 + z2)) - ((x3 + z3) * (x2 - z2)))) * u) := c_mul k4_16.cl k0_16.cl
  have k0_17 : Cn (mP 4 0 4 P17) 0 u := k0_16.of (ne_m (by decide))
  have k1_17 : Cn (mP 4 0 4 P17) 1 (((x2 + z2) * (x2 + z2)) * ((x2 - z2) * (x2 - z2))) := k1_16.of (ne_m (by decide))
  have k2_17 : Cn (mP 4 0 4 P17) 2 ((((((x2 + z2) * (x2 + z2)) - ((x2 - z2) * (x2 - z2))) * 121665) + ((x2 + z2) * (x2 + z2))) * (((x2 + z2) * (x2 + z2)) - ((x2 - z2) * (x2 - z2)))) := k2_16.of (ne_m (by decide))
  have k3_17 : Cn (mP 4 0 4 P17) 3 ((((x3 - z3) * (x2 + z2)) + ((x3 + z3) * (x2 - z2))) * (((x3 - z3) * (x2 + z2)) + ((x3 + z3) * (x2 - z2)))) := k3_16.of (ne_m (by decide))
  have s_17 : Small (mP 4 0 4 P17) := s_16.of (ne_m (by decide))
  exact ⟨k1_17, k2_17, k3_17, k4_17, k0_17, s_17⟩
def coreD (D : Nat → Int32) : Nat → Int32 := dMul 3 4 11 (dMul 11 11 11 (dSub 11 9 8 (dMul 2 11 11 (dAdd 11 9 8 (dMul 1 10 11 (dAdd 11 11 6 (dMuS 11 10 (nI 121665) (dMul 0 6 7 (dSub 10 6 7 (dMul 7 7 7 (dMul 6 6 6 (dMul 8 8 7 (dMul 9 9 6 (dSub 9 2 3 (dAdd 8 2 3 (dSub 7 0 1 (dAdd 6 0 1 D)))))))))))))))))
theorem mstep_core (z : Int32) (D : Nat → Int32) : mStep z D = dChg z (coreD (dChg z D)) := rfl
theorem core_m {D : Nat → Int32} {x2 z2 x3 z3 u : Int} (h1 : Mn D 0 x2) (h2 : Mn D 1 z2) (h3 : Mn D 2 x3) (h4 : Mn D 3 z3) (h0 : Mn D 4 u) : Mn (coreD D) 0 (lX2 x2 z2) ∧ Mn (coreD D) 1 (lZ2 x2 z2) ∧ Mn (coreD D) 2 (lX3 x2 z2 x3 z3) ∧ Mn (coreD D) 3 (lZ3 x2 z2 x3 z3 u) ∧ Mn (coreD D) 4 u := by
  unfold coreD
  have k6_0 : Mn (dAdd 6 0 1 D) 6 (x2 + z2) := m_add h1 h2
  have k0_0 : Mn (dAdd 6 0 1 D) 0 x2 := h1.ne (by decide)
  have k1_0 : Mn (dAdd 6 0 1 D) 1 z2 := h2.ne (by decide)
  have k2_0 : Mn (dAdd 6 0 1 D) 2 x3 := h3.ne (by decide)
  have k3_0 : Mn (dAdd 6 0 1 D) 3 z3 := h4.ne (by decide)
  have k4_0 : Mn (dAdd 6 0 1 D) 4 u := h0.ne (by decide)
  generalize dAdd 6 0 1 D = D1 at k6_0 k0_0 k1_0 k2_0 k3_0 k4_0 ⊢
  have k7_1 : Mn (dSub 7 0 1 D1) 7 (x2 - z2) := m_sub k0_0 k1_0
  have k2_1 : Mn (dSub 7 0 1 D1) 2 x3 := k2_0.ne (by decide)
  have k3_1 : Mn (dSub 7 0 1 D1) 3 z3 := k3_0.ne (by decide)
  have k4_1 : Mn (dSub 7 0 1 D1) 4 u := k4_0.ne (by decide)
  have k6_1 : Mn (dSub 7 0 1 D1) 6 (x2 + z2) := k6_0.ne (by decide)
  generalize dSub 7 0 1 D1 = D2 at k7_1 k2_1 k3_1 k4_1 k6_1 ⊢
  have k8_2 : Mn (dAdd 8 2 3 D2) 8 (x3 + z3) := m_add k2_1 k3_1
  have k2_2 : Mn (dAdd 8 2 3 D2) 2 x3 := k2_1.ne (by decide)
  have k3_2 : Mn (dAdd 8 2 3 D2) 3 z3 := k3_1.ne (by decide)
  have k4_2 : Mn (dAdd 8 2 3 D2) 4 u := k4_1.ne (by decide)
  have k6_2 : Mn (dAdd 8 2 3 D2) 6 (x2 + z2) := k6_1.ne (by decide)
  have k7_2 : Mn (dAdd 8 2 3 D2) 7 (x2 - z2) := k7_1.ne (by decide)
  generalize dAdd 8 2 3 D2 = D3 at k8_2 k2_2 k3_2 k4_2 k6_2 k7_2 ⊢
  have k9_3 : Mn (dSub 9 2 3 D3) 9 (x3 - z3) := m_sub k2_2 k3_2
  have k4_3 : Mn (dSub 9 2 3 D3) 4 u := k4_2.ne (by decide)
  have k6_3 : Mn (dSub 9 2 3 D3) 6 (x2 + z2) := k6_2.ne (by decide)
  have k7_3 : Mn (dSub 9 2 3 D3) 7 (x2 - z2) := k7_2.ne (by decide)
  have k8_3 : Mn (dSub 9 2 3 D3) 8 (x3 + z3) := k8_2.ne (by decide)
  generalize dSub 9 2 3 D3 = D4 at k9_3 k4_3 k6_3 k7_3 k8_3 ⊢
  have k9_4 : Mn (dMul 9 9 6 D4) 9 ((x3 - z3) * (x2 + z2)) := m_mul k9_3 k6_3
  have k4_4 : Mn (dMul 9 9 6 D4) 4 u := k4_3.ne (by decide)
  have k6_4 : Mn (dMul 9 9 6 D4) 6 (x2 + z2) := k6_3.ne (by decide)
  have k7_4 : Mn (dMul 9 9 6 D4) 7 (x2 - z2) := k7_3.ne (by decide)
  have k8_4 : Mn (dMul 9 9 6 D4) 8 (x3 + z3) := k8_3.ne (by decide)
  generalize dMul 9 9 6 D4 = D5 at k9_4 k4_4 k6_4 k7_4 k8_4 ⊢
  have k8_5 : Mn (dMul 8 8 7 D5) 8 ((x3 + z3) * (x2 - z2)) := m_mul k8_4 k7_4
  have k4_5 : Mn (dMul 8 8 7 D5) 4 u := k4_4.ne (by decide)
  have k6_5 : Mn (dMul 8 8 7 D5) 6 (x2 + z2) := k6_4.ne (by decide)
  have k7_5 : Mn (dMul 8 8 7 D5) 7 (x2 - z2) := k7_4.ne (by decide)
  have k9_5 : Mn (dMul 8 8 7 D5) 9 ((x3 - z3) * (x2 + z2)) := k9_4.ne (by decide)
  generalize dMul 8 8 7 D5 = D6 at k8_5 k4_5 k6_5 k7_5 k9_5 ⊢
  have k6_6 : Mn (dMul 6 6 6 D6) 6 ((x2 + z2) * (x2 + z2)) := m_mul k6_5 k6_5
  have k4_6 : Mn (dMul 6 6 6 D6) 4 u := k4_5.ne (by decide)
  have k7_6 : Mn (dMul 6 6 6 D6) 7 (x2 - z2) := k7_5.ne (by decide)
  have k8_6 : Mn (dMul 6 6 6 D6) 8 ((x3 + z3) * (x2 - z2)) := k8_5.ne (by decide)
  have k9_6 : Mn (dMul 6 6 6 D6) 9 ((x3 - z3) * (x2 + z2)) := k9_5.ne (by decide)
  generalize dMul 6 6 6 D6 = D7 at k6_6 k4_6 k7_6 k8_6 k9_6 ⊢
  have k7_7 : Mn (dMul 7 7 7 D7) 7 ((x2 - z2) * (x2 - z2)) := m_mul k7_6 k7_6
  have k4_7 : Mn (dMul 7 7 7 D7) 4 u := k4_6.ne (by decide)
  have k6_7 : Mn (dMul 7 7 7 D7) 6 ((x2 + z2) * (x2 + z2)) := k6_6.ne (by decide)
  have k8_7 : Mn (dMul 7 7 7 D7) 8 ((x3 + z3) * (x2 - z2)) := k8_6.ne (by decide)
  have k9_7 : Mn (dMul 7 7 7 D7) 9 ((x3 - z3) * (x2 + z2)) := k9_6.ne (by decide)
  generalize dMul 7 7 7 D7 = D8 at k7_7 k4_7 k6_7 k8_7 k9_7 ⊢
  have k10_8 : Mn (dSub 10 6 7 D8) 10 (((x2 + z2) * (x2 + z2)) - ((x2 - z2) * (x2 - z2))) := m_sub k6_7 k7_7
  have k4_8 : Mn (dSub 10 6 7 D8) 4 u := k4_7.ne (by decide)
  have k6_8 : Mn (dSub 10 6 7 D8) 6 ((x2 + z2) * (x2 + z2)) := k6_7.ne (by decide)
  have k7_8 : Mn (dSub 10 6 7 D8) 7 ((x2 - z2) * (x2 - z2)) := k7_7.ne (by decide)
  have k8_8 : Mn (dSub 10 6 7 D8) 8 ((x3 + z3) * (x2 - z2)) := k8_7.ne (by decide)
  have k9_8 : Mn (dSub 10 6 7 D8) 9 ((x3 - z3) * (x2 + z2)) := k9_7.ne (by decide)
  generalize dSub 10 6 7 D8 = D9 at k10_8 k4_8 k6_8 k7_8 k8_8 k9_8 ⊢
  have k0_9 : Mn (dMul 0 6 7 D9) 0 (((x2 + z2) * (x2 + z2)) * ((x2 - z2) * (x2 - z2))) := m_mul k6_8 k7_8
  have k4_9 : Mn (dMul 0 6 7 D9) 4 u := k4_8.ne (by decide)
  have k6_9 : Mn (dMul 0 6 7 D9) 6 ((x2 + z2) * (x2 + z2)) := k6_8.ne (by decide)
  have k8_9 : Mn (dMul 0 6 7 D9) 8 ((x3 + z3) * (x2 - z2)) := k8_8.ne (by decide)
  have k9_9 : Mn (dMul 0 6 7 D9) 9 ((x3 - z3) * (x2 + z2)) := k9_8.ne (by decide)
  have k10_9 : Mn (dMul 0 6 7 D9) 10 (((x2 + z2) * (x2 + z2)) - ((x2 - z2) * (x2 - z2))) := k10_8.ne (by decide)
  generalize dMul 0 6 7 D9 = D10 at k0_9 k4_9 k6_9 k8_9 k9_9 k10_9 ⊢
  have k11_10 : Mn (dMuS 11 10 (nI 121665) D10) 11 ((((x2 + z2) * (x2 + z2)) - ((x2 - z2) * (x2 - z2))) * 121665) := m_muS (v := nI 121665) (by decide) k10_9
  have k0_10 : Mn (dMuS 11 10 (nI 121665) D10) 0 (((x2 + z2) * (x2 + z2)) * ((x2 - z2) * (x2 - z2))) := k0_9.ne (by decide)
  have k4_10 : Mn (dMuS 11 10 (nI 121665) D10) 4 u := k4_9.ne (by decide)
  have k6_10 : Mn (dMuS 11 10 (nI 121665) D10) 6 ((x2 + z2) * (x2 + z2)) := k6_9.ne (by decide)
  have k8_10 : Mn (dMuS 11 10 (nI 121665) D10) 8 ((x3 + z3) * (x2 - z2)) := k8_9.ne (by decide)
  have k9_10 : Mn (dMuS 11 10 (nI 121665) D10) 9 ((x3 - z3) * (x2 + z2)) := k9_9.ne (by decide)
  have k10_10 : Mn (dMuS 11 10 (nI 121665) D10) 10 (((x2 + z2) * (x2 + z2)) - ((x2 - z2) * (x2 - z2))) := k10_9.ne (by decide)
  generalize dMuS 11 10 (nI 121665) D10 = D11 at k11_10 k0_10 k4_10 k6_10 k8_10 k9_10 k10_10 ⊢
  have k11_11 : Mn (dAdd 11 11 6 D11) 11 (((((x2 + z2) * (x2 + z2)) - ((x2 - z2) * (x2 - z2))) * 121665) + ((x2 + z2) * (x2 + z2))) := m_add k11_10 k6_10
  have k0_11 : Mn (dAdd 11 11 6 D11) 0 (((x2 + z2) * (x2 + z2)) * ((x2 - z2) * (x2 - z2))) := k0_10.ne (by decide)
  have k4_11 : Mn (dAdd 11 11 6 D11) 4 u := k4_10.ne (by decide)
  have k8_11 : Mn (dAdd 11 11 6 D11) 8 ((x3 + z3) * (x2 - z2)) := k8_10.ne (by decide)
  have k9_11 : Mn (dAdd 11 11 6 D11) 9 ((x3 - z3) * (x2 + z2)) := k9_10.ne (by decide)
  have k10_11 : Mn (dAdd 11 11 6 D11) 10 (((x2 + z2) * (x2 + z2)) - ((x2 - z2) * (x2 - z2))) := k10_10.ne (by decide)
  generalize dAdd 11 11 6 D11 = D12 at k11_11 k0_11 k4_11 k8_11 k9_11 k10_11 ⊢
  have k1_12 : Mn (dMul 1 10 11 D12) 1 ((((x2 + z2) * (x2 + z2)) - ((x2 - z2) * (x2 - z2))) * (((((x2 + z2) * (x2 + z2)) - ((x2 - z2) * (x2 - z2))) * 121665) + ((x2 + z2) * (x2 + z2)))) := m_mul k10_11 k11_11
  have k0_12 : Mn (dMul 1 10 11 D12) 0 (((x2 + z2) * (x2 + z2)) * ((x2 - z2) * (x2 - z2))) := k0_11.ne (by decide)
  have k4_12 : Mn (dMul 1 10 11 D12) 4 u := k4_11.ne (by decide)
  have k8_12 : Mn (dMul 1 10 11 D12) 8 ((x3 + z3) * (x2 - z2)) := k8_11.ne (by decide)
  have k9_12 : Mn (dMul 1 10 11 D12) 9 ((x3 - z3) * (x2 + z2)) := k9_11.ne (by decide)
  generalize dMul 1 10 11 D12 = D13 at k1_12 k0_12 k4_12 k8_12 k9_12 ⊢
  have k11_13 : Mn (dAdd 11 9 8 D13) 11 (((x3 - z3) * (x2 + z2)) + ((x3 + z3) * (x2 - z2))) := m_add k9_12 k8_12
  have k0_13 : Mn (dAdd 11 9 8 D13) 0 (((x2 + z2) * (x2 + z2)) * ((x2 - z2) * (x2 - z2))) := k0_12.ne (by decide)
  have k1_13 : Mn (dAdd 11 9 8 D13) 1 ((((x2 + z2) * (x2 + z2)) - ((x2 - z2) * (x2 - z2))) * (((((x2 + z2) * (x2 + z2)) - ((x2 - z2) * (x2 - z2))) * 121665) + ((x2 + z2) * (x2 + z2)))) := k1_12.ne (by decide)
  have k4_13 : Mn (dAdd 11 9 8 D13) 4 u := k4_12.ne (by decide)
  have k8_13 : Mn (dAdd 11 9 8 D13) 8 ((x3 + z3) * (x2 - z2)) := k8_12.ne (by decide)
  have k9_13 : Mn (dAdd 11 9 8 D13) 9 ((x3 - z3) * (x2 + z2)) := k9_12.ne (by decide)
  generalize dAdd 11 9 8 D13 = D14 at k11_13 k0_13 k1_13 k4_13 k8_13 k9_13 ⊢
  have k2_14 : Mn (dMul 2 11 11 D14) 2 ((((x3 - z3) * (x2 + z2)) + ((x3 + z3) * (x2 - z2))) * (((x3 - z3) * (x2 + z2)) + ((x3 + z3) * (x2 - z2)))) := m_mul k11_13 k11_13
  have k0_14 : Mn (dMul 2 11 11 D14) 0 (((x2 + z2) * (x2 + z2)) * ((x2 - z2) * (x2 - z2))) := k0_13.ne (by decide)
  have k1_14 : Mn (dMul 2 11 11 D14) 1 ((((x2 + z2) * (x2 + z2)) - ((x2 - z2) * (x2 - z2))) * (((((x2 + z2) * (x2 + z2)) - ((x2 - z2) * (x2 - z2))) * 121665) + ((x2 + z2) * (x2 + z2)))) := k1_13.ne (by decide)
  have k4_14 : Mn (dMul 2 11 11 D14) 4 u := k4_13.ne (by decide)
  have k8_14 : Mn (dMul 2 11 11 D14) 8 ((x3 + z3) * (x2 - z2)) := k8_13.ne (by decide)
  have k9_14 : Mn (dMul 2 11 11 D14) 9 ((x3 - z3) * (x2 + z2)) := k9_13.ne (by decide)
  generalize dMul 2 11 11 D14 = D15 at k2_14 k0_14 k1_14 k4_14 k8_14 k9_14 ⊢
  have k11_15 : Mn (dSub 11 9 8 D15) 11 (((x3 - z3) * (x2 + z2)) - ((x3 + z3) * (x2 - z2))) := m_sub k9_14 k8_14
  have k0_15 : Mn (dSub 11 9 8 D15) 0 (((x2 + z2) * (x2 + z2)) * ((x2 - z2) * (x2 - z2))) := k0_14.ne (by decide)
  have k1_15 : Mn (dSub 11 9 8 D15) 1 ((((x2 + z2) * (x2 + z2)) - ((x2 - z2) * (x2 - z2))) * (((((x2 + z2) * (x2 + z2)) - ((x2 - z2) * (x2 - z2))) * 121665) + ((x2 + z2) * (x2 + z2)))) := k1_14.ne (by decide)
  have k2_15 : Mn (dSub 11 9 8 D15) 2 ((((x3 - z3) * (x2 + z2)) + ((x3 + z3) * (x2 - z2))) * (((x3 - z3) * (x2 + z2)) + ((x3 + z3) * (x2 - z2)))) := k2_14.ne (by decide)
  have k4_15 : Mn (dSub 11 9 8 D15) 4 u := k4_14.ne (by decide)
  generalize dSub 11 9 8 D15 = D16 at k11_15 k0_15 k1_15 k2_15 k4_15 ⊢
  have k11_16 : Mn (dMul 11 11 11 D16) 11 ((((x3 - z3) * (x2 + z2)) - ((x3 + z3) * (x2 - z2))) * (((x3 - z3) * (x2 + z2)) - ((x3 + z3) * (x2 - z2)))) := m_mul k11_15 k11_15
  have k0_16 : Mn (dMul 11 11 11 D16) 0 (((x2 + z2) * (x2 + z2)) * ((x2 - z2) * (x2 - z2))) := k0_15.ne (by decide)
  have k1_16 : Mn (dMul 11 11 11 D16) 1 ((((x2 + z2) * (x2 + z2)) - ((x2 - z2) * (x2 - z2))) * (((((x2 + z2) * (x2 + z2)) - ((x2 - z2) * (x2 - z2))) * 121665) + ((x2 + z2) * (x2 + z2)))) := k1_15.ne (by decide)
  have k2_16 : Mn (dMul 11 11 11 D16) 2 ((((x3 - z3) * (x2 + z2)) + ((x3 + z3) * (x2 - z2))) * (((x3 - z3) * (x2 + z2)) + ((x3 + z3) * (x2 - z2)))) := k2_15.ne (by decide)
  have k4_16 : Mn (dMul 11 11 11 D16) 4 u := k4_15.ne (by decide)
  generalize dMul 11 11 11 D16 = D17 at k11_16 k0_16 k1_16 k2_16 k4_16 ⊢
  have k3_17 : Mn (dMul 3 4 11 D17) 3 (u * ((((x3 - z3) * (x2 + z2)) - ((x3 + z3) * (x2 - z2))) * (((x3 - z3) * (x2 + z2)) - ((x3 + z3) * (x2 - z2))))) := m_mul k4_16 k11_16
  have k0_17 : Mn (dMul 3 4 11 D17) 0 (((x2 + z2) * (x2 + z2)) * ((x2 - z2) * (x2 - z2))) := k0_16.ne (by decide)
  have k1_17 : Mn (dMul 3 4 11 D17) 1 ((((x2 + z2) * (x2 + z2)) - ((x2 - z2) * (x2 - z2))) * (((((x2 + z2) * (x2 + z2)) - ((x2 - z2) * (x2 - z2))) * 121665) + ((x2 + z2) * (x2 + z2)))) := k1_16.ne (by decide)
  have k2_17 : Mn (dMul 3 4 11 D17) 2 ((((x3 - z3) * (x2 + z2)) + ((x3 + z3) * (x2 - z2))) * (((x3 - z3) * (x2 + z2)) + ((x3 + z3) * (x2 - z2)))) := k2_16.ne (by decide)
  have k4_17 : Mn (dMul 3 4 11 D17) 4 u := k4_16.ne (by decide)
  exact ⟨k0_17, k1_17.eq (Int.mul_comm _ _), k2_17, k3_17.eq (Int.mul_comm _ _), k4_17⟩
end
section
/-! ===== places changed; the bit; the power ===== -/
set_option maxRecDepth 100000
theorem x_0 (a b : Int64) : a ^^^ ((0 : Int64) &&& (a ^^^ b)) = a := by
  rw [Int64.zero_and, Int64.xor_zero]
theorem x_0' (a b : Int64) : b ^^^ ((0 : Int64) &&& (a ^^^ b)) = b := by
  rw [Int64.zero_and, Int64.xor_zero]
theorem x_m1 (a b : Int64) : a ^^^ ((-1 : Int64) &&& (a ^^^ b)) = b := by
  rw [Int64.neg_one_and, ← Int64.xor_assoc, Int64.xor_self, Int64.zero_xor]
theorem x_m1' (a b : Int64) : b ^^^ ((-1 : Int64) &&& (a ^^^ b)) = a := by
  rw [Int64.neg_one_and, Int64.xor_comm a b, ← Int64.xor_assoc, Int64.xor_self, Int64.zero_xor]
section SW
variable {P : Nat → Nat → Int64} {i b j : Nat} {x : Int}
theorem fl_self (f : Nat → Int64) : fl f 16 (fun j => f j) = f := by
  funext j
  by_cases h : j < 16
  · rw [fl_lt h]
  · rw [fl_ge h]
theorem cP_0 : cP i b 0 P = P := by
  unfold cP chP xch
  simp only [x_0, x_0', fl_self]
  rw [va_up_id, va_up_id]
theorem cP_i (h : i ≠ b) : cP i b (-1) P i = fl (P i) 16 (P b) := by
  unfold cP chP xch
  rw [va_up_ne _ _ h, va_up_self]
  simp only [x_m1]
theorem cP_b : cP i b (-1) P b = fl (P b) 16 (P i) := by
  unfold cP chP xch
  rw [va_up_self]
  simp only [x_m1']
theorem cP_ne {mask : Int64} (h1 : j ≠ i) (h2 : j ≠ b) : cP i b mask P j = P j := by
  unfold cP chP
  rw [va_up_ne _ _ h2, va_up_ne _ _ h1]
theorem cn_fl {P' : Nat → Nat → Int64} {t a : Nat} {g : Nat → Int64} (e : P' t = fl g 16 (P a)) (h : Cn P a x) : Cn P' t x := by
  have e' : ∀ j, j < 16 → iL (P' t) j = iL (P a) j := fun j hj => by
    show (P' t j).toInt = (P a j).toInt
    rw [e, fl_lt hj]
  exact ⟨Nice.congr e' h.1, by rw [vL_congr e']; exact h.2⟩
end SW
/-- both pairs change places -/
theorem sw_c {P : Nat → Nat → Int64} {x2 z2 x3 z3 u : Int} (h1 : Cn P 1 x2) (h2 : Cn P 2 z2) (h3 : Cn P 3 x3) (h4 : Cn P 4 z3) (h0 : Cn P 0 u) (hs : Small P) : Cn (cP 2 4 (-1) (cP 1 3 (-1) P)) 1 x3 ∧ Cn (cP 2 4 (-1) (cP 1 3 (-1) P)) 2 z3 ∧ Cn (cP 2 4 (-1) (cP 1 3 (-1) P)) 3 x2 ∧ Cn (cP 2 4 (-1) (cP 1 3 (-1) P)) 4 z2 ∧ Cn (cP 2 4 (-1) (cP 1 3 (-1) P)) 0 u ∧ Small (cP 2 4 (-1) (cP 1 3 (-1) P)) := by
  have k1 : Cn (cP 1 3 (-1) P) 1 x3 := cn_fl (cP_i (by decide)) h3
  have k3 : Cn (cP 1 3 (-1) P) 3 x2 := cn_fl cP_b h1
  have k2 : Cn (cP 1 3 (-1) P) 2 z2 := h2.of (cP_ne (by decide) (by decide))
  have k4 : Cn (cP 1 3 (-1) P) 4 z3 := h4.of (cP_ne (by decide) (by decide))
  have k0 : Cn (cP 1 3 (-1) P) 0 u := h0.of (cP_ne (by decide) (by decide))
  have ks : Small (cP 1 3 (-1) P) := hs.of (cP_ne (by decide) (by decide))
  generalize cP 1 3 (-1) P = Q at k1 k2 k3 k4 k0 ks
  exact ⟨k1.of (cP_ne (by decide) (by decide)), cn_fl (cP_i (by decide)) k4, k3.of (cP_ne (by decide) (by decide)), cn_fl cP_b k2, k0.of (cP_ne (by decide) (by decide)), ks.of (cP_ne (by decide) (by decide))⟩
theorem m_swp {D : Nat → Int32} {a b : Nat} {x y : Int} (hab : a ≠ b) (ha : a ≠ 12) (hb : b ≠ 12) (h1 : Mn D a x) (h2 : Mn D b y) : Mn (dSwp a b D) a y ∧ Mn (dSwp a b D) b x := by
  have k12 : Mn (dCpy 12 a D) 12 x := m_cpy h1
  have kb : Mn (dCpy 12 a D) b y := h2.ne hb
  have l12 : Mn (dCpy a b (dCpy 12 a D)) 12 x := k12.ne (Ne.symm ha)
  have la : Mn (dCpy a b (dCpy 12 a D)) a y := m_cpy kb
  exact ⟨la.ne hab, m_cpy l12⟩
theorem m_swn {D : Nat → Int32} {a b c : Nat} {x : Int} (h : Mn D c x) (h1 : c ≠ a) (h2 : c ≠ b) (h3 : c ≠ 12) : Mn (dSwp a b D) c x := by
  have k1 : Mn (dCpy 12 a D) c x := h.ne h3
  have k2 : Mn (dCpy a b (dCpy 12 a D)) c x := k1.ne h1
  exact k2.ne h2
theorem sw_m {D : Nat → Int32} {z : Int32} (hz : ¬ z = 0) {x2 z2 x3 z3 u : Int} (h1 : Mn D 0 x2) (h2 : Mn D 1 z2) (h3 : Mn D 2 x3) (h4 : Mn D 3 z3) (h0 : Mn D 4 u) : Mn (dChg z D) 0 x3 ∧ Mn (dChg z D) 1 z3 ∧ Mn (dChg z D) 2 x2 ∧ Mn (dChg z D) 3 z2 ∧ Mn (dChg z D) 4 u := by
  unfold dChg
  rw [if_neg hz]
  obtain ⟨a0, a2⟩ := m_swp (by decide) (by decide) (by decide) h1 h3
  have a1 := m_swn (a := 0) (b := 2) h2 (by decide) (by decide) (by decide)
  have a3 := m_swn (a := 0) (b := 2) h4 (by decide) (by decide) (by decide)
  have a4 := m_swn (a := 0) (b := 2) h0 (by decide) (by decide) (by decide)
  generalize dSwp 0 2 D = E at a0 a1 a2 a3 a4
  obtain ⟨b1, b3⟩ := m_swp (by decide) (by decide) (by decide) a1 a3
  exact ⟨m_swn a0 (by decide) (by decide) (by decide), b1, m_swn a2 (by decide) (by decide) (by decide), b3, m_swn a4 (by decide) (by decide) (by decide)⟩
/-! the bit -/
theorem bit_and1 (x : BitVec 64) : x &&& 1#64 = if x.getLsbD 0 then 1#64 else 0#64 := by
  have e : ∀ i, (1#64).getLsbD i = decide (i = 0) := fun i => by
    rw [BitVec.getLsbD_one]
    simp
  apply BitVec.eq_of_getLsbD_eq
  intro i hi
  rw [BitVec.getLsbD_and, e]
  by_cases k : x.getLsbD 0 = true
  · rw [if_pos k, e]
    by_cases c : i = 0
    · subst c; rw [k]; rfl
    · simp only [c, decide_false, Bool.and_false]
  · rw [if_neg k, BitVec.getLsbD_zero]
    by_cases c : i = 0
    · subst c
      have k : x.getLsbD 0 = false := by simpa using k
      rw [k]; rfl
    · simp only [c, decide_false, Bool.and_false]
theorem ub_1 (w : Int64) {s : Nat} (hs : s < 64) : ((w.toUInt64 >>> ((nI s).toInt64.toUInt64 &&& Int64.toUInt64 63)).toInt64 &&& 1) = if w.toBitVec.getLsbD s then 1 else 0 := by
  have e : ((nI s).toInt64.toUInt64 &&& Int64.toUInt64 63) = UInt64.ofNat s := by
    have : ∀ k, k < 64 → ((nI k).toInt64.toUInt64 &&& Int64.toUInt64 63) = UInt64.ofNat k := by decide +kernel
    exact this s hs
  rw [e]
  apply Int64.toBitVec_inj.mp
  show (w.toBitVec >>> (UInt64.ofNat s % 64).toBitVec) &&& 1#64 = _
  rw [bit_and1]
  have e2 : (UInt64.ofNat s % 64).toBitVec.toNat = s := by
    have : ∀ k, k < 64 → (UInt64.ofNat k % 64).toBitVec.toNat = k := by decide +kernel
    exact this s hs
  rw [BitVec.ushiftRight_eq', e2, BitVec.getLsbD_ushiftRight, Nat.add_zero]
  by_cases k : w.toBitVec.getLsbD s
  · rw [if_pos k, if_pos k]; rfl
  · rw [if_neg k, if_neg k]; rfl
theorem sb_1 (w : Int64) {s : Nat} (hs : s < 64) : ((w >>> ((nI s).toInt64 &&& 63)) &&& 1) = if w.toBitVec.getLsbD s then 1 else 0 := by
  have e : (((nI s).toInt64 &&& 63).toBitVec.smod 64).toNat = s := by
    have : ∀ k, k < 64 → (((nI k).toInt64 &&& 63).toBitVec.smod 64).toNat = k := by decide +kernel
    exact this s hs
  apply Int64.toBitVec_inj.mp
  show (BitVec.sshiftRight' w.toBitVec (((nI s).toInt64 &&& 63).toBitVec.smod 64)) &&& 1#64 = _
  rw [bit_and1, BitVec.sshiftRight_eq', e, BitVec.getLsbD_sshiftRight]
  simp only [Nat.add_zero, hs, if_true]
  by_cases k : w.toBitVec.getLsbD s
  · simp [k]
  · simp [k]
theorem cla_bit (sc : Nat → Int64) {n : Nat} (hn : n < 255) : (claF sc (n / 64)).toBitVec.getLsbD (n % 64) = if n < 3 then false else if n = 254 then true else (sc (n / 64)).toBitVec.getLsbD (n % 64) := by
  unfold claF
  have k8 : ∀ k, k < 64 → (-8 : Int64).toBitVec.getLsbD k = decide (3 ≤ k) := by decide +kernel
  have kx : ∀ k, k < 64 → (9223372036854775807 : Int64).toBitVec.getLsbD k = decide (k < 63) := by decide +kernel
  have ky : ∀ k, k < 64 → (4611686018427387904 : Int64).toBitVec.getLsbD k = decide (k = 62) := by decide +kernel
  by_cases c0 : n / 64 = 0
  · rw [if_pos c0, c0]
    show ((sc 0).toBitVec &&& (-8 : Int64).toBitVec).getLsbD (n % 64) = _
    rw [BitVec.getLsbD_and, k8 _ (by omega), show n % 64 = n by omega]
    by_cases c : n < 3
    · rw [if_pos c]; simp; omega
    · rw [if_neg c, if_neg (by omega)]
      simp; omega
  · rw [if_neg c0]
    by_cases c3 : n / 64 = 3
    · rw [if_pos c3, c3]
      show (((sc 3).toBitVec &&& (9223372036854775807 : Int64).toBitVec) ||| (4611686018427387904 : Int64).toBitVec).getLsbD (n % 64) = _
      rw [BitVec.getLsbD_or, BitVec.getLsbD_and, kx _ (by omega), ky _ (by omega), if_neg (by omega)]
      by_cases c : n = 254
      · subst c
        simp
      · rw [if_neg c]
        have e1 : n % 64 < 63 := by omega
        have e2 : n % 64 ≠ 62 := by omega
        simp [e1, e2]
    · rw [if_neg c3, if_neg (by omega), if_neg (by omega)]
theorem mk_bt (sc : Nat → Int64) {n : Nat} (hn : n < 255) : (mkF sc n = 0 ∧ btF sc (254 - n) = 0) ∨ (mkF sc n = -1 ∧ ¬ btF sc (254 - n) = 0) := by
  have hb : 254 - n < 255 := by omega
  unfold mkF btF
  generalize 254 - n = b at hb
  rw [show b / 2 ^ 6 = b / 64 from rfl, show b % 2 ^ 6 = b % 64 from rfl, ub_1 _ (by omega), cla_bit sc hb]
  by_cases c3 : b < 3
  · left
    rw [if_pos c3, if_pos (Or.inl c3)]
    decide
  · rw [if_neg c3, if_neg (show ¬ (b < 3 ∨ b = 255) by omega)]
    by_cases c4 : b = 254
    · right
      rw [if_pos c4, if_pos (Or.inl c4)]
      decide
    · rw [if_neg c4, sb_1 _ (by omega)]
      by_cases k : (sc (b / 64)).toBitVec.getLsbD (b % 64) = true
      · right
        rw [if_pos k, if_pos (Or.inr rfl)]
        decide
      · left
        rw [if_neg k, if_neg (fun h9 => h9.elim c4 (fun h8 => absurd h8 (by decide)))]
        decide
/-- one step keeps the ladder -/
theorem lad_step {P : Nat → Nat → Int64} {D : Nat → Int32} {pt : Nat → Int64} (sc : Nat → Int64) {n : Nat} (hn : n < 255) (h : Lad P D pt) (hs : Small P) : Lad (stepP (mkF sc n) P) (mStep (btF sc (254 - n)) D) pt ∧ Small (stepP (mkF sc n) P) := by
  obtain ⟨x2, z2, x3, z3, h1, h2, h3, h4, h5, h6⟩ := h
  rcases mk_bt sc hn with ⟨e1, e2⟩ | ⟨e1, e2⟩
  · rw [e1, e2, step_core, mstep_core, cP_0, cP_0, cP_0, cP_0]
    have hd : ∀ E : Nat → Int32, dChg 0 E = E := fun E => if_pos rfl
    rw [hd, hd]
    obtain ⟨a1, a2, a3, a4, a0, as⟩ := core_c h1.1 h2.1 h3.1 h4.1 h5 hs
    obtain ⟨b1, b2, b3, b4, b0⟩ := core_m h1.2 h2.2 h3.2 h4.2 h6
    exact ⟨⟨_, _, _, _, ⟨a1, b1⟩, ⟨a2, b2⟩, ⟨a3, b3⟩, ⟨a4, b4⟩, a0, b0⟩, as⟩
  · rw [e1, step_core, mstep_core]
    obtain ⟨p1, p2, p3, p4, p0, ps⟩ := sw_c h1.1 h2.1 h3.1 h4.1 h5 hs
    obtain ⟨q1, q2, q3, q4, q0⟩ := sw_m e2 h1.2 h2.2 h3.2 h4.2 h6
    obtain ⟨a1, a2, a3, a4, a0, as⟩ := core_c p1 p2 p3 p4 p0 ps
    obtain ⟨b1, b2, b3, b4, b0⟩ := core_m q1 q2 q3 q4 q0
    obtain ⟨r1, r2, r3, r4, r0, rs⟩ := sw_c a1 a2 a3 a4 a0 as
    obtain ⟨s1, s2, s3, s4, s0⟩ := sw_m e2 b1 b2 b3 b4 b0
    exact ⟨⟨_, _, _, _, ⟨r1, s1⟩, ⟨r2, s2⟩, ⟨r3, s3⟩, ⟨r4, s4⟩, r0, s0⟩, rs⟩
/-! the power -/
def pw (v : Int) : Nat → Int
  | 0 => v
  | z + 1 => if 253 - z = 2 ∨ 253 - z = 4 then pw v z * pw v z else pw v z * pw v z * v
theorem inv_ok {x g : Nat → Int64} {v : Int} (hx : Nice (iL x)) (hv : cg (vL (iL x) 16) v) : ∀ z, z ≤ 254 → Nice (iL (it (invSt x) z (fl g 16 x))) ∧ cg (vL (iL (it (invSt x) z (fl g 16 x))) 16) (pw v z)
  | 0, _ => by
    have e : ∀ j, j < 16 → iL (fl g 16 x) j = iL x j := fun j hj => by
      show (fl g 16 x j).toInt = (x j).toInt
      rw [fl_lt hj]
    rw [it_0]
    exact ⟨Nice.congr e hx, by rw [vL_congr e]; exact hv⟩
  | z + 1, hz => by
    obtain ⟨h1, h2⟩ := inv_ok hx hv z (by omega)
    rw [it_s]
    generalize it (invSt x) z (fl g 16 x) = f at h1 h2
    have b1 := h1.bd.le (show (65573 : Int) ≤ 131146 by decide)
    have b2 := hx.bd.le (show (65573 : Int) ≤ 131146 by decide)
    obtain ⟨m1, m2⟩ := mul_ok f b1 b1
    show Nice (iL (invSt x z f)) ∧ cg _ (if 253 - z = 2 ∨ 253 - z = 4 then pw v z * pw v z else pw v z * pw v z * v)
    by_cases c : 253 - z = 2 ∨ 253 - z = 4
    · rw [inv_y c, if_pos c]
      exact ⟨m1, cg_tr m2 (cg_ml h2 h2)⟩
    · rw [inv_n c, if_neg c]
      obtain ⟨n1, n2⟩ := mul_ok (mulF f f f) (m1.bd.le (show (65573 : Int) ≤ 131146 by decide)) b2
      exact ⟨n1, cg_tr n2 (cg_ml (cg_tr m2 (cg_ml h2 h2)) hv)⟩
def qw (v : Int) : Nat → Int
  | 0 => 1
  | z + 1 => if 5 ≤ 254 - z ∨ 254 - z = 3 ∨ 254 - z < 2 then qw v z * qw v z * v else qw v z * qw v z
theorem qw_pw (v : Int) : ∀ z, z ≤ 254 → qw v (z + 1) = pw v z
  | 0, _ => by
    show (if 5 ≤ 254 - 0 ∨ 254 - 0 = 3 ∨ 254 - 0 < 2 then (1 : Int) * 1 * v else 1 * 1) = v
    rw [if_pos (Or.inl (by decide))]
    omega
  | z + 1, hz => by
    have ih := qw_pw v z (by omega)
    show (if 5 ≤ 254 - (z + 1) ∨ 254 - (z + 1) = 3 ∨ 254 - (z + 1) < 2 then qw v (z + 1) * qw v (z + 1) * v else qw v (z + 1) * qw v (z + 1)) = (if 253 - z = 2 ∨ 253 - z = 4 then pw v z * pw v z else pw v z * pw v z * v)
    rw [ih]
    by_cases c : 253 - z = 2 ∨ 253 - z = 4
    · rw [if_pos c, if_neg (by omega)]
    · rw [if_neg c, if_pos (by omega)]
theorem fin_m {D : Nat → Int32} {v : Int} (h1 : Mn D 1 v) (h6 : Mn D 6 1) : ∀ z, z ≤ 255 → Mn (it mFinSt z D) 6 (qw v z) ∧ ∀ a x, a ≠ 6 → Mn D a x → Mn (it mFinSt z D) a x
  | 0, _ => ⟨h6, fun a x _ h => h⟩
  | z + 1, hz => by
    obtain ⟨k1, k2⟩ := fin_m h1 h6 z (by omega)
    have k3 := k2 1 v (by decide) h1
    rw [it_s]
    generalize it mFinSt z D = E at k1 k2 k3
    have m1 : Mn (dMul 6 6 6 E) 6 (qw v z * qw v z) := m_mul k1 k1
    have m3 : Mn (dMul 6 6 6 E) 1 v := k3.ne (by decide)
    show Mn (mFinSt z E) 6 (if 5 ≤ 254 - z ∨ 254 - z = 3 ∨ 254 - z < 2 then qw v z * qw v z * v else qw v z * qw v z) ∧ _
    by_cases c : 5 ≤ 254 - z ∨ 254 - z = 3 ∨ 254 - z < 2
    · rw [mf_y c, if_pos c]
      refine ⟨m_mul m1 m3, fun a x ha hx => ?_⟩
      have := k2 a x ha hx
      have : Mn (dMul 6 6 6 E) a x := this.ne ha
      exact this.ne ha
    · rw [mf_n c, if_neg c]
      exact ⟨m1, fun a x ha hx => (k2 a x ha hx).ne ha⟩
end
section
/-! ===== what is shown of a number: its longs, whether it is nothing ===== -/
set_option maxRecDepth 100000
theorem lo_bit {y : Int64} (h1 : 0 ≤ y.toInt) (h2 : y.toInt ≤ 65535) {i : Nat} (hi : 16 ≤ i) : y.toBitVec.getLsbD i = false := by
  have e : y.toBitVec.toNat < 2 ^ 16 := by
    have h3 : y.toBitVec.toInt = y.toInt := rfl
    have h4 := y.toBitVec.isLt
    rw [BitVec.toInt_eq_toNat_cond] at h3
    split at h3 <;> omega
  show y.toBitVec.toNat.testBit i = false
  exact Nat.testBit_lt_two_pow (Nat.lt_of_lt_of_le e (Nat.pow_le_pow_right (by decide) hi))
theorem or_add (v : Int64) {y : Int64} (h1 : 0 ≤ y.toInt) (h2 : y.toInt ≤ 65535) : v <<< (16 : Int64) ||| y = v * 65536 + y := by
  rw [← l_shl16m]
  apply Int64.toBitVec_inj.mp
  show (v <<< (16 : Int64)).toBitVec ||| y.toBitVec = (v <<< (16 : Int64)).toBitVec + y.toBitVec
  rw [BitVec.add_eq_or_of_and_eq_zero]
  have e : (v <<< (16 : Int64)).toBitVec = v.toBitVec <<< 16 := by
    show v.toBitVec <<< ((16 : Int64).toBitVec.smod 64) = _
    rw [show ((16 : Int64).toBitVec.smod 64) = 16#64 by decide, BitVec.shiftLeft_eq']
    rfl
  rw [e]
  apply BitVec.eq_of_getLsbD_eq
  intro i hi
  rw [BitVec.getLsbD_and, BitVec.getLsbD_shiftLeft, BitVec.getLsbD_zero]
  by_cases c : i < 16
  · simp [c]
  · rw [lo_bit h1 h2 (by omega)]
    simp
theorem at_lo {f : Nat → Int64} {D : Nat → Int32} {a q : Nat} (h : ∀ j, j < 16 → (f j).toInt = iD D a j) (hc : Can (iD D a)) (hq : q < 4) : ∀ m, m ≤ 4 → atF f q m = loF D a q m
  | 0, _ => rfl
  | m + 1, hm => by
    have ih := at_lo h hc hq m (by omega)
    show atF f q m <<< (16 : Int64) ||| f (4 * q + (3 - m)) = loF D a q m * (65536 : Int64) + (D (16 * a + 4 * q + (3 - m))).toInt64
    have hj := h (4 * q + (3 - m)) (by omega)
    have hc := hc (4 * q + (3 - m)) (by omega)
    have e : (D (16 * a + 4 * q + (3 - m))).toInt64 = f (4 * q + (3 - m)) := by
      apply Int64.toInt_inj.mp
      rw [Int32.toInt_toInt64, hj, Nat.add_assoc]
      rfl
    rw [or_add _ (by rw [hj]; exact hc.1) (by rw [hj]; exact hc.2), ih, e]
section DG
variable {P : Nat → Nat → Int64} {D : Nat → Int32} {x y : Int} {i a b : Nat}
theorem cc_mn (h1 : Cc P i x) (h2 : Mn D a x) : ∀ j, j < 16 → (P i j).toInt = iD D a j := by
  have e : vL (iL (P i)) 16 = vL (iD D a) 16 := cg_eq (cg_tr h1.2.2 (cg_sy h2.2.2)) (vL_lt h1.1).1 h1.2.1 (vL_lt h2.1).1 h2.2.1
  exact vL_inj h1.1 h2.1 e
theorem cc_at (h1 : Cc P i x) (h2 : Mn D a x) {q : Nat} (hq : q < 4) : atF (P i) q 4 = loF D a q 4 := at_lo (cc_mn h1 h2) h2.1 hq 4 (by omega)
theorem or_z (f : Nat → Int64) : ∀ n, orF f n = 0 ↔ ∀ j, j < n → f j = 0
  | 0 => ⟨fun _ j hj => absurd hj (Nat.not_lt_zero j), fun _ => rfl⟩
  | n + 1 => by
    have ih := or_z f n
    have e : orF f (n + 1) = orF f n ||| f n := rfl
    have ez : (orF f n ||| f n = 0) ↔ (orF f n = 0 ∧ f n = 0) := by
      rw [← Int64.toBitVec_inj, ← Int64.toBitVec_inj, ← Int64.toBitVec_inj]
      show (orF f n).toBitVec ||| (f n).toBitVec = 0#64 ↔ (orF f n).toBitVec = 0#64 ∧ (f n).toBitVec = 0#64
      exact BitVec.or_eq_zero_iff
    rw [e, ez, ih]
    constructor
    · intro h j hj
      by_cases c : j = n
      · rw [c]; exact h.2
      · exact h.1 j (by omega)
    · intro h
      exact ⟨fun j hj => h j (by omega), h n (by omega)⟩
theorem zr_z (D : Nat → Int32) (a : Nat) : ∀ n, (¬ zrF D a n = 0) ↔ ∀ j, j < n → D (16 * a + j) = 0
  | 0 => ⟨fun _ j hj => absurd hj (Nat.not_lt_zero j), fun _ => by unfold zrF; decide⟩
  | n + 1 => by
    have ih := zr_z D a n
    unfold zrF
    by_cases c : zrF D a n = 0
    · rw [if_pos c]
      constructor
      · intro h; exact absurd rfl h
      · intro h
        exact absurd c (ih.mpr (fun j hj => h j (by omega)))
    · rw [if_neg c]
      by_cases k : D (16 * a + n) = 0
      · rw [if_pos k]
        constructor
        · intro _ j hj
          by_cases e : j = n
          · rw [e]; exact k
          · exact ih.mp c j (by omega)
        · intro _; decide
      · rw [if_neg k]
        constructor
        · intro h; exact absurd rfl h
        · intro h; exact absurd (h n (by omega)) k
theorem sm_z (D : Nat → Int32) (a b : Nat) : ∀ n, (¬ smF D a b n = 0) ↔ ∀ j, j < n → D (16 * a + j) = D (16 * b + j)
  | 0 => ⟨fun _ j hj => absurd hj (Nat.not_lt_zero j), fun _ => by unfold smF; decide⟩
  | n + 1 => by
    have ih := sm_z D a b n
    unfold smF
    by_cases c : smF D a b n = 0
    · rw [if_pos c]
      constructor
      · intro h; exact absurd rfl h
      · intro h
        exact absurd c (ih.mpr (fun j hj => h j (by omega)))
    · rw [if_neg c]
      by_cases k : D (16 * a + n) = D (16 * b + n)
      · rw [if_pos k]
        constructor
        · intro _ j hj
          by_cases e : j = n
          · rw [e]; exact k
          · exact ih.mp c j (by omega)
        · intro _; decide
      · rw [if_neg k]
        constructor
        · intro h; exact absurd rfl h
        · intro h; exact absurd (h n (by omega)) k
theorem pP_pos : 0 < pP := by unfold pP; decide
theorem z_v {f : Nat → Int} (h : Can f) : (∀ j, j < 16 → f j = 0) ↔ vL f 16 = 0 := by
  constructor
  · intro h9
    rw [vL_congr (g := fun _ => 0) h9, vL_zero]
  · intro h9
    exact vL_inj h (g := fun _ => 0) (fun _ _ => ⟨by decide, by decide⟩) (by rw [h9, vL_zero])
theorem v_cg {v x : Int} (h1 : 0 ≤ v) (h2 : v < pP) (h3 : cg v x) : v = 0 ↔ cg x 0 := by
  constructor
  · intro h
    rw [h] at h3
    exact cg_sy h3
  · intro h
    exact cg_eq (cg_tr h3 h) h1 h2 (by decide) pP_pos
theorem cc_z (h : Cc P i x) : orF (P i) 16 = 0 ↔ cg x 0 := by
  rw [or_z, ← v_cg (vL_lt h.1).1 h.2.1 h.2.2, ← z_v h.1]
  constructor
  · intro h9 j hj
    show (P i j).toInt = 0
    rw [h9 j hj]
    rfl
  · intro h9 j hj
    apply Int64.toInt_inj.mp
    rw [show (P i j).toInt = 0 from h9 j hj]
    rfl
theorem mn_z (h : Mn D a x) : (¬ zrF D a 16 = 0) ↔ cg x 0 := by
  rw [zr_z, ← v_cg (vL_lt h.1).1 h.2.1 h.2.2, ← z_v h.1]
  constructor
  · intro h9 j hj
    show (D (16 * a + j)).toInt = 0
    rw [h9 j hj]
    rfl
  · intro h9 j hj
    apply Int32.toInt_inj.mp
    rw [show (D (16 * a + j)).toInt = 0 from h9 j hj]
    rfl
theorem mn_s (h1 : Mn D a x) (h2 : Mn D b y) : (¬ smF D a b 16 = 0) ↔ cg x y := by
  rw [sm_z]
  constructor
  · intro h9
    have e : vL (iD D a) 16 = vL (iD D b) 16 := vL_congr (fun j hj => by
      show (D (16 * a + j)).toInt = (D (16 * b + j)).toInt
      rw [h9 j hj])
    have h3 := h2.2.2
    rw [← e] at h3
    exact cg_tr (cg_sy h1.2.2) h3
  · intro h9 j hj
    have e : vL (iD D a) 16 = vL (iD D b) 16 := cg_eq (cg_tr h1.2.2 (cg_tr h9 (cg_sy h2.2.2))) (vL_lt h1.1).1 h1.2.1 (vL_lt h2.1).1 h2.2.1
    apply Int32.toInt_inj.mp
    exact vL_inj h1.1 h2.1 e j hj
end DG
end
section
/-! ===== INV is kept, and the answers agree ===== -/
set_option maxRecDepth 100000
theorem inv_start {P : Nat → Nat → Int64} {D : Nat → Int32} {sc pt : Nat → Int64} {ph : Int32} {a : Nat} (h : INV P D sc pt ph a) (h0 : ph = 0) : INV (startP pt P) (mStart pt D) sc pt (nI 1) 0 := by
  have i1 : (nI 1).toInt64.toInt = 1 := by decide
  have i0 : (nI 0).toInt64.toInt = 0 := by decide
  have j1 : (nI 1).toInt = 1 := by decide
  have j0 : (nI 0).toInt = 0 := by decide
  refine ⟨by decide, Or.inr (Or.inl rfl), ?_, fun _ => ⟨1, 0, uV pt, 1, ?_, ?_, ?_, ?_, ?_, ?_⟩, fun h9 => absurd h9 (by decide)⟩
  · refine h.2.2.1.of ?_
    unfold startP
    rw [ne_set (by decide), ne_tk (by decide), ne_set (by decide), ne_set (by decide), ne_tl (by decide)]
  · refine ⟨?_, ?_⟩
    · have k : Cn (setP 1 (nI 1).toInt64 (tlP 0 pt P)) 1 1 := (c_set (by decide)).eq i1
      exact (((k.of (ne_set (by decide))).of (ne_tk (by decide))).of (ne_set (by decide)))
    · have k : Mn (dSet 0 (nI 1) (dMkU pt D)) 0 1 := (m_set (by decide)).eq j1
      have k2 : Mn (dSet 1 (nI 0) (dSet 0 (nI 1) (dMkU pt D))) 0 1 := k.ne (by decide)
      have k3 : Mn (dCpy 2 4 (dSet 1 (nI 0) (dSet 0 (nI 1) (dMkU pt D)))) 0 1 := k2.ne (by decide)
      exact k3.ne (by decide)
  · refine ⟨?_, ?_⟩
    · have k : Cn (setP 2 (nI 0).toInt64 (setP 1 (nI 1).toInt64 (tlP 0 pt P))) 2 0 := (c_set (by decide)).eq i0
      exact ((k.of (ne_tk (by decide))).of (ne_set (by decide)))
    · have k2 : Mn (dSet 1 (nI 0) (dSet 0 (nI 1) (dMkU pt D))) 1 0 := (m_set (by decide)).eq j0
      have k3 : Mn (dCpy 2 4 (dSet 1 (nI 0) (dSet 0 (nI 1) (dMkU pt D)))) 1 0 := k2.ne (by decide)
      exact k3.ne (by decide)
  · refine ⟨?_, ?_⟩
    · have k : Cn (tlP 0 pt P) 0 (uV pt) := c_tl
      have k2 : Cn (setP 2 (nI 0).toInt64 (setP 1 (nI 1).toInt64 (tlP 0 pt P))) 0 (uV pt) := (k.of (ne_set (by decide))).of (ne_set (by decide))
      have k3 : Cn (tkP 3 0 (setP 2 (nI 0).toInt64 (setP 1 (nI 1).toInt64 (tlP 0 pt P)))) 3 (uV pt) := c_tk k2
      exact k3.of (ne_set (by decide))
    · have k : Mn (dMkU pt D) 4 (uV pt) := m_mkU
      have k1 : Mn (dSet 0 (nI 1) (dMkU pt D)) 4 (uV pt) := k.ne (by decide)
      have k2 : Mn (dSet 1 (nI 0) (dSet 0 (nI 1) (dMkU pt D))) 4 (uV pt) := k1.ne (by decide)
      have k3 : Mn (dCpy 2 4 (dSet 1 (nI 0) (dSet 0 (nI 1) (dMkU pt D)))) 2 (uV pt) := m_cpy k2
      exact k3.ne (by decide)
  · exact ⟨(c_set (by decide)).eq i1, (m_set (by decide)).eq j1⟩
  · have k : Cn (tlP 0 pt P) 0 (uV pt) := c_tl
    have k2 : Cn (setP 2 (nI 0).toInt64 (setP 1 (nI 1).toInt64 (tlP 0 pt P))) 0 (uV pt) := (k.of (ne_set (by decide))).of (ne_set (by decide))
    exact (k2.of (ne_tk (by decide))).of (ne_set (by decide))
  · have k : Mn (dMkU pt D) 4 (uV pt) := m_mkU
    have k1 : Mn (dSet 0 (nI 1) (dMkU pt D)) 4 (uV pt) := k.ne (by decide)
    have k2 : Mn (dSet 1 (nI 0) (dSet 0 (nI 1) (dMkU pt D))) 4 (uV pt) := k1.ne (by decide)
    have k3 : Mn (dCpy 2 4 (dSet 1 (nI 0) (dSet 0 (nI 1) (dMkU pt D)))) 4 (uV pt) := k2.ne (by decide)
    exact k3.ne (by decide)
theorem inv_steps {P : Nat → Nat → Int64} {D : Nat → Int32} {sc pt : Nat → Int64} {a : Nat} (h : INV P D sc pt (nI 1) a) (j : Nat) (hj : a + j ≤ 255) : INV (stepsP sc a j P) (mSteps sc a j D) sc pt (nI 1) (a + j) := by
  induction j with
  | zero => exact h
  | succ j ih =>
    have k := ih (by omega)
    have e1 : stepsP sc a (j + 1) P = stepP (mkF sc (a + j)) (stepsP sc a j P) := rfl
    have e2 : mSteps sc a (j + 1) D = mStep (btF sc (254 - (a + j))) (mSteps sc a j D) := rfl
    rw [e1, e2]
    obtain ⟨s1, s2⟩ := lad_step sc (show a + j < 255 by omega) (k.2.2.2.1 (by decide)) k.2.2.1
    exact ⟨by omega, Or.inr (Or.inl rfl), s2, fun _ => s1, fun h9 => absurd h9 (by decide)⟩
theorem ne_inv {a t b j : Nat} {P : Nat → Nat → Int64} (h1 : j ≠ t) (h2 : j ≠ b) : invP a t b P j = P j := by
  unfold invP
  rw [va_up_ne _ _ h1, va_up_ne _ _ h2]
theorem inv_fin {P : Nat → Nat → Int64} {D : Nat → Int32} {sc pt : Nat → Int64} {a : Nat} (h : INV P D sc pt (nI 1) a) : INV (finP P) (mFin D) sc pt (nI 2) a := by
  obtain ⟨x2, z2, x3, z3, h1, h2, h3, h4, h5, h6⟩ := h.2.2.2.1 (by decide)
  have ce : ∀ j, j ≠ 11 → j ≠ 5 → finP P j = P j := fun j n1 n2 => by
    unfold finP
    rw [ne_cl n1, ne_m n1, ne_inv n1 n2]
  have ki : Cn (invP 2 11 5 P) 11 (pw z2 254) := by
    obtain ⟨k1, k2⟩ := inv_ok (g := P 5) h2.1.1 h2.1.2 254 (by omega)
    have e : ∀ j, j < 16 → iL (invP 2 11 5 P 11) j = iL (it (invSt (P 2)) 254 (fl (P 5) 16 (P 2))) j := fun j hj => by
      show (invP 2 11 5 P 11 j).toInt = _
      unfold invP
      rw [va_up_self, fl_lt hj]
      rfl
    exact ⟨Nice.congr e k1, by rw [vL_congr e]; exact k2⟩
  have kx : Cn (invP 2 11 5 P) 1 x2 := h1.1.of (ne_inv (by decide) (by decide))
  have km : Cn (mP 11 1 11 (invP 2 11 5 P)) 11 (pw z2 254 * x2) := c_mul ki.cl kx.cl
  have kc : Cc (finP P) 11 (pw z2 254 * x2) := km.close
  have d6 : Mn (dSet 6 (nI 1) D) 6 1 := (m_set (by decide)).eq (by decide)
  have dn : ∀ a x, a ≠ 6 → Mn D a x → Mn (dSet 6 (nI 1) D) a x := fun a x hx hm => hm.ne hx
  obtain ⟨f6, fn⟩ := fin_m (dn 1 z2 (by decide) h2.2) d6 255 (by omega)
  have fa : ∀ a x, a ≠ 6 → a ≠ 5 → Mn D a x → Mn (mFin D) a x := fun a x n1 n2 hm => (fn a x n1 (dn a x n1 hm)).ne n2
  have m5 : Mn (mFin D) 5 (x2 * qw z2 255) := m_mul (fn 0 x2 (by decide) (dn 0 x2 (by decide) h1.2)) f6
  refine ⟨h.1, Or.inr (Or.inr rfl), h.2.2.1.of (ce 10 (by decide) (by decide)), fun _ => ⟨x2, z2, x3, z3, ?_, ?_, ?_, ?_, ?_, ?_⟩, fun _ => ⟨_, kc, m5.eq ?_⟩⟩
  · exact ⟨h1.1.of (ce 1 (by decide) (by decide)), fa 0 x2 (by decide) (by decide) h1.2⟩
  · exact ⟨h2.1.of (ce 2 (by decide) (by decide)), fa 1 z2 (by decide) (by decide) h2.2⟩
  · exact ⟨h3.1.of (ce 3 (by decide) (by decide)), fa 2 x3 (by decide) (by decide) h3.2⟩
  · exact ⟨h4.1.of (ce 4 (by decide) (by decide)), fa 3 z3 (by decide) (by decide) h4.2⟩
  · exact h5.of (ce 0 (by decide) (by decide))
  · exact fa 4 _ (by decide) (by decide) h6
  · rw [qw_pw z2 254 (by omega), Int.mul_comm]
theorem res_at {P : Nat → Nat → Int64} {D : Nat → Int32} (h : Res P D) {q : Nat} (hq : q < 4) : atF (P 11) q 4 = loF D 5 q 4 := by
  obtain ⟨r, h1, h2⟩ := h
  exact cc_at h1 h2 hq
theorem sh_cc {P : Nat → Nat → Int64} {D : Nat → Int32} {w a q : Nat} {x : Int} (h1 : Cn P w x) (h2 : Mn D a x) (hq : q < 4) : shF w q P = loF D a q 4 := by
  have k : Cn (tkP 12 w P) 12 x := c_tk h1
  exact cc_at k.close h2 hq
theorem lad_sh {P : Nat → Nat → Int64} {D : Nat → Int32} {pt : Nat → Int64} (h : Lad P D pt) {v q : Nat} (hv : v < 5) (hq : q < 4) : shF (whN v) q P = loF D v q 4 := by
  obtain ⟨x2, z2, x3, z3, h1, h2, h3, h4, h5, h6⟩ := h
  rcases (show v = 0 ∨ v = 1 ∨ v = 2 ∨ v = 3 ∨ v = 4 by omega) with rfl | rfl | rfl | rfl | rfl
  · exact sh_cc h1.1 h1.2 hq
  · exact sh_cc h2.1 h2.2 hq
  · exact sh_cc h3.1 h3.2 hq
  · exact sh_cc h4.1 h4.2 hq
  · exact sh_cc h5 h6 hq
theorem td_cc {P : Nat → Nat → Int64} {D : Nat → Int32} {pt : Nat → Int64} (h : Mn D 4 (uV pt)) {q : Nat} (hq : q < 4) : tdF q pt P = loF D 4 q 4 := by
  have k : Cn (tlP 12 pt P) 12 (uV pt) := c_tl
  exact cc_at k.close h hq
theorem lad_td {P : Nat → Nat → Int64} {D : Nat → Int32} {pt : Nat → Int64} (h : Lad P D pt) {q : Nat} (hq : q < 4) : tdF q pt P = loF D 4 q 4 := by
  obtain ⟨x2, z2, x3, z3, h1, h2, h3, h4, h5, h6⟩ := h
  exact td_cc h6 hq
theorem mku_td {P : Nat → Nat → Int64} {D : Nat → Int32} {pt : Nat → Int64} {q : Nat} (hq : q < 4) : tdF q pt P = loF (dMkU pt D) 4 q 4 := td_cc m_mkU hq
theorem clb (x : Int64) : x &&& 9223372036854775807 ||| 4611686018427387904 = (x &&& 4611686018427387903) ||| 4611686018427387904 := by
  have kx : ∀ k, k < 64 → (9223372036854775807 : Int64).toBitVec.getLsbD k = decide (k < 63) := by decide +kernel
  have ky : ∀ k, k < 64 → (4611686018427387904 : Int64).toBitVec.getLsbD k = decide (k = 62) := by decide +kernel
  have kz : ∀ k, k < 64 → (4611686018427387903 : Int64).toBitVec.getLsbD k = decide (k < 62) := by decide +kernel
  apply Int64.toBitVec_inj.mp
  show (x.toBitVec &&& (9223372036854775807 : Int64).toBitVec) ||| (4611686018427387904 : Int64).toBitVec = (x.toBitVec &&& (4611686018427387903 : Int64).toBitVec) ||| (4611686018427387904 : Int64).toBitVec
  apply BitVec.eq_of_getLsbD_eq
  intro i hi
  rw [BitVec.getLsbD_or, BitVec.getLsbD_or, BitVec.getLsbD_and, BitVec.getLsbD_and, kx i hi, ky i hi, kz i hi]
  by_cases c : i = 62
  · simp [c]
  · by_cases c2 : i < 62
    · have : i < 63 := by omega
      simp [c, c2, this]
    · have : ¬ i < 63 := by omega
      simp [c, c2, this]
theorem cla_eq {sc : Nat → Int64} {q : Nat} (hq : q < 4) : claF sc q = mclF sc q := by
  unfold claF mclF
  by_cases c0 : q = 0
  · rw [if_pos c0, if_neg (by omega), if_pos c0]
  · by_cases c3 : q = 3
    · rw [if_neg c0, if_pos c3, if_pos c3, clb]
    · rw [if_neg c0, if_neg c3, if_neg c3, if_neg c0]
theorem ck_ne {P : Nat → Nat → Int64} {j : Nat} (h1 : j ≠ 12) (h2 : j ≠ 5) : ckP P j = P j := by
  unfold ckP
  rw [ne_cl h1, ne_tk h1, ne_cl h2, ne_s h2, ne_m h2]
theorem ck_eq {P : Nat → Nat → Int64} {D : Nat → Int32} {sc pt : Nat → Int64} {a : Nat} (h : INV P D sc pt (nI 2) a) : ckF P = mckF D := by
  obtain ⟨x2, z2, x3, z3, h1, h2, h3, h4, h5, h6⟩ := h.2.2.2.1 (by decide)
  obtain ⟨r, r1, r2⟩ := h.2.2.2.2 rfl
  have c11 : Cc (ckP P) 11 r := r1.of (ck_ne (by decide) (by decide))
  have a5 : Cn (mP 11 2 5 P) 5 (r * z2) := c_mul r1.cn.cl h2.1.cl
  have a1 : Cn (mP 11 2 5 P) 1 x2 := h1.1.of (ne_m (by decide))
  have a2 : Cn (mP 11 2 5 P) 2 z2 := h2.1.of (ne_m (by decide))
  have b5 := c_sub' (t := 5) a5 a1
  have b2 : Cn (sP 5 5 1 (mP 11 2 5 P)) 2 z2 := a2.of (ne_s (by decide))
  have d5 : Cc (clP 5 (sP 5 5 1 (mP 11 2 5 P))) 5 (r * z2 - x2) := c_cl b5.1 b5.2
  have d2 : Cn (clP 5 (sP 5 5 1 (mP 11 2 5 P))) 2 z2 := b2.of (ne_cl (by decide))
  have c5 : Cc (ckP P) 5 (r * z2 - x2) := (d5.of (ne_tk (by decide))).of (ne_cl (by decide))
  have e12 : Cn (tkP 12 2 (clP 5 (sP 5 5 1 (mP 11 2 5 P)))) 12 z2 := c_tk d2
  have c12 : Cc (ckP P) 12 z2 := e12.close
  have m11 : Mn (dMul 11 5 1 D) 11 (r * z2) := m_mul r2 h2.2
  have m1 : Mn (dMul 11 5 1 D) 1 z2 := h2.2.ne (by decide)
  have m5 : Mn (dMul 11 5 1 D) 5 r := r2.ne (by decide)
  have m0 : Mn (dMul 11 5 1 D) 0 x2 := h1.2.ne (by decide)
  have q12 := cc_z c12
  have q11 := cc_z c11
  have q5 := cc_z c5
  have n1 := mn_z m1
  have n5 := mn_z m5
  have n11 := mn_s m11 m0
  have hcg : cg (r * z2 - x2) 0 ↔ cg (r * z2) x2 := by
    constructor
    · rintro ⟨k, hk⟩
      exact ⟨k, by omega⟩
    · rintro ⟨k, hk⟩
      exact ⟨k, by omega⟩
  unfold ckF mckF
  by_cases z : cg z2 0
  · rw [if_pos (q12.mpr z), if_neg (n1.mpr z)]
    by_cases y : cg r 0
    · rw [if_pos (q11.mpr y), if_neg (n5.mpr y)]
    · rw [if_neg (fun h9 => y (q11.mp h9)), if_pos (Classical.not_not.mp (fun h9 => y (n5.mp h9)))]
  · rw [if_neg (fun h9 => z (q12.mp h9)), if_pos (Classical.not_not.mp (fun h9 => z (n1.mp h9)))]
    by_cases y : cg (r * z2) x2
    · rw [if_pos (q5.mpr (hcg.mpr y)), if_neg (n11.mpr y)]
    · rw [if_neg (fun h9 => y (hcg.mp (q5.mp h9))), if_pos (Classical.not_not.mp (fun h9 => y (n11.mp h9)))]
theorem inv_ck {P : Nat → Nat → Int64} {D : Nat → Int32} {sc pt : Nat → Int64} {a : Nat} (h : INV P D sc pt (nI 2) a) : INV (ckP P) (dMul 11 5 1 D) sc pt (nI 2) a := by
  obtain ⟨x2, z2, x3, z3, h1, h2, h3, h4, h5, h6⟩ := h.2.2.2.1 (by decide)
  obtain ⟨r, r1, r2⟩ := h.2.2.2.2 rfl
  have hn : ∀ a x, a ≠ 11 → Mn D a x → Mn (dMul 11 5 1 D) a x := fun a x n1 hm => hm.ne n1
  refine ⟨h.1, h.2.1, h.2.2.1.of (ck_ne (by decide) (by decide)), fun _ => ⟨x2, z2, x3, z3, ?_, ?_, ?_, ?_, ?_, ?_⟩, fun _ => ⟨r, r1.of (ck_ne (by decide) (by decide)), hn 5 r (by decide) r2⟩⟩
  · exact ⟨h1.1.of (ck_ne (by decide) (by decide)), hn 0 x2 (by decide) h1.2⟩
  · exact ⟨h2.1.of (ck_ne (by decide) (by decide)), hn 1 z2 (by decide) h2.2⟩
  · exact ⟨h3.1.of (ck_ne (by decide) (by decide)), hn 2 x3 (by decide) h3.2⟩
  · exact ⟨h4.1.of (ck_ne (by decide) (by decide)), hn 3 z3 (by decide) h4.2⟩
  · exact h5.of (ck_ne (by decide) (by decide))
  · exact hn 4 _ (by decide) h6
end
section
/-! ===== what the law's cases use ===== -/
set_option maxRecDepth 100000
section IV
variable {P P' : Nat → Nat → Int64} {D : Nat → Int32} {sc pt : Nat → Int64} {ph : Int32} {a : Nat}
theorem i_sc (h : INV P D sc pt ph a) (sc' : Nat → Int64) : INV P D sc' pt ph a := h
theorem i_pt (h : INV P D sc pt ph a) {c : Prop} [Decidable c] (hc : c → ph = 0) (f : Nat → Int64) : INV P D sc (if c then f else pt) ph a := by
  by_cases k : c
  · rw [if_pos k]
    have e : ph = nI 0 := (hc k).trans nI_0.symm
    exact ⟨h.1, h.2.1, h.2.2.1, fun h9 => absurd e h9, h.2.2.2.2⟩
  · rw [if_neg k]; exact h
theorem i_ne12 (h : INV P D sc pt ph a) (he : ∀ i, i ≠ 12 → P' i = P i) : INV P' D sc pt ph a := by
  refine ⟨h.1, h.2.1, ?_, fun h9 => ?_, fun h9 => ?_⟩
  · unfold Small
    rw [he 10 (by decide)]
    exact h.2.2.1
  · obtain ⟨x2, z2, x3, z3, h1, h2, h3, h4, h5, h6⟩ := h.2.2.2.1 h9
    refine ⟨x2, z2, x3, z3, ⟨?_, h1.2⟩, ⟨?_, h2.2⟩, ⟨?_, h3.2⟩, ⟨?_, h4.2⟩, ?_, h6⟩ <;> unfold Cn <;> rw [he _ (by decide)]
    · exact h1.1
    · exact h2.1
    · exact h3.1
    · exact h4.1
    · exact h5
  · obtain ⟨r, h1, h2⟩ := h.2.2.2.2 h9
    refine ⟨r, ?_, h2⟩
    unfold Cc
    rw [he _ (by decide)]
    exact h1
theorem i_reset (h : INV P D sc pt ph a) (pt' : Nat → Int64) : INV P D sc pt' (nI 0) a := ⟨h.1, Or.inl rfl, h.2.2.1, fun h9 => absurd rfl h9, fun h9 => absurd h9 (by decide)⟩
theorem i_mku (h : INV P D sc pt ph a) (h0 : ph = 0) (D' : Nat → Int32) : INV P D' sc pt ph a := by
  have e : ph = nI 0 := h0.trans nI_0.symm
  subst e
  exact ⟨h.1, h.2.1, h.2.2.1, fun h9 => absurd rfl h9, fun h9 => absurd h9 (by decide)⟩
theorem i_pos (h : INV P D sc pt ph a) : ph ≤ 0 ↔ ph = 0 := by
  rcases h.2.1 with e | e | e <;> subst e <;> decide
theorem i_pt0 (h : INV P D sc pt ph a) (h0 : ¬ ph = 0) : Lad P D pt := h.2.2.2.1 (fun e => h0 (e.trans nI_0))
theorem paC_mp {w k : Int32} (h : INV P D sc pt ph a) : paC ph w k ↔ mpC ph w k := by
  unfold paC mpC
  rw [i_pos h]
end IV
section IW
variable {P P' : Nat → Nat → Int64} {D D' : Nat → Int32} {sc pt : Nat → Int64} {ph : Int32} {a : Nat}
theorem o_eq (h : INV P D sc pt ph a) (k : Int32) : ouF ph k P = moF ph k D := by
  unfold ouF moF
  by_cases c : ph = nI 2 ∧ ¬ isL k = 0
  · rw [if_pos c, if_pos c]
    obtain ⟨q, hq, rfl⟩ := isL_in c.2
    rw [nI_clamp (by omega)]
    exact res_at (h.2.2.2.2 c.1) hq
  · rw [if_neg c, if_neg c]
theorem pa_eq {w k : Int32} {r1 r2 : Int64} (h : INV P D sc pt ph a) (h1 : (paC ph w k → r1 = shF (whN w.toNatClampNeg) k.toNatClampNeg P) ∧ (¬ paC ph w k → r1 = 0)) (h2 : (mpC ph w k → r2 = loF D w.toNatClampNeg k.toNatClampNeg 4) ∧ (¬ mpC ph w k → r2 = 0)) : r1 = r2 := by
  by_cases c : paC ph w k
  · rw [h1.1 c, h2.1 ((paC_mp h).mp c)]
    have hl := i_pt0 h c.1
    obtain ⟨q, hq, rfl⟩ := isL_in c.2.2.2
    obtain ⟨v, hv5, rfl⟩ := nI_of c.2.1
    have hv : v < 5 := Nat.lt_of_not_le (fun h9 => c.2.2.1 (nI_lt h9 hv5))
    rw [nI_clamp (by omega), nI_clamp (by omega)]
    exact lad_sh hl hv hq
  · rw [h1.2 c, h2.2 (fun h9 => c ((paC_mp h).mpr h9))]
theorem td_eq {w k : Int32} {r1 r2 : Int64} (h : INV P D sc pt ph a) (h1 : (tdC w k → r1 = tdV w.toNatClampNeg k.toNatClampNeg sc pt P) ∧ (¬ tdC w k → r1 = 0)) (h2 : mtR sc pt ph w k D r2 D') : r1 = r2 ∧ INV P D' sc pt ph a := by
  unfold mtR at h2
  by_cases hk : isL k = 0
  · rw [if_pos hk] at h2
    rw [h1.2 (fun h9 => h9.2.2 hk), h2.1, h2.2]
    exact ⟨rfl, h⟩
  rw [if_neg hk] at h2
  obtain ⟨q, hq, rfl⟩ := isL_in hk
  rw [nI_clamp (show q < 2 ^ 31 by omega)] at h1 h2
  by_cases w0 : w = 0
  · subst w0
    rw [if_pos rfl] at h2
    rw [h1.1 ⟨by decide, by decide, hk⟩, h2.1, h2.2]
    exact ⟨rfl, h⟩
  by_cases w1 : w = nI 1
  · subst w1
    rw [if_neg w0, if_pos rfl] at h2
    rw [h1.1 ⟨by decide, by decide, hk⟩, h2.1, h2.2]
    exact ⟨rfl, h⟩
  by_cases w2 : w = nI 2
  · subst w2
    rw [if_neg w0, if_neg w1, if_pos rfl] at h2
    rw [h1.1 ⟨by decide, by decide, hk⟩, h2.1, h2.2]
    exact ⟨cla_eq hq, h⟩
  by_cases w3 : w = nI 3
  · subst w3
    rw [if_neg w0, if_neg w1, if_neg w2, if_pos rfl] at h2
    have e1 := h1.1 ⟨by decide, by decide, hk⟩
    have e2 : tdV (nI 3).toNatClampNeg q sc pt P = tdF q pt P := rfl
    rw [e1, e2]
    by_cases p0 : ph = 0
    · rw [if_pos p0] at h2
      rw [h2.1]
      exact ⟨mku_td hq, i_mku h p0 _⟩
    · rw [if_neg p0] at h2
      rw [h2.1, h2.2]
      exact ⟨lad_td (i_pt0 h p0) hq, h⟩
  · rw [if_neg w0, if_neg w1, if_neg w2, if_neg w3] at h2
    rw [h2.1, h2.2]
    refine ⟨h1.2 (fun h9 => ?_), h⟩
    obtain ⟨v, hv5, rfl⟩ := nI_of h9.1
    have hv : v < 4 := Nat.lt_of_not_le (fun h8 => h9.2.1 (nI_lt h8 hv5))
    rcases (show v = 0 ∨ v = 1 ∨ v = 2 ∨ v = 3 by omega) with rfl | rfl | rfl | rfl
    · exact w0 rfl
    · exact w1 rfl
    · exact w2 rfl
    · exact w3 rfl
theorem ck2 {r1 r2 : Int32} (h : INV P D sc pt ph a) (h1 : (ph = nI 2 → r1 = ckF P ∧ P' = ckP P) ∧ (¬ ph = nI 2 → r1 = 1 ∧ P' = P)) (h2 : (ph = nI 2 → r2 = mckF D ∧ D' = dMul 11 5 1 D) ∧ (¬ ph = nI 2 → r2 = 1 ∧ D' = D)) : r1 = r2 ∧ INV P' D' sc pt ph a := by
  by_cases c : ph = nI 2
  · subst c
    rw [(h1.1 rfl).1, (h1.1 rfl).2, (h2.1 rfl).1, (h2.1 rfl).2]
    exact ⟨ck_eq h, inv_ck h⟩
  · rw [(h1.2 c).1, (h1.2 c).2, (h2.2 c).1, (h2.2 c).2]
    exact ⟨rfl, h⟩
end IW
end
section
set_option maxRecDepth 100000
def R_law : String := "LadderDeskLaw"
def lw_P (b : Addr) (xs : List Int32) (args : Array Value) (s : State) : Prop := args = #[.ref b] ∧ s.IntsAt b xs ∧ xs.length ≤ 2048 ∧ (Jvm.Cond.and given_1 narrow_1).before args s = true
def lw_Q (_ : Array Value) (s : State) (o : Outcome) (t : State) : Prop := o = .returned (some (.int 1)) ∧ Framed s o t [] 600000 7290000
def lw_Z (below : List Frame) (a : Array Value) (s : State) : State → Prop := fun t => ∃ o, t.status = .running ∧ Ended t below o ∧ lw_Q a s o t
/-- the law's own end, with 1 on the stack, nothing written that was there before, its room as the claim has it -/
theorem lw_ret {p : Program} {l : Launch} {e : Env} {s : State} {m : MethodId} {below : List Frame} {meth : Method} {c : Code} {b : Nat} (hx : p.tables.exec = Jvm.exec) (hb : c.code = code) (hr : meth.sig.returnType = ret) (hlocks : meth.locks = false) {pc : Nat} {H : Heap} {ls : Array Slot} (hdg : decode code pc = .ok (.ireturn, 1)) : W p l e room_1 s m #[Value.ref b] below meth c H [] 600000 7290000 (lw_Z below #[Value.ref b] s) (F0 m pc ls [.int 1]) := by
  intro T hT X
  obtain ⟨fs, hret, hrun, hended, hW, hframe⟩ := X.leave (v := some (.int 1)) (hlocks := hlocks) (fun h => by rw [hr] at h; cases h)
  have hmeth' : T.vm.method? m = some meth := X.method'
  refine ⟨T.setFrames fs, ?_, .returned (some (.int 1)), hrun, hended, rfl, ⟨_, rfl⟩, hW, hframe⟩
  jvm_step X.here [X.here.top, hx, hb, hdg, hmeth', hr, ret, narrow_b1]
  (try refine ⟨rfl, ?_⟩); (try refine ⟨rfl, ?_⟩)
  first | (intro acts; rw [hret _ acts rfl rfl rfl]) | rw [hret _ _ rfl rfl rfl]
  exact Steps.refl _
/-- what holds at the law's entry: the machine, the code, the tables' words (any of lw_tbl by 'hts w (by decide +kernel)'), the script of L ints xs at the cell b, what the Statement gives of the start (any of its parts by flat_of_before) -/
def lw_At (p : Program) (s : State) (m : MethodId) (meth : Method) (c : Code) (b L : Nat) (xs : Nat → Int32) : Prop :=
  p.tables.exec = Jvm.exec ∧ c.code = code ∧ meth.sig.returnType = ret ∧ c.maxLocals = 4 ∧ s.vm.findClass R_law = some m.cls ∧ (∀ w ∈ lw_tbl, w.before #[Value.ref b] s = true) ∧ va_X b L xs s s.heap ∧ b < s.heap.size ∧ meth.locks = false ∧ (Jvm.Cond.and given_1 narrow_1).before #[Value.ref b] s = true
/-! ===== the law's thirteen cases ===== -/
section LC
variable {p : Program} {l : Launch} {e : Env} {R : Room} {s : State} {m : MethodId} {args : Array Value} {below : List Frame} {meth : Method} {c : Code} {cells slots : Nat} {Q : State → Prop}
variable {G : va_G} {cJ cI : ClassId} {A : Nat → Prop}
theorem kSld {cc : ByteArray} {nL pc : Nat} {ls : Array Slot} {rest : List Value} {own : String} {H : Heap} {locs : List Loc} {w : va_W} (F : kF p m c cc nL s args own G cJ cI) {b L : Nat} {xs : Nat → Int32} (hX : va_X b L xs s s.heap) (hbl : b < s.heap.size) (hbA : ¬ A b) (hL : L ≤ 2048) (hw : kW G A s H locs w) (j : Nat) (hj : j < L) (hdg : decode cc pc = .ok (.iaload, 1))
    (kk : W p l e R s m args below meth c H locs cells slots Q (F0 m (pc + 1) ls (.int (xs j) :: rest))) : W p l e R s m args below meth c H locs cells slots Q (F0 m pc ls (.int (nI j) :: .ref b :: rest)) := by
  refine va_sld F.1.1 F.1.2.1 hX hbl hbA hw.2.2 (vp_in_nI hj (by omega)) hdg ?_
  rw [nI_clamp (by omega)]
  exact kk

set_option maxHeartbeats 4000000 in
theorem lc_scalar (F : kF p m c code 4 s args R_law G cJ cI) (hA : ∀ q : Nat, s.heap.size ≤ q → A q) {b L : Nat} {xs : Nat → Int32} (hX : va_X b L xs s s.heap) (hbl : b < s.heap.size) (hbA : ¬ A b) (hL : L ≤ 2048) (j : Nat) (hj : j + 4 ≤ L) {ad : Nat → Nat → Nat} {am : Nat → Nat} (hcs : cells ≤ room_1.cells ∧ slots ≤ room_1.slots) {ls : Array Slot} (hl : lv_has ls 4 [(0, .ref b), (1, .ref (ad 0 0)), (2, .ref (am 0)), (3, .int (nI j))])
    (kk : ∀ (P S : Nat → Nat → Int64) (rw : Nat → Int64) (D : Nat → Int32) (U sc pt : Nat → Int64) (ph : Int32) (a : Nat) (rs : Int32) (H : Heap) (locs : List Loc), INV P D sc pt ph a → kW G A s H locs (cW cJ ad P S rw (sc, pt, ph, nI a, rs) ++ mW cJ cI am D U (sc, pt, ph, nI a, rs)) → W p l e room_1 s m args below meth c H locs cells slots Q (F0 m 442 ls []))
    {P S : Nat → Nat → Int64} {rw : Nat → Int64} {D : Nat → Int32} {U sc pt : Nat → Int64} {ph : Int32} {a : Nat} {rs : Int32} {H : Heap} {locs : List Loc} (hI : INV P D sc pt ph a) (hw : kW G A s H locs (cW cJ ad P S rw (sc, pt, ph, nI a, rs) ++ mW cJ cI am D U (sc, pt, ph, nI a, rs))) : W p l e room_1 s m args below meth c H locs cells slots Q (F0 m 100 ls []) := by
  refine lv_aload_n F.1.1 F.1.2.1 dL_law_100 rfl (lv_at hl 1 rfl) ?_
  refine lv_aload_n F.1.1 F.1.2.1 dL_law_101 rfl (lv_at hl 0 rfl) ?_
  refine lv_iload_n F.1.1 F.1.2.1 dL_law_102 rfl (lv_at hl 3 rfl) ?_
  refine lv_iconst (v := nI 1) F.1.1 F.1.2.1 dL_law_103 (by decide) ?_
  refine lv_iadd F.1.1 F.1.2.1 dL_law_104 ?_
  refine kTi (nI_add _ _) ?_
  refine kSld F hX hbl hbA hL hw (j + 1) (by omega) dL_law_105 ?_
  refine lv_aload_n F.1.1 F.1.2.1 dL_law_106 rfl (lv_at hl 0 rfl) ?_
  refine lv_iload_n F.1.1 F.1.2.1 dL_law_107 rfl (lv_at hl 3 rfl) ?_
  refine lv_iconst (v := nI 2) F.1.1 F.1.2.1 dL_law_108 (by decide) ?_
  refine lv_iadd F.1.1 F.1.2.1 dL_law_109 ?_
  refine kTi (nI_add _ _) ?_
  refine kSld F hX hbl hbA hL hw (j + 2) (by omega) dL_law_110 ?_
  refine lv_i2l F.1.1 F.1.2.1 dL_law_111 rfl ?_
  refine lv_bipush (v := nI 32) F.1.1 F.1.2.1 dL_law_112 (by decide) ?_
  refine lv_lshl F.1.1 F.1.2.1 dL_law_114 rfl ?_
  refine lv_aload_n F.1.1 F.1.2.1 dL_law_115 rfl (lv_at hl 0 rfl) ?_
  refine lv_iload_n F.1.1 F.1.2.1 dL_law_116 rfl (lv_at hl 3 rfl) ?_
  refine lv_iconst (v := nI 3) F.1.1 F.1.2.1 dL_law_117 (by decide) ?_
  refine lv_iadd F.1.1 F.1.2.1 dL_law_118 ?_
  refine kTi (nI_add _ _) ?_
  refine kSld F hX hbl hbA hL hw (j + 3) (by omega) dL_law_119 ?_
  refine lv_i2l F.1.1 F.1.2.1 dL_law_120 rfl ?_
  refine lv_ldc2 (v := 4294967295) F.1.1 F.1.2.1 F.1.2.2.2.1 (F.1.2.2.2.2 _ q416) dL_law_121 ?_
  refine lv_land F.1.1 F.1.2.1 dL_law_124 ?_
  refine lv_lor F.1.1 F.1.2.1 dL_law_125 ?_
  refine kCiR (As := [.int (xs (j + 1)), .long _]) F hw.swap hA (met_X0_scalar _ _) (cwV 2 F.1.2.2.2.2 (lw_V q123 q124 q125 q21 q126) rfl rfl rfl (by decide +kernel) ⟨Nat.le_of_ble_eq_true rfl, Nat.le_of_ble_eq_true rfl⟩) cRcD rfl hl.1 rfl (Nat.le_of_ble_eq_true rfl) dL_law_126 hcs (fun r1 u1 H locs hp1 hw => ?_)
  refine lv_aload_n F.1.1 F.1.2.1 dL_law_129 rfl (lv_at hl 2 rfl) ?_
  refine lv_aload_n F.1.1 F.1.2.1 dL_law_130 rfl (lv_at hl 0 rfl) ?_
  refine lv_iload_n F.1.1 F.1.2.1 dL_law_131 rfl (lv_at hl 3 rfl) ?_
  refine lv_iconst (v := nI 1) F.1.1 F.1.2.1 dL_law_132 (by decide) ?_
  refine lv_iadd F.1.1 F.1.2.1 dL_law_133 ?_
  refine kTi (nI_add _ _) ?_
  refine kSld F hX hbl hbA hL hw (j + 1) (by omega) dL_law_134 ?_
  refine lv_aload_n F.1.1 F.1.2.1 dL_law_135 rfl (lv_at hl 0 rfl) ?_
  refine lv_iload_n F.1.1 F.1.2.1 dL_law_136 rfl (lv_at hl 3 rfl) ?_
  refine lv_iconst (v := nI 2) F.1.1 F.1.2.1 dL_law_137 (by decide) ?_
  refine lv_iadd F.1.1 F.1.2.1 dL_law_138 ?_
  refine kTi (nI_add _ _) ?_
  refine kSld F hX hbl hbA hL hw (j + 2) (by omega) dL_law_139 ?_
  refine lv_i2l F.1.1 F.1.2.1 dL_law_140 rfl ?_
  refine lv_bipush (v := nI 32) F.1.1 F.1.2.1 dL_law_141 (by decide) ?_
  refine lv_lshl F.1.1 F.1.2.1 dL_law_143 rfl ?_
  refine lv_aload_n F.1.1 F.1.2.1 dL_law_144 rfl (lv_at hl 0 rfl) ?_
  refine lv_iload_n F.1.1 F.1.2.1 dL_law_145 rfl (lv_at hl 3 rfl) ?_
  refine lv_iconst (v := nI 3) F.1.1 F.1.2.1 dL_law_146 (by decide) ?_
  refine lv_iadd F.1.1 F.1.2.1 dL_law_147 ?_
  refine kTi (nI_add _ _) ?_
  refine kSld F hX hbl hbA hL hw (j + 3) (by omega) dL_law_148 ?_
  refine lv_i2l F.1.1 F.1.2.1 dL_law_149 rfl ?_
  refine lv_ldc2 (v := 4294967295) F.1.1 F.1.2.1 F.1.2.2.2.1 (F.1.2.2.2.2 _ q416) dL_law_150 ?_
  refine lv_land F.1.1 F.1.2.1 dL_law_153 ?_
  refine lv_lor F.1.1 F.1.2.1 dL_law_154 ?_
  refine kCiR (As := [.int (xs (j + 1)), .long _]) F hw.swap hA (met_X3_scalar _ _) (cwV 2 F.1.2.2.2.2 (lw_V q282 q283 q284 q24 q285) rfl rfl rfl (by decide +kernel) ⟨Nat.le_of_ble_eq_true rfl, Nat.le_of_ble_eq_true rfl⟩) mRc rfl hl.1 rfl (Nat.le_of_ble_eq_true rfl) dL_law_155 hcs (fun r2 u2 H locs hp2 hw => ?_)
  refine lv_icmp_eq (tgt := 442) F.1.1 F.1.2.1 dL_law_158 (by decide) (fun _ => ?_) (fun c9 => absurd (hp1.trans hp2.symm) c9)
  exact kk _ _ _ _ _ _ _ _ _ _ H locs (i_sc hI _) hw

set_option maxHeartbeats 4000000 in
theorem lc_point (F : kF p m c code 4 s args R_law G cJ cI) (hA : ∀ q : Nat, s.heap.size ≤ q → A q) {b L : Nat} {xs : Nat → Int32} (hX : va_X b L xs s s.heap) (hbl : b < s.heap.size) (hbA : ¬ A b) (hL : L ≤ 2048) (j : Nat) (hj : j + 4 ≤ L) {ad : Nat → Nat → Nat} {am : Nat → Nat} (hcs : cells ≤ room_1.cells ∧ slots ≤ room_1.slots) {ls : Array Slot} (hl : lv_has ls 4 [(0, .ref b), (1, .ref (ad 0 0)), (2, .ref (am 0)), (3, .int (nI j))])
    (kk : ∀ (P S : Nat → Nat → Int64) (rw : Nat → Int64) (D : Nat → Int32) (U sc pt : Nat → Int64) (ph : Int32) (a : Nat) (rs : Int32) (H : Heap) (locs : List Loc), INV P D sc pt ph a → kW G A s H locs (cW cJ ad P S rw (sc, pt, ph, nI a, rs) ++ mW cJ cI am D U (sc, pt, ph, nI a, rs)) → W p l e room_1 s m args below meth c H locs cells slots Q (F0 m 442 ls []))
    {P S : Nat → Nat → Int64} {rw : Nat → Int64} {D : Nat → Int32} {U sc pt : Nat → Int64} {ph : Int32} {a : Nat} {rs : Int32} {H : Heap} {locs : List Loc} (hI : INV P D sc pt ph a) (hw : kW G A s H locs (cW cJ ad P S rw (sc, pt, ph, nI a, rs) ++ mW cJ cI am D U (sc, pt, ph, nI a, rs))) : W p l e room_1 s m args below meth c H locs cells slots Q (F0 m 163 ls []) := by
  refine lv_aload_n F.1.1 F.1.2.1 dL_law_163 rfl (lv_at hl 1 rfl) ?_
  refine lv_aload_n F.1.1 F.1.2.1 dL_law_164 rfl (lv_at hl 0 rfl) ?_
  refine lv_iload_n F.1.1 F.1.2.1 dL_law_165 rfl (lv_at hl 3 rfl) ?_
  refine lv_iconst (v := nI 1) F.1.1 F.1.2.1 dL_law_166 (by decide) ?_
  refine lv_iadd F.1.1 F.1.2.1 dL_law_167 ?_
  refine kTi (nI_add _ _) ?_
  refine kSld F hX hbl hbA hL hw (j + 1) (by omega) dL_law_168 ?_
  refine lv_aload_n F.1.1 F.1.2.1 dL_law_169 rfl (lv_at hl 0 rfl) ?_
  refine lv_iload_n F.1.1 F.1.2.1 dL_law_170 rfl (lv_at hl 3 rfl) ?_
  refine lv_iconst (v := nI 2) F.1.1 F.1.2.1 dL_law_171 (by decide) ?_
  refine lv_iadd F.1.1 F.1.2.1 dL_law_172 ?_
  refine kTi (nI_add _ _) ?_
  refine kSld F hX hbl hbA hL hw (j + 2) (by omega) dL_law_173 ?_
  refine lv_i2l F.1.1 F.1.2.1 dL_law_174 rfl ?_
  refine lv_bipush (v := nI 32) F.1.1 F.1.2.1 dL_law_175 (by decide) ?_
  refine lv_lshl F.1.1 F.1.2.1 dL_law_177 rfl ?_
  refine lv_aload_n F.1.1 F.1.2.1 dL_law_178 rfl (lv_at hl 0 rfl) ?_
  refine lv_iload_n F.1.1 F.1.2.1 dL_law_179 rfl (lv_at hl 3 rfl) ?_
  refine lv_iconst (v := nI 3) F.1.1 F.1.2.1 dL_law_180 (by decide) ?_
  refine lv_iadd F.1.1 F.1.2.1 dL_law_181 ?_
  refine kTi (nI_add _ _) ?_
  refine kSld F hX hbl hbA hL hw (j + 3) (by omega) dL_law_182 ?_
  refine lv_i2l F.1.1 F.1.2.1 dL_law_183 rfl ?_
  refine lv_ldc2 (v := 4294967295) F.1.1 F.1.2.1 F.1.2.2.2.1 (F.1.2.2.2.2 _ q416) dL_law_184 ?_
  refine lv_land F.1.1 F.1.2.1 dL_law_187 ?_
  refine lv_lor F.1.1 F.1.2.1 dL_law_188 ?_
  refine kCiR (As := [.int (xs (j + 1)), .long _]) F hw.swap hA (met_X0_point _ _) (cwV 2 F.1.2.2.2.2 (lw_V q130 q131 q132 q21 q133) rfl rfl rfl (by decide +kernel) ⟨Nat.le_of_ble_eq_true rfl, Nat.le_of_ble_eq_true rfl⟩) cRcD rfl hl.1 rfl (Nat.le_of_ble_eq_true rfl) dL_law_189 hcs (fun r1 u1 H locs hp1 hw => ?_)
  refine lv_aload_n F.1.1 F.1.2.1 dL_law_192 rfl (lv_at hl 2 rfl) ?_
  refine lv_aload_n F.1.1 F.1.2.1 dL_law_193 rfl (lv_at hl 0 rfl) ?_
  refine lv_iload_n F.1.1 F.1.2.1 dL_law_194 rfl (lv_at hl 3 rfl) ?_
  refine lv_iconst (v := nI 1) F.1.1 F.1.2.1 dL_law_195 (by decide) ?_
  refine lv_iadd F.1.1 F.1.2.1 dL_law_196 ?_
  refine kTi (nI_add _ _) ?_
  refine kSld F hX hbl hbA hL hw (j + 1) (by omega) dL_law_197 ?_
  refine lv_aload_n F.1.1 F.1.2.1 dL_law_198 rfl (lv_at hl 0 rfl) ?_
  refine lv_iload_n F.1.1 F.1.2.1 dL_law_199 rfl (lv_at hl 3 rfl) ?_
  refine lv_iconst (v := nI 2) F.1.1 F.1.2.1 dL_law_200 (by decide) ?_
  refine lv_iadd F.1.1 F.1.2.1 dL_law_201 ?_
  refine kTi (nI_add _ _) ?_
  refine kSld F hX hbl hbA hL hw (j + 2) (by omega) dL_law_202 ?_
  refine lv_i2l F.1.1 F.1.2.1 dL_law_203 rfl ?_
  refine lv_bipush (v := nI 32) F.1.1 F.1.2.1 dL_law_204 (by decide) ?_
  refine lv_lshl F.1.1 F.1.2.1 dL_law_206 rfl ?_
  refine lv_aload_n F.1.1 F.1.2.1 dL_law_207 rfl (lv_at hl 0 rfl) ?_
  refine lv_iload_n F.1.1 F.1.2.1 dL_law_208 rfl (lv_at hl 3 rfl) ?_
  refine lv_iconst (v := nI 3) F.1.1 F.1.2.1 dL_law_209 (by decide) ?_
  refine lv_iadd F.1.1 F.1.2.1 dL_law_210 ?_
  refine kTi (nI_add _ _) ?_
  refine kSld F hX hbl hbA hL hw (j + 3) (by omega) dL_law_211 ?_
  refine lv_i2l F.1.1 F.1.2.1 dL_law_212 rfl ?_
  refine lv_ldc2 (v := 4294967295) F.1.1 F.1.2.1 F.1.2.2.2.1 (F.1.2.2.2.2 _ q416) dL_law_213 ?_
  refine lv_land F.1.1 F.1.2.1 dL_law_216 ?_
  refine lv_lor F.1.1 F.1.2.1 dL_law_217 ?_
  refine kCiR (As := [.int (xs (j + 1)), .long _]) F hw.swap hA (met_X3_point _ _) (cwV 2 F.1.2.2.2.2 (lw_V q289 q290 q291 q24 q292) rfl rfl rfl (by decide +kernel) ⟨Nat.le_of_ble_eq_true rfl, Nat.le_of_ble_eq_true rfl⟩) mRc rfl hl.1 rfl (Nat.le_of_ble_eq_true rfl) dL_law_218 hcs (fun r2 u2 H locs hp2 hw => ?_)
  refine lv_icmp_eq (tgt := 442) F.1.1 F.1.2.1 dL_law_221 (by decide) (fun _ => ?_) (fun c9 => absurd (hp1.trans hp2.symm) c9)
  exact kk _ _ _ _ _ _ _ _ _ _ H locs (i_pt hI (fun h9 => h9.1) _) hw

set_option maxHeartbeats 4000000 in
theorem lc_start (F : kF p m c code 4 s args R_law G cJ cI) (hA : ∀ q : Nat, s.heap.size ≤ q → A q) {b L : Nat} {xs : Nat → Int32} (hX : va_X b L xs s s.heap) (hbl : b < s.heap.size) (hbA : ¬ A b) (hL : L ≤ 2048) (j : Nat) (hj : j + 4 ≤ L) {ad : Nat → Nat → Nat} {am : Nat → Nat} (hcs : cells ≤ room_1.cells ∧ slots ≤ room_1.slots) {ls : Array Slot} (hl : lv_has ls 4 [(0, .ref b), (1, .ref (ad 0 0)), (2, .ref (am 0)), (3, .int (nI j))])
    (kk : ∀ (P S : Nat → Nat → Int64) (rw : Nat → Int64) (D : Nat → Int32) (U sc pt : Nat → Int64) (ph : Int32) (a : Nat) (rs : Int32) (H : Heap) (locs : List Loc), INV P D sc pt ph a → kW G A s H locs (cW cJ ad P S rw (sc, pt, ph, nI a, rs) ++ mW cJ cI am D U (sc, pt, ph, nI a, rs)) → W p l e room_1 s m args below meth c H locs cells slots Q (F0 m 442 ls []))
    {P S : Nat → Nat → Int64} {rw : Nat → Int64} {D : Nat → Int32} {U sc pt : Nat → Int64} {ph : Int32} {a : Nat} {rs : Int32} {H : Heap} {locs : List Loc} (hI : INV P D sc pt ph a) (hw : kW G A s H locs (cW cJ ad P S rw (sc, pt, ph, nI a, rs) ++ mW cJ cI am D U (sc, pt, ph, nI a, rs))) : W p l e room_1 s m args below meth c H locs cells slots Q (F0 m 226 ls []) := by
  refine lv_aload_n F.1.1 F.1.2.1 dL_law_226 rfl (lv_at hl 1 rfl) ?_
  refine kCiR (As := []) F hw.swap hA met_X0_start (cwV 0 F.1.2.2.2.2 (lw_V q134 q135 q136 q21 q137) rfl rfl rfl (by decide +kernel) ⟨Nat.le_of_ble_eq_true rfl, Nat.le_of_ble_eq_true rfl⟩) cRcD rfl hl.1 rfl (Nat.le_of_ble_eq_true rfl) dL_law_227 hcs (fun r1 u1 H locs hp1 hw => ?_)
  refine lv_aload_n F.1.1 F.1.2.1 dL_law_230 rfl (lv_at hl 2 rfl) ?_
  refine kCiR (As := []) F hw.swap hA met_X3_start (cwV 0 F.1.2.2.2.2 (lw_V q293 q294 q295 q24 q296) rfl rfl rfl (by decide +kernel) ⟨Nat.le_of_ble_eq_true rfl, Nat.le_of_ble_eq_true rfl⟩) mRc rfl hl.1 rfl (Nat.le_of_ble_eq_true rfl) dL_law_231 hcs (fun r2 u2 H locs hp2 hw => ?_)
  refine lv_icmp_eq (tgt := 442) F.1.1 F.1.2.1 dL_law_234 (by decide) (fun _ => ?_) (fun c9 => absurd (hp1.trans hp2.symm) c9)
  by_cases h0 : ph = 0
  · simp only [if_pos h0] at hw
    exact kk _ _ _ _ _ _ _ _ _ _ H locs (inv_start hI h0) hw
  · simp only [if_neg h0] at hw
    exact kk _ _ _ _ _ _ _ _ _ _ H locs hI hw

set_option maxHeartbeats 4000000 in
theorem lc_step (F : kF p m c code 4 s args R_law G cJ cI) (hA : ∀ q : Nat, s.heap.size ≤ q → A q) {b L : Nat} {xs : Nat → Int32} (hX : va_X b L xs s s.heap) (hbl : b < s.heap.size) (hbA : ¬ A b) (hL : L ≤ 2048) (j : Nat) (hj : j + 4 ≤ L) {ad : Nat → Nat → Nat} {am : Nat → Nat} (hcs : cells ≤ room_1.cells ∧ slots ≤ room_1.slots) {ls : Array Slot} (hl : lv_has ls 4 [(0, .ref b), (1, .ref (ad 0 0)), (2, .ref (am 0)), (3, .int (nI j))])
    (kk : ∀ (P S : Nat → Nat → Int64) (rw : Nat → Int64) (D : Nat → Int32) (U sc pt : Nat → Int64) (ph : Int32) (a : Nat) (rs : Int32) (H : Heap) (locs : List Loc), INV P D sc pt ph a → kW G A s H locs (cW cJ ad P S rw (sc, pt, ph, nI a, rs) ++ mW cJ cI am D U (sc, pt, ph, nI a, rs)) → W p l e room_1 s m args below meth c H locs cells slots Q (F0 m 442 ls []))
    {P S : Nat → Nat → Int64} {rw : Nat → Int64} {D : Nat → Int32} {U sc pt : Nat → Int64} {ph : Int32} {a : Nat} {rs : Int32} {H : Heap} {locs : List Loc} (hI : INV P D sc pt ph a) (hw : kW G A s H locs (cW cJ ad P S rw (sc, pt, ph, nI a, rs) ++ mW cJ cI am D U (sc, pt, ph, nI a, rs))) : W p l e room_1 s m args below meth c H locs cells slots Q (F0 m 239 ls []) := by
  refine lv_aload_n F.1.1 F.1.2.1 dL_law_239 rfl (lv_at hl 1 rfl) ?_
  refine lv_aload_n F.1.1 F.1.2.1 dL_law_240 rfl (lv_at hl 0 rfl) ?_
  refine lv_iload_n F.1.1 F.1.2.1 dL_law_241 rfl (lv_at hl 3 rfl) ?_
  refine lv_iconst (v := nI 1) F.1.1 F.1.2.1 dL_law_242 (by decide) ?_
  refine lv_iadd F.1.1 F.1.2.1 dL_law_243 ?_
  refine kTi (nI_add _ _) ?_
  refine kSld F hX hbl hbA hL hw (j + 1) (by omega) dL_law_244 ?_
  refine kCiR (As := [.int (xs (j + 1))]) F hw.swap hA (met_X0_step a hI.1 _) (cwV 1 F.1.2.2.2.2 (lw_V q151 q152 q153 q21 q154) rfl rfl rfl (by decide +kernel) ⟨Nat.le_of_ble_eq_true rfl, Nat.le_of_ble_eq_true rfl⟩) cRcD rfl hl.1 rfl (Nat.le_of_ble_eq_true rfl) dL_law_245 hcs (fun r1 u1 H locs hp1 hw => ?_)
  refine lv_aload_n F.1.1 F.1.2.1 dL_law_248 rfl (lv_at hl 2 rfl) ?_
  refine lv_aload_n F.1.1 F.1.2.1 dL_law_249 rfl (lv_at hl 0 rfl) ?_
  refine lv_iload_n F.1.1 F.1.2.1 dL_law_250 rfl (lv_at hl 3 rfl) ?_
  refine lv_iconst (v := nI 1) F.1.1 F.1.2.1 dL_law_251 (by decide) ?_
  refine lv_iadd F.1.1 F.1.2.1 dL_law_252 ?_
  refine kTi (nI_add _ _) ?_
  refine kSld F hX hbl hbA hL hw (j + 1) (by omega) dL_law_253 ?_
  refine kCiR (As := [.int (xs (j + 1))]) F hw.swap hA (met_X3_step a hI.1 _) (cwV 1 F.1.2.2.2.2 (lw_V q326 q327 q328 q24 q329) rfl rfl rfl (by decide +kernel) ⟨Nat.le_of_ble_eq_true rfl, Nat.le_of_ble_eq_true rfl⟩) mRc rfl hl.1 rfl (Nat.le_of_ble_eq_true rfl) dL_law_254 hcs (fun r2 u2 H locs hp2 hw => ?_)
  refine lv_icmp_eq (tgt := 442) F.1.1 F.1.2.1 dL_law_257 (by decide) (fun _ => ?_) (fun c9 => absurd (hp1.trans hp2.symm) c9)
  by_cases h0 : ph = nI 1 ∧ nI 1 ≤ xs (j + 1)
  · simp only [if_pos h0] at hw
    obtain ⟨rfl, h1⟩ := h0
    exact kk _ _ _ _ _ _ _ _ _ _ H locs (inv_steps hI _ (by have := hI.1; unfold stJ; omega)) hw
  · simp only [if_neg h0] at hw
    exact kk _ _ _ _ _ _ _ _ _ _ H locs hI hw

set_option maxHeartbeats 4000000 in
theorem lc_finish (F : kF p m c code 4 s args R_law G cJ cI) (hA : ∀ q : Nat, s.heap.size ≤ q → A q) {b L : Nat} {xs : Nat → Int32} (hX : va_X b L xs s s.heap) (hbl : b < s.heap.size) (hbA : ¬ A b) (hL : L ≤ 2048) (j : Nat) (hj : j + 4 ≤ L) {ad : Nat → Nat → Nat} {am : Nat → Nat} (hcs : cells ≤ room_1.cells ∧ slots ≤ room_1.slots) {ls : Array Slot} (hl : lv_has ls 4 [(0, .ref b), (1, .ref (ad 0 0)), (2, .ref (am 0)), (3, .int (nI j))])
    (kk : ∀ (P S : Nat → Nat → Int64) (rw : Nat → Int64) (D : Nat → Int32) (U sc pt : Nat → Int64) (ph : Int32) (a : Nat) (rs : Int32) (H : Heap) (locs : List Loc), INV P D sc pt ph a → kW G A s H locs (cW cJ ad P S rw (sc, pt, ph, nI a, rs) ++ mW cJ cI am D U (sc, pt, ph, nI a, rs)) → W p l e room_1 s m args below meth c H locs cells slots Q (F0 m 442 ls []))
    {P S : Nat → Nat → Int64} {rw : Nat → Int64} {D : Nat → Int32} {U sc pt : Nat → Int64} {ph : Int32} {a : Nat} {rs : Int32} {H : Heap} {locs : List Loc} (hI : INV P D sc pt ph a) (hw : kW G A s H locs (cW cJ ad P S rw (sc, pt, ph, nI a, rs) ++ mW cJ cI am D U (sc, pt, ph, nI a, rs))) : W p l e room_1 s m args below meth c H locs cells slots Q (F0 m 262 ls []) := by
  refine lv_aload_n F.1.1 F.1.2.1 dL_law_262 rfl (lv_at hl 1 rfl) ?_
  refine kCiR (As := []) F hw.swap hA met_X0_finish (cwV 0 F.1.2.2.2.2 (lw_V q189 q190 q191 q21 q192) rfl rfl rfl (by decide +kernel) ⟨Nat.le_of_ble_eq_true rfl, Nat.le_of_ble_eq_true rfl⟩) cRcD rfl hl.1 rfl (Nat.le_of_ble_eq_true rfl) dL_law_263 hcs (fun r1 u1 H locs hp1 hw => ?_)
  refine lv_aload_n F.1.1 F.1.2.1 dL_law_266 rfl (lv_at hl 2 rfl) ?_
  refine kCiR (As := []) F hw.swap hA met_X3_finish (cwV 0 F.1.2.2.2.2 (lw_V q365 q366 q367 q24 q368) rfl rfl rfl (by decide +kernel) ⟨Nat.le_of_ble_eq_true rfl, Nat.le_of_ble_eq_true rfl⟩) mRc rfl hl.1 rfl (Nat.le_of_ble_eq_true rfl) dL_law_267 hcs (fun r2 u2 H locs hp2 hw => ?_)
  refine lv_icmp_eq (tgt := 442) F.1.1 F.1.2.1 dL_law_270 (by decide) (fun _ => ?_) (fun c9 => absurd (hp1.trans hp2.symm) c9)
  by_cases h0 : ph = nI 1 ∧ nI 255 ≤ nI a
  · simp only [if_pos h0] at hw
    exact kk _ _ _ _ _ _ _ _ _ _ H locs (inv_fin (by rw [← h0.1]; exact hI)) hw
  · simp only [if_neg h0] at hw
    exact kk _ _ _ _ _ _ _ _ _ _ H locs hI hw

set_option maxHeartbeats 4000000 in
theorem lc_again (F : kF p m c code 4 s args R_law G cJ cI) (hA : ∀ q : Nat, s.heap.size ≤ q → A q) {b L : Nat} {xs : Nat → Int32} (hX : va_X b L xs s s.heap) (hbl : b < s.heap.size) (hbA : ¬ A b) (hL : L ≤ 2048) (j : Nat) (hj : j + 4 ≤ L) {ad : Nat → Nat → Nat} {am : Nat → Nat} (hcs : cells ≤ room_1.cells ∧ slots ≤ room_1.slots) {ls : Array Slot} (hl : lv_has ls 4 [(0, .ref b), (1, .ref (ad 0 0)), (2, .ref (am 0)), (3, .int (nI j))])
    (kk : ∀ (P S : Nat → Nat → Int64) (rw : Nat → Int64) (D : Nat → Int32) (U sc pt : Nat → Int64) (ph : Int32) (a : Nat) (rs : Int32) (H : Heap) (locs : List Loc), INV P D sc pt ph a → kW G A s H locs (cW cJ ad P S rw (sc, pt, ph, nI a, rs) ++ mW cJ cI am D U (sc, pt, ph, nI a, rs)) → W p l e room_1 s m args below meth c H locs cells slots Q (F0 m 442 ls []))
    {P S : Nat → Nat → Int64} {rw : Nat → Int64} {D : Nat → Int32} {U sc pt : Nat → Int64} {ph : Int32} {a : Nat} {rs : Int32} {H : Heap} {locs : List Loc} (hI : INV P D sc pt ph a) (hw : kW G A s H locs (cW cJ ad P S rw (sc, pt, ph, nI a, rs) ++ mW cJ cI am D U (sc, pt, ph, nI a, rs))) : W p l e room_1 s m args below meth c H locs cells slots Q (F0 m 275 ls []) := by
  refine lv_aload_n F.1.1 F.1.2.1 dL_law_275 rfl (lv_at hl 1 rfl) ?_
  refine kCiR (As := []) F hw.swap hA met_X0_again (cwV 0 F.1.2.2.2.2 (lw_V q209 q210 q211 q21 q212) rfl rfl rfl (by decide +kernel) ⟨Nat.le_of_ble_eq_true rfl, Nat.le_of_ble_eq_true rfl⟩) cRcD rfl hl.1 rfl (Nat.le_of_ble_eq_true rfl) dL_law_276 hcs (fun r1 u1 H locs hp1 hw => ?_)
  refine lv_aload_n F.1.1 F.1.2.1 dL_law_279 rfl (lv_at hl 2 rfl) ?_
  refine kCiR (As := []) F hw.swap hA met_X3_again (cwV 0 F.1.2.2.2.2 (lw_V q369 q370 q371 q24 q372) rfl rfl rfl (by decide +kernel) ⟨Nat.le_of_ble_eq_true rfl, Nat.le_of_ble_eq_true rfl⟩) mRc rfl hl.1 rfl (Nat.le_of_ble_eq_true rfl) dL_law_280 hcs (fun r2 u2 H locs hp2 hw => ?_)
  refine lv_icmp_eq (tgt := 442) F.1.1 F.1.2.1 dL_law_283 (by decide) (fun _ => ?_) (fun c9 => absurd (hp1.trans hp2.symm) c9)
  by_cases h0 : ph = nI 2
  · simp only [if_pos h0] at hw
    rw [← fl_congr (fun j h9 => res_at (hI.2.2.2.2 h0) h9)] at hw
    exact kk _ _ _ _ _ _ _ _ _ _ H locs (i_reset hI _) hw
  · simp only [if_neg h0] at hw
    exact kk _ _ _ _ _ _ _ _ _ _ H locs hI hw

set_option maxHeartbeats 4000000 in
theorem lc_reset (F : kF p m c code 4 s args R_law G cJ cI) (hA : ∀ q : Nat, s.heap.size ≤ q → A q) {b L : Nat} {xs : Nat → Int32} (hX : va_X b L xs s s.heap) (hbl : b < s.heap.size) (hbA : ¬ A b) (hL : L ≤ 2048) (j : Nat) (hj : j + 4 ≤ L) {ad : Nat → Nat → Nat} {am : Nat → Nat} (hcs : cells ≤ room_1.cells ∧ slots ≤ room_1.slots) {ls : Array Slot} (hl : lv_has ls 4 [(0, .ref b), (1, .ref (ad 0 0)), (2, .ref (am 0)), (3, .int (nI j))])
    (kk : ∀ (P S : Nat → Nat → Int64) (rw : Nat → Int64) (D : Nat → Int32) (U sc pt : Nat → Int64) (ph : Int32) (a : Nat) (rs : Int32) (H : Heap) (locs : List Loc), INV P D sc pt ph a → kW G A s H locs (cW cJ ad P S rw (sc, pt, ph, nI a, rs) ++ mW cJ cI am D U (sc, pt, ph, nI a, rs)) → W p l e room_1 s m args below meth c H locs cells slots Q (F0 m 442 ls []))
    {P S : Nat → Nat → Int64} {rw : Nat → Int64} {D : Nat → Int32} {U sc pt : Nat → Int64} {ph : Int32} {a : Nat} {rs : Int32} {H : Heap} {locs : List Loc} (hI : INV P D sc pt ph a) (hw : kW G A s H locs (cW cJ ad P S rw (sc, pt, ph, nI a, rs) ++ mW cJ cI am D U (sc, pt, ph, nI a, rs))) : W p l e room_1 s m args below meth c H locs cells slots Q (F0 m 288 ls []) := by
  refine lv_aload_n F.1.1 F.1.2.1 dL_law_288 rfl (lv_at hl 1 rfl) ?_
  refine kCiR (As := []) F hw.swap hA met_X0_reset (cwV 0 F.1.2.2.2.2 (lw_V q217 q218 q219 q21 q220) rfl rfl rfl (by decide +kernel) ⟨Nat.le_of_ble_eq_true rfl, Nat.le_of_ble_eq_true rfl⟩) cRcD rfl hl.1 rfl (Nat.le_of_ble_eq_true rfl) dL_law_289 hcs (fun r1 u1 H locs hp1 hw => ?_)
  refine lv_aload_n F.1.1 F.1.2.1 dL_law_292 rfl (lv_at hl 2 rfl) ?_
  refine kCiR (As := []) F hw.swap hA met_X3_reset (cwV 0 F.1.2.2.2.2 (lw_V q377 q378 q379 q24 q380) rfl rfl rfl (by decide +kernel) ⟨Nat.le_of_ble_eq_true rfl, Nat.le_of_ble_eq_true rfl⟩) mRc rfl hl.1 rfl (Nat.le_of_ble_eq_true rfl) dL_law_293 hcs (fun r2 u2 H locs hp2 hw => ?_)
  refine lv_icmp_eq (tgt := 442) F.1.1 F.1.2.1 dL_law_296 (by decide) (fun _ => ?_) (fun c9 => absurd (hp1.trans hp2.symm) c9)
  exact kk _ _ _ _ _ _ _ _ _ _ H locs (i_reset hI _) hw

set_option maxHeartbeats 4000000 in
theorem lc_phase (F : kF p m c code 4 s args R_law G cJ cI) (hA : ∀ q : Nat, s.heap.size ≤ q → A q) {b L : Nat} {xs : Nat → Int32} (hX : va_X b L xs s s.heap) (hbl : b < s.heap.size) (hbA : ¬ A b) (hL : L ≤ 2048) (j : Nat) (hj : j + 4 ≤ L) {ad : Nat → Nat → Nat} {am : Nat → Nat} (hcs : cells ≤ room_1.cells ∧ slots ≤ room_1.slots) {ls : Array Slot} (hl : lv_has ls 4 [(0, .ref b), (1, .ref (ad 0 0)), (2, .ref (am 0)), (3, .int (nI j))])
    (kk : ∀ (P S : Nat → Nat → Int64) (rw : Nat → Int64) (D : Nat → Int32) (U sc pt : Nat → Int64) (ph : Int32) (a : Nat) (rs : Int32) (H : Heap) (locs : List Loc), INV P D sc pt ph a → kW G A s H locs (cW cJ ad P S rw (sc, pt, ph, nI a, rs) ++ mW cJ cI am D U (sc, pt, ph, nI a, rs)) → W p l e room_1 s m args below meth c H locs cells slots Q (F0 m 442 ls []))
    {P S : Nat → Nat → Int64} {rw : Nat → Int64} {D : Nat → Int32} {U sc pt : Nat → Int64} {ph : Int32} {a : Nat} {rs : Int32} {H : Heap} {locs : List Loc} (hI : INV P D sc pt ph a) (hw : kW G A s H locs (cW cJ ad P S rw (sc, pt, ph, nI a, rs) ++ mW cJ cI am D U (sc, pt, ph, nI a, rs))) : W p l e room_1 s m args below meth c H locs cells slots Q (F0 m 301 ls []) := by
  refine lv_aload_n F.1.1 F.1.2.1 dL_law_301 rfl (lv_at hl 1 rfl) ?_
  refine kCiR (As := []) F hw.swap hA met_X0_phase (cwV 0 F.1.2.2.2.2 (lw_V q221 q222 q223 q21 q224) rfl rfl rfl (by decide +kernel) ⟨Nat.le_of_ble_eq_true rfl, Nat.le_of_ble_eq_true rfl⟩) cRcD rfl hl.1 rfl (Nat.le_of_ble_eq_true rfl) dL_law_302 hcs (fun r1 u1 H locs hp1 hw => ?_)
  refine lv_aload_n F.1.1 F.1.2.1 dL_law_305 rfl (lv_at hl 2 rfl) ?_
  refine kCiR (As := []) F hw.swap hA met_X3_phase (cwV 0 F.1.2.2.2.2 (lw_V q381 q382 q383 q24 q384) rfl rfl rfl (by decide +kernel) ⟨Nat.le_of_ble_eq_true rfl, Nat.le_of_ble_eq_true rfl⟩) mRc rfl hl.1 rfl (Nat.le_of_ble_eq_true rfl) dL_law_306 hcs (fun r2 u2 H locs hp2 hw => ?_)
  refine lv_icmp_eq (tgt := 442) F.1.1 F.1.2.1 dL_law_309 (by decide) (fun _ => ?_) (fun c9 => absurd (hp1.trans hp2.symm) c9)
  exact kk _ _ _ _ _ _ _ _ _ _ H locs hI hw

set_option maxHeartbeats 4000000 in
theorem lc_out (F : kF p m c code 4 s args R_law G cJ cI) (hA : ∀ q : Nat, s.heap.size ≤ q → A q) {b L : Nat} {xs : Nat → Int32} (hX : va_X b L xs s s.heap) (hbl : b < s.heap.size) (hbA : ¬ A b) (hL : L ≤ 2048) (j : Nat) (hj : j + 4 ≤ L) {ad : Nat → Nat → Nat} {am : Nat → Nat} (hcs : cells ≤ room_1.cells ∧ slots ≤ room_1.slots) {ls : Array Slot} (hl : lv_has ls 4 [(0, .ref b), (1, .ref (ad 0 0)), (2, .ref (am 0)), (3, .int (nI j))])
    (kk : ∀ (P S : Nat → Nat → Int64) (rw : Nat → Int64) (D : Nat → Int32) (U sc pt : Nat → Int64) (ph : Int32) (a : Nat) (rs : Int32) (H : Heap) (locs : List Loc), INV P D sc pt ph a → kW G A s H locs (cW cJ ad P S rw (sc, pt, ph, nI a, rs) ++ mW cJ cI am D U (sc, pt, ph, nI a, rs)) → W p l e room_1 s m args below meth c H locs cells slots Q (F0 m 442 ls []))
    {P S : Nat → Nat → Int64} {rw : Nat → Int64} {D : Nat → Int32} {U sc pt : Nat → Int64} {ph : Int32} {a : Nat} {rs : Int32} {H : Heap} {locs : List Loc} (hI : INV P D sc pt ph a) (hw : kW G A s H locs (cW cJ ad P S rw (sc, pt, ph, nI a, rs) ++ mW cJ cI am D U (sc, pt, ph, nI a, rs))) : W p l e room_1 s m args below meth c H locs cells slots Q (F0 m 314 ls []) := by
  refine lv_aload_n F.1.1 F.1.2.1 dL_law_314 rfl (lv_at hl 1 rfl) ?_
  refine lv_aload_n F.1.1 F.1.2.1 dL_law_315 rfl (lv_at hl 0 rfl) ?_
  refine lv_iload_n F.1.1 F.1.2.1 dL_law_316 rfl (lv_at hl 3 rfl) ?_
  refine lv_iconst (v := nI 1) F.1.1 F.1.2.1 dL_law_317 (by decide) ?_
  refine lv_iadd F.1.1 F.1.2.1 dL_law_318 ?_
  refine kTi (nI_add _ _) ?_
  refine kSld F hX hbl hbA hL hw (j + 1) (by omega) dL_law_319 ?_
  refine kClR (As := [.int (xs (j + 1))]) F hw.swap hA (met_X0_out _) (cwV 1 F.1.2.2.2.2 (lw_V q225 q226 q227 q21 q228) rfl rfl rfl (by decide +kernel) ⟨Nat.le_of_ble_eq_true rfl, Nat.le_of_ble_eq_true rfl⟩) cRcD rfl hl.1 rfl (Nat.le_of_ble_eq_true rfl) dL_law_320 hcs (fun r1 u1 H locs hp1 hw => ?_)
  refine lv_aload_n F.1.1 F.1.2.1 dL_law_323 rfl (lv_at hl 2 rfl) ?_
  refine lv_aload_n F.1.1 F.1.2.1 dL_law_324 rfl (lv_at hl 0 rfl) ?_
  refine lv_iload_n F.1.1 F.1.2.1 dL_law_325 rfl (lv_at hl 3 rfl) ?_
  refine lv_iconst (v := nI 1) F.1.1 F.1.2.1 dL_law_326 (by decide) ?_
  refine lv_iadd F.1.1 F.1.2.1 dL_law_327 ?_
  refine kTi (nI_add _ _) ?_
  refine kSld F hX hbl hbA hL hw (j + 1) (by omega) dL_law_328 ?_
  refine kClR (As := [.int (xs (j + 1))]) F hw.swap hA (met_X3_out _) (cwV 1 F.1.2.2.2.2 (lw_V q385 q386 q387 q24 q388) rfl rfl rfl (by decide +kernel) ⟨Nat.le_of_ble_eq_true rfl, Nat.le_of_ble_eq_true rfl⟩) mRc rfl hl.1 rfl (Nat.le_of_ble_eq_true rfl) dL_law_329 hcs (fun r2 u2 H locs hp2 hw => ?_)
  refine W.lcmp F.1.1 F.1.2.1 dL_law_332 ?_
  refine lv_if_eq (tgt := 442) F.1.1 F.1.2.1 dL_law_333 (by decide) (fun _ => ?_) (fun c9 => absurd ((lg_cmp_eq _ _).mpr (hp1.trans ((o_eq hI _).trans hp2.symm))) c9)
  exact kk _ _ _ _ _ _ _ _ _ _ H locs hI hw

set_option maxHeartbeats 4000000 in
theorem lc_part (F : kF p m c code 4 s args R_law G cJ cI) (hA : ∀ q : Nat, s.heap.size ≤ q → A q) {b L : Nat} {xs : Nat → Int32} (hX : va_X b L xs s s.heap) (hbl : b < s.heap.size) (hbA : ¬ A b) (hL : L ≤ 2048) (j : Nat) (hj : j + 4 ≤ L) {ad : Nat → Nat → Nat} {am : Nat → Nat} (hcs : cells ≤ room_1.cells ∧ slots ≤ room_1.slots) {ls : Array Slot} (hl : lv_has ls 4 [(0, .ref b), (1, .ref (ad 0 0)), (2, .ref (am 0)), (3, .int (nI j))])
    (kk : ∀ (P S : Nat → Nat → Int64) (rw : Nat → Int64) (D : Nat → Int32) (U sc pt : Nat → Int64) (ph : Int32) (a : Nat) (rs : Int32) (H : Heap) (locs : List Loc), INV P D sc pt ph a → kW G A s H locs (cW cJ ad P S rw (sc, pt, ph, nI a, rs) ++ mW cJ cI am D U (sc, pt, ph, nI a, rs)) → W p l e room_1 s m args below meth c H locs cells slots Q (F0 m 442 ls []))
    {P S : Nat → Nat → Int64} {rw : Nat → Int64} {D : Nat → Int32} {U sc pt : Nat → Int64} {ph : Int32} {a : Nat} {rs : Int32} {H : Heap} {locs : List Loc} (hI : INV P D sc pt ph a) (hw : kW G A s H locs (cW cJ ad P S rw (sc, pt, ph, nI a, rs) ++ mW cJ cI am D U (sc, pt, ph, nI a, rs))) : W p l e room_1 s m args below meth c H locs cells slots Q (F0 m 338 ls []) := by
  refine lv_aload_n F.1.1 F.1.2.1 dL_law_338 rfl (lv_at hl 1 rfl) ?_
  refine lv_aload_n F.1.1 F.1.2.1 dL_law_339 rfl (lv_at hl 0 rfl) ?_
  refine lv_iload_n F.1.1 F.1.2.1 dL_law_340 rfl (lv_at hl 3 rfl) ?_
  refine lv_iconst (v := nI 1) F.1.1 F.1.2.1 dL_law_341 (by decide) ?_
  refine lv_iadd F.1.1 F.1.2.1 dL_law_342 ?_
  refine kTi (nI_add _ _) ?_
  refine kSld F hX hbl hbA hL hw (j + 1) (by omega) dL_law_343 ?_
  refine lv_aload_n F.1.1 F.1.2.1 dL_law_344 rfl (lv_at hl 0 rfl) ?_
  refine lv_iload_n F.1.1 F.1.2.1 dL_law_345 rfl (lv_at hl 3 rfl) ?_
  refine lv_iconst (v := nI 2) F.1.1 F.1.2.1 dL_law_346 (by decide) ?_
  refine lv_iadd F.1.1 F.1.2.1 dL_law_347 ?_
  refine kTi (nI_add _ _) ?_
  refine kSld F hX hbl hbA hL hw (j + 2) (by omega) dL_law_348 ?_
  refine kClR (As := [.int (xs (j + 1)), .int (xs (j + 2))]) F hw.swap hA (met_X0_part _ _) (cwV 2 F.1.2.2.2.2 (lw_V q229 q230 q231 q21 q232) rfl rfl rfl (by decide +kernel) ⟨Nat.le_of_ble_eq_true rfl, Nat.le_of_ble_eq_true rfl⟩) cRcD rfl hl.1 rfl (Nat.le_of_ble_eq_true rfl) dL_law_349 hcs (fun r1 u1 H locs hp1 hw => ?_)
  refine lv_aload_n F.1.1 F.1.2.1 dL_law_352 rfl (lv_at hl 2 rfl) ?_
  refine lv_aload_n F.1.1 F.1.2.1 dL_law_353 rfl (lv_at hl 0 rfl) ?_
  refine lv_iload_n F.1.1 F.1.2.1 dL_law_354 rfl (lv_at hl 3 rfl) ?_
  refine lv_iconst (v := nI 1) F.1.1 F.1.2.1 dL_law_355 (by decide) ?_
  refine lv_iadd F.1.1 F.1.2.1 dL_law_356 ?_
  refine kTi (nI_add _ _) ?_
  refine kSld F hX hbl hbA hL hw (j + 1) (by omega) dL_law_357 ?_
  refine lv_aload_n F.1.1 F.1.2.1 dL_law_358 rfl (lv_at hl 0 rfl) ?_
  refine lv_iload_n F.1.1 F.1.2.1 dL_law_359 rfl (lv_at hl 3 rfl) ?_
  refine lv_iconst (v := nI 2) F.1.1 F.1.2.1 dL_law_360 (by decide) ?_
  refine lv_iadd F.1.1 F.1.2.1 dL_law_361 ?_
  refine kTi (nI_add _ _) ?_
  refine kSld F hX hbl hbA hL hw (j + 2) (by omega) dL_law_362 ?_
  refine kClR (As := [.int (xs (j + 1)), .int (xs (j + 2))]) F hw.swap hA (met_X3_part _ _) (cwV 2 F.1.2.2.2.2 (lw_V q389 q390 q391 q24 q392) rfl rfl rfl (by decide +kernel) ⟨Nat.le_of_ble_eq_true rfl, Nat.le_of_ble_eq_true rfl⟩) mRc rfl hl.1 rfl (Nat.le_of_ble_eq_true rfl) dL_law_363 hcs (fun r2 u2 H locs hp2 hw => ?_)
  refine W.lcmp F.1.1 F.1.2.1 dL_law_366 ?_
  refine lv_if_eq (tgt := 442) F.1.1 F.1.2.1 dL_law_367 (by decide) (fun _ => ?_) (fun c9 => absurd ((lg_cmp_eq _ _).mpr (pa_eq hI hp1.2 hp2)) c9)
  exact kk _ _ _ _ _ _ _ _ _ _ H locs (i_ne12 hI hp1.1) hw

set_option maxHeartbeats 4000000 in
theorem lc_told (F : kF p m c code 4 s args R_law G cJ cI) (hA : ∀ q : Nat, s.heap.size ≤ q → A q) {b L : Nat} {xs : Nat → Int32} (hX : va_X b L xs s s.heap) (hbl : b < s.heap.size) (hbA : ¬ A b) (hL : L ≤ 2048) (j : Nat) (hj : j + 4 ≤ L) {ad : Nat → Nat → Nat} {am : Nat → Nat} (hcs : cells ≤ room_1.cells ∧ slots ≤ room_1.slots) {ls : Array Slot} (hl : lv_has ls 4 [(0, .ref b), (1, .ref (ad 0 0)), (2, .ref (am 0)), (3, .int (nI j))])
    (kk : ∀ (P S : Nat → Nat → Int64) (rw : Nat → Int64) (D : Nat → Int32) (U sc pt : Nat → Int64) (ph : Int32) (a : Nat) (rs : Int32) (H : Heap) (locs : List Loc), INV P D sc pt ph a → kW G A s H locs (cW cJ ad P S rw (sc, pt, ph, nI a, rs) ++ mW cJ cI am D U (sc, pt, ph, nI a, rs)) → W p l e room_1 s m args below meth c H locs cells slots Q (F0 m 442 ls []))
    {P S : Nat → Nat → Int64} {rw : Nat → Int64} {D : Nat → Int32} {U sc pt : Nat → Int64} {ph : Int32} {a : Nat} {rs : Int32} {H : Heap} {locs : List Loc} (hI : INV P D sc pt ph a) (hw : kW G A s H locs (cW cJ ad P S rw (sc, pt, ph, nI a, rs) ++ mW cJ cI am D U (sc, pt, ph, nI a, rs))) : W p l e room_1 s m args below meth c H locs cells slots Q (F0 m 372 ls []) := by
  refine lv_aload_n F.1.1 F.1.2.1 dL_law_372 rfl (lv_at hl 1 rfl) ?_
  refine lv_aload_n F.1.1 F.1.2.1 dL_law_373 rfl (lv_at hl 0 rfl) ?_
  refine lv_iload_n F.1.1 F.1.2.1 dL_law_374 rfl (lv_at hl 3 rfl) ?_
  refine lv_iconst (v := nI 1) F.1.1 F.1.2.1 dL_law_375 (by decide) ?_
  refine lv_iadd F.1.1 F.1.2.1 dL_law_376 ?_
  refine kTi (nI_add _ _) ?_
  refine kSld F hX hbl hbA hL hw (j + 1) (by omega) dL_law_377 ?_
  refine lv_aload_n F.1.1 F.1.2.1 dL_law_378 rfl (lv_at hl 0 rfl) ?_
  refine lv_iload_n F.1.1 F.1.2.1 dL_law_379 rfl (lv_at hl 3 rfl) ?_
  refine lv_iconst (v := nI 2) F.1.1 F.1.2.1 dL_law_380 (by decide) ?_
  refine lv_iadd F.1.1 F.1.2.1 dL_law_381 ?_
  refine kTi (nI_add _ _) ?_
  refine kSld F hX hbl hbA hL hw (j + 2) (by omega) dL_law_382 ?_
  refine kClR (As := [.int (xs (j + 1)), .int (xs (j + 2))]) F hw.swap hA (met_X0_told _ _) (cwV 2 F.1.2.2.2.2 (lw_V q237 q238 q239 q21 q240) rfl rfl rfl (by decide +kernel) ⟨Nat.le_of_ble_eq_true rfl, Nat.le_of_ble_eq_true rfl⟩) cRcD rfl hl.1 rfl (Nat.le_of_ble_eq_true rfl) dL_law_383 hcs (fun r1 u1 H locs hp1 hw => ?_)
  refine lv_aload_n F.1.1 F.1.2.1 dL_law_386 rfl (lv_at hl 2 rfl) ?_
  refine lv_aload_n F.1.1 F.1.2.1 dL_law_387 rfl (lv_at hl 0 rfl) ?_
  refine lv_iload_n F.1.1 F.1.2.1 dL_law_388 rfl (lv_at hl 3 rfl) ?_
  refine lv_iconst (v := nI 1) F.1.1 F.1.2.1 dL_law_389 (by decide) ?_
  refine lv_iadd F.1.1 F.1.2.1 dL_law_390 ?_
  refine kTi (nI_add _ _) ?_
  refine kSld F hX hbl hbA hL hw (j + 1) (by omega) dL_law_391 ?_
  refine lv_aload_n F.1.1 F.1.2.1 dL_law_392 rfl (lv_at hl 0 rfl) ?_
  refine lv_iload_n F.1.1 F.1.2.1 dL_law_393 rfl (lv_at hl 3 rfl) ?_
  refine lv_iconst (v := nI 2) F.1.1 F.1.2.1 dL_law_394 (by decide) ?_
  refine lv_iadd F.1.1 F.1.2.1 dL_law_395 ?_
  refine kTi (nI_add _ _) ?_
  refine kSld F hX hbl hbA hL hw (j + 2) (by omega) dL_law_396 ?_
  refine kClR (As := [.int (xs (j + 1)), .int (xs (j + 2))]) F hw.swap hA (met_X3_told _ _) (cwV 2 F.1.2.2.2.2 (lw_V q393 q394 q395 q24 q396) rfl rfl rfl (by decide +kernel) ⟨Nat.le_of_ble_eq_true rfl, Nat.le_of_ble_eq_true rfl⟩) mRc rfl hl.1 rfl (Nat.le_of_ble_eq_true rfl) dL_law_397 hcs (fun r2 u2 H locs hp2 hw => ?_)
  have hq := td_eq hI hp1.2 hp2
  refine W.lcmp F.1.1 F.1.2.1 dL_law_400 ?_
  refine lv_if_eq (tgt := 442) F.1.1 F.1.2.1 dL_law_401 (by decide) (fun _ => ?_) (fun c9 => absurd ((lg_cmp_eq _ _).mpr hq.1) c9)
  exact kk _ _ _ _ _ _ _ _ _ _ H locs (i_ne12 hq.2 hp1.1) hw

set_option maxHeartbeats 4000000 in
theorem lc_count (F : kF p m c code 4 s args R_law G cJ cI) (hA : ∀ q : Nat, s.heap.size ≤ q → A q) {b L : Nat} {xs : Nat → Int32} (hX : va_X b L xs s s.heap) (hbl : b < s.heap.size) (hbA : ¬ A b) (hL : L ≤ 2048) (j : Nat) (hj : j + 4 ≤ L) {ad : Nat → Nat → Nat} {am : Nat → Nat} (hcs : cells ≤ room_1.cells ∧ slots ≤ room_1.slots) {ls : Array Slot} (hl : lv_has ls 4 [(0, .ref b), (1, .ref (ad 0 0)), (2, .ref (am 0)), (3, .int (nI j))])
    (kk : ∀ (P S : Nat → Nat → Int64) (rw : Nat → Int64) (D : Nat → Int32) (U sc pt : Nat → Int64) (ph : Int32) (a : Nat) (rs : Int32) (H : Heap) (locs : List Loc), INV P D sc pt ph a → kW G A s H locs (cW cJ ad P S rw (sc, pt, ph, nI a, rs) ++ mW cJ cI am D U (sc, pt, ph, nI a, rs)) → W p l e room_1 s m args below meth c H locs cells slots Q (F0 m 442 ls []))
    {P S : Nat → Nat → Int64} {rw : Nat → Int64} {D : Nat → Int32} {U sc pt : Nat → Int64} {ph : Int32} {a : Nat} {rs : Int32} {H : Heap} {locs : List Loc} (hI : INV P D sc pt ph a) (hw : kW G A s H locs (cW cJ ad P S rw (sc, pt, ph, nI a, rs) ++ mW cJ cI am D U (sc, pt, ph, nI a, rs))) : W p l e room_1 s m args below meth c H locs cells slots Q (F0 m 406 ls []) := by
  refine lv_aload_n F.1.1 F.1.2.1 dL_law_406 rfl (lv_at hl 1 rfl) ?_
  refine lv_aload_n F.1.1 F.1.2.1 dL_law_407 rfl (lv_at hl 0 rfl) ?_
  refine lv_iload_n F.1.1 F.1.2.1 dL_law_408 rfl (lv_at hl 3 rfl) ?_
  refine lv_iconst (v := nI 1) F.1.1 F.1.2.1 dL_law_409 (by decide) ?_
  refine lv_iadd F.1.1 F.1.2.1 dL_law_410 ?_
  refine kTi (nI_add _ _) ?_
  refine kSld F hX hbl hbA hL hw (j + 1) (by omega) dL_law_411 ?_
  refine kCiR (As := [.int (xs (j + 1))]) F hw.swap hA (met_X0_count _) (cwV 1 F.1.2.2.2.2 (lw_V q241 q242 q243 q21 q244) rfl rfl rfl (by decide +kernel) ⟨Nat.le_of_ble_eq_true rfl, Nat.le_of_ble_eq_true rfl⟩) cRcD rfl hl.1 rfl (Nat.le_of_ble_eq_true rfl) dL_law_412 hcs (fun r1 u1 H locs hp1 hw => ?_)
  refine lv_aload_n F.1.1 F.1.2.1 dL_law_415 rfl (lv_at hl 2 rfl) ?_
  refine lv_aload_n F.1.1 F.1.2.1 dL_law_416 rfl (lv_at hl 0 rfl) ?_
  refine lv_iload_n F.1.1 F.1.2.1 dL_law_417 rfl (lv_at hl 3 rfl) ?_
  refine lv_iconst (v := nI 1) F.1.1 F.1.2.1 dL_law_418 (by decide) ?_
  refine lv_iadd F.1.1 F.1.2.1 dL_law_419 ?_
  refine kTi (nI_add _ _) ?_
  refine kSld F hX hbl hbA hL hw (j + 1) (by omega) dL_law_420 ?_
  refine kCiR (As := [.int (xs (j + 1))]) F hw.swap hA (met_X3_count _) (cwV 1 F.1.2.2.2.2 (lw_V q400 q401 q402 q24 q403) rfl rfl rfl (by decide +kernel) ⟨Nat.le_of_ble_eq_true rfl, Nat.le_of_ble_eq_true rfl⟩) mRc rfl hl.1 rfl (Nat.le_of_ble_eq_true rfl) dL_law_421 hcs (fun r2 u2 H locs hp2 hw => ?_)
  refine lv_icmp_eq (tgt := 442) F.1.1 F.1.2.1 dL_law_424 (by decide) (fun _ => ?_) (fun c9 => absurd (hp1.trans hp2.symm) c9)
  exact kk _ _ _ _ _ _ _ _ _ _ H locs hI hw

set_option maxHeartbeats 4000000 in
theorem lc_check (F : kF p m c code 4 s args R_law G cJ cI) (hA : ∀ q : Nat, s.heap.size ≤ q → A q) {b L : Nat} {xs : Nat → Int32} (hX : va_X b L xs s s.heap) (hbl : b < s.heap.size) (hbA : ¬ A b) (hL : L ≤ 2048) (j : Nat) (hj : j + 4 ≤ L) {ad : Nat → Nat → Nat} {am : Nat → Nat} (hcs : cells ≤ room_1.cells ∧ slots ≤ room_1.slots) {ls : Array Slot} (hl : lv_has ls 4 [(0, .ref b), (1, .ref (ad 0 0)), (2, .ref (am 0)), (3, .int (nI j))])
    (kk : ∀ (P S : Nat → Nat → Int64) (rw : Nat → Int64) (D : Nat → Int32) (U sc pt : Nat → Int64) (ph : Int32) (a : Nat) (rs : Int32) (H : Heap) (locs : List Loc), INV P D sc pt ph a → kW G A s H locs (cW cJ ad P S rw (sc, pt, ph, nI a, rs) ++ mW cJ cI am D U (sc, pt, ph, nI a, rs)) → W p l e room_1 s m args below meth c H locs cells slots Q (F0 m 442 ls []))
    {P S : Nat → Nat → Int64} {rw : Nat → Int64} {D : Nat → Int32} {U sc pt : Nat → Int64} {ph : Int32} {a : Nat} {rs : Int32} {H : Heap} {locs : List Loc} (hI : INV P D sc pt ph a) (hw : kW G A s H locs (cW cJ ad P S rw (sc, pt, ph, nI a, rs) ++ mW cJ cI am D U (sc, pt, ph, nI a, rs))) : W p l e room_1 s m args below meth c H locs cells slots Q (F0 m 429 ls []) := by
  refine lv_aload_n F.1.1 F.1.2.1 dL_law_429 rfl (lv_at hl 1 rfl) ?_
  refine kCiR (As := []) F hw.swap hA met_X0_check (cwV 0 F.1.2.2.2.2 (lw_V q245 q246 q247 q21 q248) rfl rfl rfl (by decide +kernel) ⟨Nat.le_of_ble_eq_true rfl, Nat.le_of_ble_eq_true rfl⟩) cRcD rfl hl.1 rfl (Nat.le_of_ble_eq_true rfl) dL_law_430 hcs (fun r1 u1 H locs hp1 hw => ?_)
  refine lv_aload_n F.1.1 F.1.2.1 dL_law_433 rfl (lv_at hl 2 rfl) ?_
  refine kCiR (As := []) F hw.swap hA met_X3_check (cwV 0 F.1.2.2.2.2 (lw_V q404 q405 q406 q24 q407) rfl rfl rfl (by decide +kernel) ⟨Nat.le_of_ble_eq_true rfl, Nat.le_of_ble_eq_true rfl⟩) mRc rfl hl.1 rfl (Nat.le_of_ble_eq_true rfl) dL_law_434 hcs (fun r2 u2 H locs hp2 hw => ?_)
  have hq := ck2 hI hp1 hp2
  refine lv_icmp_eq (tgt := 442) F.1.1 F.1.2.1 dL_law_437 (by decide) (fun _ => ?_) (fun c9 => absurd hq.1 c9)
  exact kk _ _ _ _ _ _ _ _ _ _ H locs hq.2 hw

theorem lc_end {L j : Nat} (hL : L ≤ 2048) (hj : j ≤ 5000) (h : L < j + 4) : Int32.ofNat L - nI 4 < nI j := by
  show nI L - nI 4 < nI j
  rw [Int32.lt_iff_toInt_lt, pk_sub_toInt (by omega) (by omega), nI_toInt (by omega)]
  omega

set_option maxHeartbeats 8000000 in
theorem lc_loop (F : kF p m c code 4 s args R_law G cJ cI) (hA : ∀ q : Nat, s.heap.size ≤ q → A q) {b L : Nat} {xs : Nat → Int32} (hX : va_X b L xs s s.heap) (hbl : b < s.heap.size) (hbA : ¬ A b) (hL : L ≤ 2048) {ad : Nat → Nat → Nat} {am : Nat → Nat} (hcs : cells ≤ room_1.cells ∧ slots ≤ room_1.slots)
    (kk : ∀ (H : Heap) (locs : List Loc) (ls : Array Slot) (w : va_W), kW G A s H locs w → W p l e room_1 s m args below meth c H locs cells slots Q (F0 m 448 ls [])) :
    ∀ (n j : Nat), L ≤ j + 4 * n → j ≤ L + 4 → ∀ (P S : Nat → Nat → Int64) (rw : Nat → Int64) (D : Nat → Int32) (U sc pt : Nat → Int64) (ph : Int32) (a : Nat) (rs : Int32) (H : Heap) (locs : List Loc) (ls : Array Slot), INV P D sc pt ph a → kW G A s H locs (cW cJ ad P S rw (sc, pt, ph, nI a, rs) ++ mW cJ cI am D U (sc, pt, ph, nI a, rs)) → lv_has ls 4 [(0, .ref b), (1, .ref (ad 0 0)), (2, .ref (am 0)), (3, .int (nI j))] → W p l e room_1 s m args below meth c H locs cells slots Q (F0 m 18 ls []) := by
  intro n
  induction n with
  | zero =>
    intro j h1 h2 P S rw D U sc pt ph a rs H locs ls hI hw hl
    refine lv_iload_n F.1.1 F.1.2.1 dL_law_18 rfl (lv_at hl 3 rfl) ?_
    refine lv_aload_n F.1.1 F.1.2.1 dL_law_19 rfl (lv_at hl 0 rfl) ?_
    refine va_slen F.1.1 F.1.2.1 hX hbl hbA hw.2.2 dL_law_20 ?_
    refine lv_iconst (v := nI 4) F.1.1 F.1.2.1 dL_law_21 (by decide) ?_
    refine lv_isub F.1.1 F.1.2.1 dL_law_22 ?_
    refine lv_icmp_gt (tgt := 448) F.1.1 F.1.2.1 dL_law_23 (by decide) (fun _ => ?_) (fun c9 => absurd (lc_end (L := L) (by omega) (by omega) (by omega)) c9)
    exact kk H locs ls _ hw
  | succ n ih =>
    intro j h1 h2 P S rw D U sc pt ph a rs H locs ls hI hw hl
    refine lv_iload_n F.1.1 F.1.2.1 dL_law_18 rfl (lv_at hl 3 rfl) ?_
    refine lv_aload_n F.1.1 F.1.2.1 dL_law_19 rfl (lv_at hl 0 rfl) ?_
    refine va_slen F.1.1 F.1.2.1 hX hbl hbA hw.2.2 dL_law_20 ?_
    refine lv_iconst (v := nI 4) F.1.1 F.1.2.1 dL_law_21 (by decide) ?_
    refine lv_isub F.1.1 F.1.2.1 dL_law_22 ?_
    refine lv_icmp_gt (tgt := 448) F.1.1 F.1.2.1 dL_law_23 (by decide) (fun _ => kk H locs ls _ hw) (fun c9 => ?_)
    have hj : j + 4 ≤ L := Nat.le_of_not_lt (fun h9 => c9 (lc_end (L := L) (by omega) (by omega) (by omega)))
    refine lv_aload_n F.1.1 F.1.2.1 dL_law_26 rfl (lv_at hl 0 rfl) ?_
    refine lv_iload_n F.1.1 F.1.2.1 dL_law_27 rfl (lv_at hl 3 rfl) ?_
    refine kSld F hX hbl hbA hL hw j (by omega) dL_law_28 ?_
    refine lv_bipush (v := nI 15) F.1.1 F.1.2.1 dL_law_29 (by decide) ?_
    refine lv_iand F.1.1 F.1.2.1 dL_law_31 ?_
    obtain ⟨z, hz, ez⟩ := pk_andE (xs j) (m := nI 15) 4 (by decide)
    refine kTi ez ?_
    have kb : ∀ (P S : Nat → Nat → Int64) (rw : Nat → Int64) (D : Nat → Int32) (U sc pt : Nat → Int64) (ph : Int32) (a : Nat) (rs : Int32) (H : Heap) (locs : List Loc), INV P D sc pt ph a → kW G A s H locs (cW cJ ad P S rw (sc, pt, ph, nI a, rs) ++ mW cJ cI am D U (sc, pt, ph, nI a, rs)) → W p l e room_1 s m args below meth c H locs cells slots Q (F0 m 442 ls []) := by
      intro P S rw D U sc pt ph a rs H locs hI hw
      refine lv_iinc (v := nI (j + 4)) (lv' := [(3, .int (nI (j + 4))), (0, .ref b), (1, .ref (ad 0 0)), (2, .ref (am 0))]) F.1.1 F.1.2.1 dL_law_442 hl (k := 3) rfl (nI_add j 4) (by decide) rfl (fun ls hl => ?_)
      refine lv_goto (tgt := 18) F.1.1 F.1.2.1 dL_law_445 (by decide) ?_
      exact ih (j + 4) (by omega) (by omega) P S rw D U sc pt ph a rs H locs ls hI hw (lv_sub hl [1, 2, 3, 0] rfl)
    by_cases h13 : 13 ≤ z
    · refine lv_tableOut (tgt := 442) F.1.1 F.1.2.1 dL_law_32 (Or.inr (by rw [nI_toInt (by omega)]; omega)) (by decide) ?_
      exact kb P S rw D U sc pt ph a rs H locs hI hw
    rcases (show z = 0 ∨ z = 1 ∨ z = 2 ∨ z = 3 ∨ z = 4 ∨ z = 5 ∨ z = 6 ∨ z = 7 ∨ z = 8 ∨ z = 9 ∨ z = 10 ∨ z = 11 ∨ z = 12 by omega) with rfl | rfl | rfl | rfl | rfl | rfl | rfl | rfl | rfl | rfl | rfl | rfl | rfl
    · refine lv_tableIn (tgt := 100) F.1.1 F.1.2.1 dL_law_32 (by decide) (by decide) rfl (by decide) ?_
      exact lc_scalar F hA hX hbl hbA hL j hj hcs hl kb hI hw
    · refine lv_tableIn (tgt := 163) F.1.1 F.1.2.1 dL_law_32 (by decide) (by decide) rfl (by decide) ?_
      exact lc_point F hA hX hbl hbA hL j hj hcs hl kb hI hw
    · refine lv_tableIn (tgt := 226) F.1.1 F.1.2.1 dL_law_32 (by decide) (by decide) rfl (by decide) ?_
      exact lc_start F hA hX hbl hbA hL j hj hcs hl kb hI hw
    · refine lv_tableIn (tgt := 239) F.1.1 F.1.2.1 dL_law_32 (by decide) (by decide) rfl (by decide) ?_
      exact lc_step F hA hX hbl hbA hL j hj hcs hl kb hI hw
    · refine lv_tableIn (tgt := 262) F.1.1 F.1.2.1 dL_law_32 (by decide) (by decide) rfl (by decide) ?_
      exact lc_finish F hA hX hbl hbA hL j hj hcs hl kb hI hw
    · refine lv_tableIn (tgt := 275) F.1.1 F.1.2.1 dL_law_32 (by decide) (by decide) rfl (by decide) ?_
      exact lc_again F hA hX hbl hbA hL j hj hcs hl kb hI hw
    · refine lv_tableIn (tgt := 288) F.1.1 F.1.2.1 dL_law_32 (by decide) (by decide) rfl (by decide) ?_
      exact lc_reset F hA hX hbl hbA hL j hj hcs hl kb hI hw
    · refine lv_tableIn (tgt := 301) F.1.1 F.1.2.1 dL_law_32 (by decide) (by decide) rfl (by decide) ?_
      exact lc_phase F hA hX hbl hbA hL j hj hcs hl kb hI hw
    · refine lv_tableIn (tgt := 314) F.1.1 F.1.2.1 dL_law_32 (by decide) (by decide) rfl (by decide) ?_
      exact lc_out F hA hX hbl hbA hL j hj hcs hl kb hI hw
    · refine lv_tableIn (tgt := 338) F.1.1 F.1.2.1 dL_law_32 (by decide) (by decide) rfl (by decide) ?_
      exact lc_part F hA hX hbl hbA hL j hj hcs hl kb hI hw
    · refine lv_tableIn (tgt := 372) F.1.1 F.1.2.1 dL_law_32 (by decide) (by decide) rfl (by decide) ?_
      exact lc_told F hA hX hbl hbA hL j hj hcs hl kb hI hw
    · refine lv_tableIn (tgt := 406) F.1.1 F.1.2.1 dL_law_32 (by decide) (by decide) rfl (by decide) ?_
      exact lc_count F hA hX hbl hbA hL j hj hcs hl kb hI hw
    · refine lv_tableIn (tgt := 429) F.1.1 F.1.2.1 dL_law_32 (by decide) (by decide) rfl (by decide) ?_
      exact lc_check F hA hX hbl hbA hL j hj hcs hl kb hI hw

end LC
end
section
set_option maxRecDepth 100000
theorem Kn4 {s0 : State} {b0 : Addr} (ht0 : ∀ w ∈ lw_tbl, w.before #[Value.ref b0] s0 = true) : ∃ G : va_G, ∀ (k : Nat) (q : vw_C), kCl[k]? = some q → u_Kn s0 q.1 q.2.1 q.2.2 (G.1 k) (G.2 k) := by
  obtain ⟨c0_, iS0, hKn0⟩ := u_known (C := RX0) (T := TX0) (N := 19) (n := 19) ht0 (fun w h => lw_all_tbl (in_X0 w h)) (ht0 _ (lw_all_tbl q27))
  obtain ⟨c1_, iS1, hKn1⟩ := u_known (C := RX1) (T := TX1) (N := 1) (n := 1) ht0 (fun w h => lw_all_tbl (in_X1 w h)) (ht0 _ (lw_all_tbl q35))
  obtain ⟨c2_, iS2, hKn2⟩ := u_known (C := RX2) (T := TX2) (N := 2) (n := 2) ht0 (fun w h => lw_all_tbl (in_X2 w h)) (ht0 _ (lw_all_tbl q46))
  obtain ⟨c3_, iS3, hKn3⟩ := u_known (C := RX3) (T := TX3) (N := 7) (n := 7) ht0 (fun w h => lw_all_tbl (in_X3 w h)) (ht0 _ (lw_all_tbl q254))
  refine ⟨(fun k => if k = 0 then c0_ else if k = 1 then c1_ else if k = 2 then c2_ else c3_, fun k => if k = 0 then iS0 else if k = 1 then iS1 else if k = 2 then iS2 else iS3), ?_⟩
  intro k q hq
  match k, hq with
  | 0, hq => cases hq; exact hKn0
  | 1, hq => cases hq; exact hKn1
  | 2, hq => cases hq; exact hKn2
  | 3, hq => cases hq; exact hKn3
  | k + 4, hq => simp [kCl] at hq
theorem Arr1 {s0 : State} {b0 : Addr} (h : (Cond.arrayClass .long).before #[Value.ref b0] s0 = true) : ∃ cJ : ClassId, ArrOfT s0 cJ .long ∧ va_RA s0 cJ .long := by
  obtain ⟨c, k, comp, h1, h2, h3⟩ := Cond.arrayClass_spec h
  exact ⟨c, fun n z => ⟨fun k h => (by cases h), k, h2, comp, h3⟩, h1⟩
theorem Arr2 {s0 : State} {b0 : Addr} (h : (Cond.arrayClass .int).before #[Value.ref b0] s0 = true) : ∃ cJ : ClassId, ArrOfT s0 cJ .int ∧ va_RA s0 cJ .int := by
  obtain ⟨c, k, comp, h1, h2, h3⟩ := Cond.arrayClass_spec h
  exact ⟨c, fun n z => ⟨fun k h => (by cases h), k, h2, comp, h3⟩, h1⟩
theorem inv_0 : INV smP zD zL zL 0 0 := by
  refine ⟨by decide, Or.inl rfl, ⟨by decide, by decide, fun j h1 h2 => ?_⟩, fun h9 => absurd rfl h9, fun h9 => absurd h9 (by decide)⟩
  rcases (show j = 2 ∨ j = 3 ∨ j = 4 ∨ j = 5 ∨ j = 6 ∨ j = 7 ∨ j = 8 ∨ j = 9 ∨ j = 10 ∨ j = 11 ∨ j = 12 ∨ j = 13 ∨ j = 14 ∨ j = 15 by omega) with rfl | rfl | rfl | rfl | rfl | rfl | rfl | rfl | rfl | rfl | rfl | rfl | rfl | rfl <;> decide
set_option maxHeartbeats 8000000 in
/-- from the entry, for every script of at most 2048 ints, the law comes to its end with true -/
theorem whole_start {p : Program} {e : Env} {s : State} {m : MethodId} {below : List Frame} {meth : Method} {c : Code} (l : Launch) {b L : Nat} {xs : Nat → Int32} (hL : L ≤ 2048) (C0 : lw_At p s m meth c b L xs) : W p l e room_1 s m #[Value.ref b] below meth c s.heap [] 0 0 (lw_Z below #[Value.ref b] s) (entryFrame m ([Value.ref b] : List Value).toArray 4) := by
  obtain ⟨hx, hb, hr, hml, hown, hts0, hX, hbl, hlocks, hgv⟩ := C0
  obtain ⟨G, hKn⟩ := Kn4 hts0
  obtain ⟨cJ, hJ⟩ := Arr1 (hts0 _ (lw_all_tbl q44))
  obtain ⟨cI, hI⟩ := Arr2 (hts0 _ (lw_all_tbl q281))
  have hts : ∀ w ∈ lw_all, w.before #[Value.ref b] s = true := fun w h => hts0 w (lw_all_tbl h)
  have hK : kK G cJ cI s := ⟨⟨hKn, fun k q hk => by
    match k, hk with
    | 0, hk => cases hk; exact hJ
    | 1, hk => cases hk; exact hI
    | k + 2, hk => simp [kT] at hk⟩, va_Nw.of rfl (hts0 _ q36), va_Nw.of rfl (hts0 _ q47), va_Nw.of rfl (hts0 _ q52), va_Nw.of rfl (hts0 _ q53)⟩
  have F : kF p m c code 4 s #[Value.ref b] R_law G cJ cI := ⟨⟨hx, hb, hml, hown, hts⟩, hK⟩
  obtain ⟨A, hAe⟩ : ∃ A : Nat → Prop, A = fun q => s.heap.size ≤ q := ⟨_, rfl⟩
  have hA : ∀ q : Nat, s.heap.size ≤ q → A q := fun q h => by rw [hAe]; exact h
  have hA2 : ∀ q : Nat, A q → s.heap.size ≤ q := fun q h => by rw [hAe] at h; exact h
  have hbA : ¬ A b := fun h => absurd (hA2 b h) (by omega)
  have hw : kW G A s s.heap [] [] := ⟨fun k q hk => by simp at hk, ⟨fun i j p q hi => by simp at hi, fun k q hk => by simp at hk⟩, va_S.rf⟩
  have hl := lv_entry ([.ref b]) (n := 4) (Nat.le_of_ble_eq_true rfl)
  rw [lg_entry_eq]
  generalize (lg_sl ([.ref b]) ++ List.replicate (4 - (lg_sl ([.ref b])).length) Slot.unset).toArray = ls at hl ⊢
  have hl : lv_has ls 4 [(0, .ref b)] := hl
  refine va_new (ci := 0) (fs := [.null, .null, .int 0, .int 0, .int 0, .null, .null, .null, .null, .null, .null, .null, .null, .null, .null, .null, .null, .null, .null]) (C := RX0) (T := TX0) (N := 19) hx hb hts in_X0 tyX0 tyX0_ok hown (hts _ q26) (hts _ q27) (hts _ q21) hK.1 hw.1 hw.2.1 hw.2.2 hA rfl (fun j hj => by rcases (show j = 0 ∨ j = 1 ∨ j = 2 ∨ j = 3 ∨ j = 4 ∨ j = 5 ∨ j = 6 ∨ j = 7 ∨ j = 8 ∨ j = 9 ∨ j = 10 ∨ j = 11 ∨ j = 12 ∨ j = 13 ∨ j = 14 ∨ j = 15 ∨ j = 16 ∨ j = 17 ∨ j = 18 by omega) with rfl | rfl | rfl | rfl | rfl | rfl | rfl | rfl | rfl | rfl | rfl | rfl | rfl | rfl | rfl | rfl | rfl | rfl | rfl <;> rfl) (Nat.le_of_ble_eq_true rfl) (Nat.le_of_ble_eq_true rfl) dL_law_0 (fun q1 H hP hD hS => ?_)
  refine lv_dup hx hb dL_law_3 rfl ?_
  refine kCcR (G := G) (cJ := cJ) (cI := cI) (nL := 4) (v := []) F ⟨hP, hD, hS⟩ hA (met_X0_init q1) (cwI 0 hts (lw_meth q30) rfl rfl rfl (hts _ q21) (hts _ q28) (hts _ q29) rfl (by decide +kernel) ⟨Nat.le_of_ble_eq_true rfl, Nat.le_of_ble_eq_true rfl⟩) hl.1 (Nat.le_of_ble_eq_true rfl) dL_law_4 ⟨Nat.le_of_ble_eq_true rfl, Nat.le_of_ble_eq_true rfl⟩ (fun ad H locs had hw => ?_)
  have hw : kW G A s H locs (cW cJ ad smP zP zL (zL, zL, 0, 0, 0)) := hw
  rw [← had]
  refine lv_astore_n (lv' := [(1, .ref (ad 0 0)), (0, .ref b)]) hx hb dL_law_7 rfl hl (by decide) rfl (fun ls hl => ?_)
  refine va_new (ci := 3) (fs := [.int 0, .int 0, .int 0, .null, .null, .null, .null]) (C := RX3) (T := TX3) (N := 7) hx hb hts in_X3 tyX3 tyX3_ok hown (hts _ q253) (hts _ q254) (hts _ q24) hK.1 hw.1 hw.2.1 hw.2.2 hA rfl (fun j hj => by rcases (show j = 0 ∨ j = 1 ∨ j = 2 ∨ j = 3 ∨ j = 4 ∨ j = 5 ∨ j = 6 by omega) with rfl | rfl | rfl | rfl | rfl | rfl | rfl <;> rfl) (Nat.le_of_ble_eq_true rfl) (Nat.le_of_ble_eq_true rfl) dL_law_8 (fun q2 H hP hD hS => ?_)
  refine lv_dup hx hb dL_law_11 rfl ?_
  refine kCcR (G := G) (cJ := cJ) (cI := cI) (nL := 4) F ⟨hP, hD, hS⟩ hA (met_X3_init q2) (cwI 0 hts (lw_meth q257) rfl rfl rfl (hts _ q24) (hts _ q255) (hts _ q256) rfl (by decide +kernel) ⟨Nat.le_of_ble_eq_true rfl, Nat.le_of_ble_eq_true rfl⟩) hl.1 (Nat.le_of_ble_eq_true rfl) dL_law_12 ⟨Nat.le_of_ble_eq_true rfl, Nat.le_of_ble_eq_true rfl⟩ (fun am H locs ham hw => ?_)
  rw [← ham]
  refine lv_astore_n (lv' := [(2, .ref (am 0)), (1, .ref (ad 0 0)), (0, .ref b)]) hx hb dL_law_15 rfl hl (by decide) rfl (fun ls hl => ?_)
  refine lv_iconst (v := nI 0) hx hb dL_law_16 (by decide) ?_
  refine lv_istore_n (lv' := [(3, .int (nI 0)), (2, .ref (am 0)), (1, .ref (ad 0 0)), (0, .ref b)]) hx hb dL_law_17 rfl hl (by decide) rfl (fun ls hl => ?_)
  refine lc_loop F hA hX hbl hbA hL ⟨Nat.le_of_ble_eq_true rfl, Nat.le_of_ble_eq_true rfl⟩ (fun H locs ls w hw => ?_) L 0 (by omega) (by omega) smP zP zL zD zL zL zL 0 0 0 H locs ls inv_0 hw (lv_sub hl [3, 2, 1, 0] rfl)
  refine lv_iconst (v := 1) hx hb dL_law_448 (by decide) ?_
  refine va_forget (fun q hq => hA2 _ (hw.2.2.2.2 q hq)) ?_
  refine W.widen (k := 600000) (n := 7290000) (by omega) (by omega) ?_
  exact lw_ret hx hb hr hlocks dL_law_449
set_option maxHeartbeats 4000000 in
theorem lw_walk (l : Launch) (b : Addr) (xs : List Int32) : MetFree l x (headSpec (Jvm.Cond.code x code maxLocals ret :: tables_1) room_1) (lw_P b xs) (fun _ _ _ _ _ => True) lw_Q := by
  refine MetFree.of_bodyS (code := code) (maxLocals := maxLocals) (ret := ret) (by decide) ?_ ?_
  · intro args s m h hn
    obtain ⟨meth, c, h1, h2, h3, h4, h5, h6, -, -⟩ := Cond.code_spec hn (atoms_spec (ws := Jvm.Cond.code x code maxLocals ret :: tables_1) h _ List.mem_cons_self)
    exact ⟨meth, c, h1, h2, h3, h4, h5, h6⟩
  · intro p e s m args below meth c s₁ B hml0 hP _
    obtain ⟨rfl, hx, hbd, hgv⟩ := hP
    obtain ⟨scr, harrAt, hlist, hof, hsmall⟩ := hx
    obtain ⟨hcb, hkn, -, -⟩ := State.arrayAt?_spec harrAt
    have hown : s.vm.findClass R_law = some m.cls := findClass_of_methodNamed B.named
    have hts0 : ∀ c ∈ (Jvm.Cond.code x code maxLocals ret :: tables_1), c.before #[Value.ref b] s = true := atoms_spec (ws := Jvm.Cond.code x code maxLocals ret :: tables_1) B.pre
    have hts : ∀ w ∈ lw_tbl, w.before #[Value.ref b] s = true := k2_hts_sels lw_privs (fun w hw => hts0 w (List.mem_cons_of_mem _ hw)) lw_privs_ok
    have hml : c.maxLocals = 4 := B.maxLocals_eq (hts0 _ List.mem_cons_self)
    have X₀ : Stand p l e room_1 s m #[Value.ref b] below meth c s₁ [] 0 0 := Stand.of_body B
    have hh0 : s₁.heap = s.heap := by rw [B.state]; rfl
    have hsz : scr.slots.size = xs.length := by rw [← Array.length_toList, hlist, List.length_map]
    have hval : ∀ j : Nat, j < xs.length → scr.slots[j]? = some (.int (xs.getD j 0)) := fun j hj => by
      rw [← Array.getElem?_toList, hlist]
      simp [hj]
    have hbl : b < s.heap.size := (Array.getElem?_eq_some_iff.mp hcb).1
    have hX : va_X b xs.length (fun j => xs.getD j 0) s s.heap := ⟨scr, hcb, hof, hkn, hsz, hval⟩
    have K : W p l e room_1 s m #[Value.ref b] below meth c s₁.heap [] 0 0 (lw_Z below #[Value.ref b] s) (entryFrame m ([Value.ref b] : List Value).toArray 4) := by
      rw [hh0]
      exact whole_start l hbd ⟨B.exec, B.bytes, B.returns, hml, hown, hts, hX, hbl, B.notSynchronized, hgv⟩
    obtain ⟨t, a1, o, b1, b2, b3⟩ := K s₁ rfl X₀
    exact ⟨t, o, a1, b1, b2, b3⟩
theorem lw_pre_spec {args : Array Value} {s : State} (h : (Jvm.Cond.and given_1 narrow_1).before args s = true) (hr : rest_1_c.before args s = true) : ∃ (b : Addr) (xs : List Int32), lw_P b xs args s := by
  have hs := flat_of_before _ h
  have hq := flat_of_before _ hr
  have hc : (Cond.count 1).before args s = true := hs _ (by decide +kernel)
  have harr : (Cond.arrayOf (.arg 0) .int).before args s = true := hs _ (by decide +kernel)
  have hle : (Cond.le (.length (.arg 0)) (.int 2048)).before args s = true := hs _ (by decide +kernel)
  have hlen : (Cond.isInt (.length (.arg 0))).before args s = true := hq _ (by decide +kernel)
  have hall : (Cond.all (.arg 0) (.isInt (.elem (.arg 0) (.index 0)))).before args s = true := hq _ (by decide +kernel)
  obtain ⟨b, xs, hb, hx⟩ := State.ints_of_pre rfl harr hlen hall
  have hsm : xs.length < 2 ^ 31 := hx.choose_spec.2.2.2
  have hev : (Term.length (.arg 0)).eval args s none [] s = some (.int xs.length.toInt32) := hx.length_eval hb
  have hv := Cond.le_ints hev (show (Term.int 2048).eval args s none [] s = some (.int 2048) from rfl)
  have hd : xs.length.toInt32 ≤ 2048 := by
    simpa [Cond.before, Cond.holds, hv] using hle
  have hN : xs.length ≤ 2048 := (Int32.ofNat_le_ofNat hsm (by decide)).mp (show Int32.ofNat xs.length ≤ Int32.ofNat 2048 from hd)
  exact ⟨b, xs, Cond.one_arg hc (show args[0]? = some (.ref b) from hb), hx, hN, h⟩
theorem lw_comes (l : Launch) : Comes l x (Jvm.Cond.code x code maxLocals ret :: tables_1) room_1 (fun tb e args s => Calls_1 tb e args s ∧ rest_1 tb e args s ∧ Pre_1 tb e args s)
    (fun _ _ args s o t => lw_Q args s o t) := by
  intro p e ha hc hk s m args below hf hfit hheap happ hpre
  obtain ⟨b, xs, hP⟩ := lw_pre_spec hpre.2.2 hpre.2.1
  obtain ⟨k, o, h1, h2, h3, hQ⟩ := lw_walk l b xs p e ha hc hk s m args below hf ((Spec.applies_iff_loose hf).mp happ).1 hP trivial
  exact ⟨k, o, h1, h2, h3, hQ⟩
theorem lw_frame {s t : State} {o : Outcome} {args : Array Value} (h : Framed s o t [] 600000 7290000) :
    Framed s o t (fieldLocs frame_1_writes args s ++ arrayLocs frame_1_arrays args s ++ staticLocs frame_1_statics s) 600000 7290000 := h
theorem lw_limb (L : Cond) (hL : ∀ (args : Array Value) (s t : State), L.after args s (.returned (some (.int 1))) t = true) :
    ArmFor flags0 classFile x code maxLocals ret World_1 tables_1 room_1 Calls_1 rest_1 Pre_1
      (fun tb e a s o t => postC L tb e a s o t ∧ Framed s o t (fieldLocs frame_1_writes a s ++ arrayLocs frame_1_arrays a s ++ staticLocs frame_1_statics s) 600000 7290000) := by
  intro l _ _ _ p e ha hc hk s m args below hf hfit hheap happ hpre
  obtain ⟨k, o, h1, h2, h3, rfl, hF⟩ := lw_comes l p e ha hc hk s m args below hf hfit hheap happ hpre
  exact ⟨k, _, h1, h2, h3, hL args s _, lw_frame hF⟩
theorem i_vc : Claimed_1_1 ∧ Claimed_1_2 := ⟨lw_limb limb_1_1 (fun args s t => by simp [limb_1_1, Cond.after, Cond.holds, Cond.value]), lw_limb limb_1_2 (fun args s t => Cond.after_iff.mpr (by
  first | (rw [show limb_1_2 = Cond.eq .result (.int 1) from rfl, Cond.eq_ints (x := 1) (y := 1) rfl rfl]; simp; done) | (simp [limb_1_2, Cond.value, Term.eval]; done)))⟩
end
