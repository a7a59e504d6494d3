section
-- ===== PART A: goes FIRST, ahead of the names: the tables' words, and 'selects' of the private methods out of them =====
/-- a private method of a class that the tables say can be made, by its rows of tables_1 -/
def lw_okq (q : MethodName × Nat) : Prop := (q.1.cls ≠ "java/lang/invoke/MethodHandle" ∧ q.1.cls ≠ "java/lang/invoke/VarHandle") ∧ Cond.instantiable q.1.cls q.2 ∈ tables_1 ∧ Cond.privateMethod q.1 ∈ tables_1 ∧ Cond.instanceMethod q.1 ∈ tables_1
set_option maxRecDepth 100000
theorem lw_t1 {w : Cond} (h : w ∈ tables_1_1) : w ∈ tables_1 := List.mem_append_left _ h
theorem lw_t2 {w : Cond} (h : w ∈ tables_1_2) : w ∈ tables_1 := List.mem_append_right _ h
theorem lw_p0 : lw_okq (⟨"LeasedMessages", "makeReady", "(I)V"⟩, 21) := ⟨⟨by decide +kernel, by decide +kernel⟩, lw_t1 (List.mem_of_getElem? (i := 4) rfl), lw_t1 (List.mem_of_getElem? (i := 84) rfl), lw_t1 (List.mem_of_getElem? (i := 85) rfl)⟩
theorem lw_p1 : lw_okq (⟨"LeasedMessages", "rise", "(III)V"⟩, 21) := ⟨⟨by decide +kernel, by decide +kernel⟩, lw_t1 (List.mem_of_getElem? (i := 4) rfl), lw_t1 (List.mem_of_getElem? (i := 88) rfl), lw_t1 (List.mem_of_getElem? (i := 89) rfl)⟩
theorem lw_p2 : lw_okq (⟨"LeasedMessages", "before", "(II)Z"⟩, 21) := ⟨⟨by decide +kernel, by decide +kernel⟩, lw_t1 (List.mem_of_getElem? (i := 4) rfl), lw_t1 (List.mem_of_getElem? (i := 92) rfl), lw_t1 (List.mem_of_getElem? (i := 93) rfl)⟩
theorem lw_p3 : lw_okq (⟨"LeasedMessages", "place", "(III)V"⟩, 21) := ⟨⟨by decide +kernel, by decide +kernel⟩, lw_t1 (List.mem_of_getElem? (i := 4) rfl), lw_t1 (List.mem_of_getElem? (i := 96) rfl), lw_t1 (List.mem_of_getElem? (i := 97) rfl)⟩
theorem lw_p4 : lw_okq (⟨"LeasedMessages", "addLife", "(I)V"⟩, 21) := ⟨⟨by decide +kernel, by decide +kernel⟩, lw_t1 (List.mem_of_getElem? (i := 4) rfl), lw_t1 (List.mem_of_getElem? (i := 100) rfl), lw_t1 (List.mem_of_getElem? (i := 101) rfl)⟩
theorem lw_p5 : lw_okq (⟨"LeasedMessages", "diesBefore", "(II)Z"⟩, 21) := ⟨⟨by decide +kernel, by decide +kernel⟩, lw_t1 (List.mem_of_getElem? (i := 4) rfl), lw_t1 (List.mem_of_getElem? (i := 104) rfl), lw_t1 (List.mem_of_getElem? (i := 105) rfl)⟩
theorem lw_p6 : lw_okq (⟨"LeasedMessages", "takeOut", "(I)V"⟩, 21) := ⟨⟨by decide +kernel, by decide +kernel⟩, lw_t1 (List.mem_of_getElem? (i := 4) rfl), lw_t1 (List.mem_of_getElem? (i := 115) rfl), lw_t1 (List.mem_of_getElem? (i := 116) rfl)⟩
theorem lw_p7 : lw_okq (⟨"LeasedMessages", "sink", "(III)V"⟩, 21) := ⟨⟨by decide +kernel, by decide +kernel⟩, lw_t1 (List.mem_of_getElem? (i := 4) rfl), lw_t1 (List.mem_of_getElem? (i := 119) rfl), lw_t1 (List.mem_of_getElem? (i := 120) rfl)⟩
theorem lw_p8 : lw_okq (⟨"LeasedMessages", "addOut", "(I)V"⟩, 21) := ⟨⟨by decide +kernel, by decide +kernel⟩, lw_t1 (List.mem_of_getElem? (i := 4) rfl), lw_t1 (List.mem_of_getElem? (i := 123) rfl), lw_t1 (List.mem_of_getElem? (i := 124) rfl)⟩
theorem lw_p9 : lw_okq (⟨"LeasedMessages", "notOut", "(II)Z"⟩, 21) := ⟨⟨by decide +kernel, by decide +kernel⟩, lw_t1 (List.mem_of_getElem? (i := 4) rfl), lw_t1 (List.mem_of_getElem? (i := 131) rfl), lw_t1 (List.mem_of_getElem? (i := 132) rfl)⟩
theorem lw_p10 : lw_okq (⟨"LeasedMessages", "dropOut", "(I)V"⟩, 21) := ⟨⟨by decide +kernel, by decide +kernel⟩, lw_t1 (List.mem_of_getElem? (i := 4) rfl), lw_t1 (List.mem_of_getElem? (i := 135) rfl), lw_t1 (List.mem_of_getElem? (i := 136) rfl)⟩
theorem lw_p11 : lw_okq (⟨"LeasedMessages", "comeBack", "(I)V"⟩, 21) := ⟨⟨by decide +kernel, by decide +kernel⟩, lw_t1 (List.mem_of_getElem? (i := 4) rfl), lw_t1 (List.mem_of_getElem? (i := 143) rfl), lw_t1 (List.mem_of_getElem? (i := 144) rfl)⟩
theorem lw_p12 : lw_okq (⟨"LeasedMessages", "readyAgain", "(I)V"⟩, 21) := ⟨⟨by decide +kernel, by decide +kernel⟩, lw_t1 (List.mem_of_getElem? (i := 4) rfl), lw_t1 (List.mem_of_getElem? (i := 147) rfl), lw_t1 (List.mem_of_getElem? (i := 148) rfl)⟩
theorem lw_p13 : lw_okq (⟨"LeasedMessages", "inLives", "(I)Z"⟩, 21) := ⟨⟨by decide +kernel, by decide +kernel⟩, lw_t1 (List.mem_of_getElem? (i := 4) rfl), lw_t1 (List.mem_of_getElem? (i := 151) rfl), lw_t1 (List.mem_of_getElem? (i := 152) rfl)⟩
theorem lw_p14 : lw_okq (⟨"LeasedMessages", "firstLife", "()I"⟩, 21) := ⟨⟨by decide +kernel, by decide +kernel⟩, lw_t1 (List.mem_of_getElem? (i := 4) rfl), lw_t1 (List.mem_of_getElem? (i := 167) rfl), lw_t1 (List.mem_of_getElem? (i := 168) rfl)⟩
theorem lw_p15 : lw_okq (⟨"LeasedMessagesModel", "three", "(I)Z"⟩, 12) := ⟨⟨by decide +kernel, by decide +kernel⟩, lw_t1 (List.mem_of_getElem? (i := 203) rfl), lw_t2 (List.mem_of_getElem? (i := 10) rfl), lw_t2 (List.mem_of_getElem? (i := 11) rfl)⟩
def lw_privs_1 : List (MethodName × Nat) := [(⟨"LeasedMessages", "makeReady", "(I)V"⟩, 21), (⟨"LeasedMessages", "rise", "(III)V"⟩, 21), (⟨"LeasedMessages", "before", "(II)Z"⟩, 21), (⟨"LeasedMessages", "place", "(III)V"⟩, 21), (⟨"LeasedMessages", "addLife", "(I)V"⟩, 21), (⟨"LeasedMessages", "diesBefore", "(II)Z"⟩, 21), (⟨"LeasedMessages", "takeOut", "(I)V"⟩, 21), (⟨"LeasedMessages", "sink", "(III)V"⟩, 21), (⟨"LeasedMessages", "addOut", "(I)V"⟩, 21), (⟨"LeasedMessages", "notOut", "(II)Z"⟩, 21), (⟨"LeasedMessages", "dropOut", "(I)V"⟩, 21), (⟨"LeasedMessages", "comeBack", "(I)V"⟩, 21), (⟨"LeasedMessages", "readyAgain", "(I)V"⟩, 21), (⟨"LeasedMessages", "inLives", "(I)Z"⟩, 21), (⟨"LeasedMessages", "firstLife", "()I"⟩, 21), (⟨"LeasedMessagesModel", "three", "(I)Z"⟩, 12)]
theorem lw_r1 : ∀ q ∈ lw_privs_1, lw_okq q := List.forall_mem_cons.mpr ⟨lw_p0, List.forall_mem_cons.mpr ⟨lw_p1, List.forall_mem_cons.mpr ⟨lw_p2, List.forall_mem_cons.mpr ⟨lw_p3, List.forall_mem_cons.mpr ⟨lw_p4, List.forall_mem_cons.mpr ⟨lw_p5, List.forall_mem_cons.mpr ⟨lw_p6, List.forall_mem_cons.mpr ⟨lw_p7, List.forall_mem_cons.mpr ⟨lw_p8, List.forall_mem_cons.mpr ⟨lw_p9, List.forall_mem_cons.mpr ⟨lw_p10, List.forall_mem_cons.mpr ⟨lw_p11, List.forall_mem_cons.mpr ⟨lw_p12, List.forall_mem_cons.mpr ⟨lw_p13, List.forall_mem_cons.mpr ⟨lw_p14, List.forall_mem_cons.mpr ⟨lw_p15, fun _ h => absurd h List.not_mem_nil⟩⟩⟩⟩⟩⟩⟩⟩⟩⟩⟩⟩⟩⟩⟩⟩
theorem lw_p16 : lw_okq (⟨"LeasedMessagesModel", "out", "(I)I"⟩, 12) := ⟨⟨by decide +kernel, by decide +kernel⟩, lw_t1 (List.mem_of_getElem? (i := 203) rfl), lw_t2 (List.mem_of_getElem? (i := 18) rfl), lw_t2 (List.mem_of_getElem? (i := 19) rfl)⟩
theorem lw_p17 : lw_okq (⟨"LeasedMessagesModel", "isReady", "(II)Z"⟩, 12) := ⟨⟨by decide +kernel, by decide +kernel⟩, lw_t1 (List.mem_of_getElem? (i := 203) rfl), lw_t2 (List.mem_of_getElem? (i := 26) rfl), lw_t2 (List.mem_of_getElem? (i := 27) rfl)⟩
theorem lw_p18 : lw_okq (⟨"LeasedMessagesModel", "before", "(II)I"⟩, 12) := ⟨⟨by decide +kernel, by decide +kernel⟩, lw_t1 (List.mem_of_getElem? (i := 203) rfl), lw_t2 (List.mem_of_getElem? (i := 30) rfl), lw_t2 (List.mem_of_getElem? (i := 31) rfl)⟩
theorem lw_p19 : lw_okq (⟨"LeasedMessagesModel", "refusal", "(II)I"⟩, 12) := ⟨⟨by decide +kernel, by decide +kernel⟩, lw_t1 (List.mem_of_getElem? (i := 203) rfl), lw_t2 (List.mem_of_getElem? (i := 38) rfl), lw_t2 (List.mem_of_getElem? (i := 39) rfl)⟩
theorem lw_p20 : lw_okq (⟨"LeasedMessagesModel", "comeBack", "(I)V"⟩, 12) := ⟨⟨by decide +kernel, by decide +kernel⟩, lw_t1 (List.mem_of_getElem? (i := 203) rfl), lw_t2 (List.mem_of_getElem? (i := 46) rfl), lw_t2 (List.mem_of_getElem? (i := 47) rfl)⟩
def lw_privs_2 : List (MethodName × Nat) := [(⟨"LeasedMessagesModel", "out", "(I)I"⟩, 12), (⟨"LeasedMessagesModel", "isReady", "(II)Z"⟩, 12), (⟨"LeasedMessagesModel", "before", "(II)I"⟩, 12), (⟨"LeasedMessagesModel", "refusal", "(II)I"⟩, 12), (⟨"LeasedMessagesModel", "comeBack", "(I)V"⟩, 12)]
theorem lw_r2 : ∀ q ∈ lw_privs_2, lw_okq q := List.forall_mem_cons.mpr ⟨lw_p16, List.forall_mem_cons.mpr ⟨lw_p17, List.forall_mem_cons.mpr ⟨lw_p18, List.forall_mem_cons.mpr ⟨lw_p19, List.forall_mem_cons.mpr ⟨lw_p20, fun _ h => absurd h List.not_mem_nil⟩⟩⟩⟩⟩
def lw_privs : List (MethodName × Nat) := lw_privs_1 ++ (lw_privs_2)
def lw_tbl : List Cond := k2_sels lw_privs ++ tables_1
theorem lw_privs_ok : ∀ q ∈ lw_privs, lw_okq q := by
  show ∀ q ∈ lw_privs_1 ++ (lw_privs_2), lw_okq q
  exact List.forall_mem_append.mpr ⟨lw_r1, lw_r2⟩
-- ===== ONE list of words for every method: the tables' words that hold all through a run =====
def lw_all : List Cond := lw_tbl.filter goodWord
/-- a word of the tables by its place: claim/WORDS.tsv -/
theorem lw_w {w : Cond} (i : Nat) (h : lw_tbl[i]? = some w) (g : goodWord w = true) : w ∈ lw_all := List.mem_filter.mpr ⟨List.mem_of_getElem? h, g⟩
theorem lw_all_tbl {w : Cond} (h : w ∈ lw_all) : w ∈ lw_tbl := (List.mem_filter.mp h).1
theorem lw_self : GoodIn lw_all lw_all := fun w h => ⟨h, good_of_word (List.mem_filter.mp h).2⟩
/-- a class's field words, by their places -/
theorem lw_in (ws : List Cond) (ps : List Nat) (hp : ws = ps.filterMap (fun i => lw_tbl[i]?)) (hg : ws.all goodWord = true) : ∀ w ∈ ws, w ∈ lw_all := by
  intro w h
  have h1 := List.all_eq_true.mp hg w h
  rw [hp] at h
  obtain ⟨i, -, hi⟩ := List.mem_filterMap.mp h
  exact lw_w i hi h1
/-- the words of a contract for the method y with code b, L locals, answer r -/
abbrev ws_ (y : MethodName) (b : ByteArray) (L : Nat) (r : Option FieldType) : List Cond := Cond.code y b L r :: lw_all
theorem lw_meth {y : MethodName} {b : ByteArray} {L : Nat} {r : Option FieldType} (h : Cond.code y b L r ∈ lw_all) : GoodIn lw_all (ws_ y b L r) := by
  intro w hw
  rcases List.mem_cons.mp hw with e | e
  · rw [e]
    exact lw_self _ h
  · exact lw_self _ e
theorem lw_app {a c : List Cond} (ha : ∀ w ∈ a, w ∈ lw_all) (hc : GoodIn lw_all c) : GoodIn lw_all (a ++ c) := by
  intro w hw
  rcases List.mem_append.mp hw with e | e
  · exact lw_self w (ha w e)
  · exact hc w e
/-- what a call through an object asks: cwV n hts (lw_V ..) -/
theorem lw_V {own : String} {idx : Nat} {C : String} {y : MethodName} {b : ByteArray} {L : Nat} {r : Option FieldType} (h1 : Cond.methodLink own idx y ∈ lw_all) (h2 : Cond.instanceMethod y ∈ lw_all) (h3 : Cond.selects C y y ∈ lw_all) (h4 : Cond.initialized C ∈ lw_all) (h5 : Cond.code y b L r ∈ lw_all) : GoodIn lw_all (wsV own idx C y (ws_ y b L r)) := by
  refine lw_app ?_ (lw_meth h5)
  intro w hw
  simp only [List.mem_cons, List.not_mem_nil, or_false] at hw
  rcases hw with e | e | e | e
  · rw [e]; exact h1
  · rw [e]; exact h2
  · rw [e]; exact h3
  · rw [e]; exact h4
/-- what a static call asks: va_cwS n hts (lw_S ..) -/
theorem lw_S {own : String} {idx : Nat} {y : MethodName} {b : ByteArray} {L : Nat} {r : Option FieldType} (h1 : Cond.methodLink own idx y ∈ lw_all) (h2 : Cond.static y ∈ lw_all) (h3 : Cond.initialized y.cls ∈ lw_all) (h4 : Cond.code y b L r ∈ lw_all) : GoodIn lw_all (va_wsS own idx y (ws_ y b L r)) := by
  refine lw_app ?_ (lw_meth h4)
  intro w hw
  simp only [List.mem_cons, List.not_mem_nil, or_false] at hw
  rcases hw with e | e | e
  · rw [e]; exact h1
  · rw [e]; exact h2
  · rw [e]; exact h3
/-- the words of a contract for a method WITH HANDLERS (hh: its table) -/
abbrev wsW_ (y : MethodName) (b : ByteArray) (L : Nat) (r : Option FieldType) (hh : List (Nat × Nat × Nat × Nat)) : List Cond := Cond.codeWith y b L r hh :: lw_all
theorem lw_methW {y : MethodName} {b : ByteArray} {L : Nat} {r : Option FieldType} {hh : List (Nat × Nat × Nat × Nat)} (h : Cond.codeWith y b L r hh ∈ lw_all) : GoodIn lw_all (wsW_ y b L r hh) := by
  intro w hw
  rcases List.mem_cons.mp hw with e | e
  · rw [e]
    exact lw_self _ h
  · exact lw_self _ e
/-- any list of words by their places (lw_in), good -/
theorem lw_good {ws : List Cond} (h : ∀ w ∈ ws, w ∈ lw_all) : GoodIn lw_all ws := fun w hw => lw_self w (h w hw)
/-- what a call of a method with handlers asks: vx_cwVW n hts (lw_VW ..), vx_cwSW n hts (lw_SW ..) -/
theorem lw_VW {own : String} {idx : Nat} {C : String} {y : MethodName} {b : ByteArray} {L : Nat} {r : Option FieldType} {hh : List (Nat × Nat × Nat × Nat)} (h1 : Cond.methodLink own idx y ∈ lw_all) (h2 : Cond.instanceMethod y ∈ lw_all) (h3 : Cond.selects C y y ∈ lw_all) (h4 : Cond.initialized C ∈ lw_all) (h5 : Cond.codeWith y b L r hh ∈ lw_all) : GoodIn lw_all (wsV own idx C y (wsW_ y b L r hh)) := by
  refine lw_app ?_ (lw_methW h5)
  intro w hw
  simp only [List.mem_cons, List.not_mem_nil, or_false] at hw
  rcases hw with e | e | e | e
  · rw [e]; exact h1
  · rw [e]; exact h2
  · rw [e]; exact h3
  · rw [e]; exact h4
theorem lw_SW {own : String} {idx : Nat} {y : MethodName} {b : ByteArray} {L : Nat} {r : Option FieldType} {hh : List (Nat × Nat × Nat × Nat)} (h1 : Cond.methodLink own idx y ∈ lw_all) (h2 : Cond.static y ∈ lw_all) (h3 : Cond.initialized y.cls ∈ lw_all) (h4 : Cond.codeWith y b L r hh ∈ lw_all) : GoodIn lw_all (va_wsS own idx y (wsW_ y b L r hh)) := by
  refine lw_app ?_ (lw_methW h4)
  intro w hw
  simp only [List.mem_cons, List.not_mem_nil, or_false] at hw
  rcases hw with e | e | e
  · rw [e]; exact h1
  · rw [e]; exact h2
  · rw [e]; exact h3
/-- a word by its place in its run of the tables -/
theorem lw_at {r : List Cond} (hr : ∀ w ∈ r, w ∈ lw_tbl) {w : Cond} (i : Nat) (h : r[i]? = some w) : w ∈ lw_tbl := hr w (List.mem_of_getElem? h)
theorem lw_g {w : Cond} (h : w ∈ lw_tbl) (g : goodWord w = true) : w ∈ lw_all := List.mem_filter.mpr ⟨h, g⟩
theorem lw_ms : ∀ w ∈ k2_sels lw_privs, w ∈ lw_tbl := fun w h => show w ∈ k2_sels lw_privs ++ tables_1 from List.mem_append_left _ h
theorem lw_m1 : ∀ w ∈ tables_1_1, w ∈ lw_tbl := fun w h => show w ∈ k2_sels lw_privs ++ tables_1 from List.mem_append_right (k2_sels lw_privs) (show w ∈ tables_1 from List.mem_append_left _ h)
theorem lw_m2 : ∀ w ∈ tables_1_2, w ∈ lw_tbl := fun w h => show w ∈ k2_sels lw_privs ++ tables_1 from List.mem_append_right (k2_sels lw_privs) (show w ∈ tables_1 from List.mem_append_right _ h)
theorem qs0 : (Cond.selects "LeasedMessages" ⟨"LeasedMessages", "makeReady", "(I)V"⟩ ⟨"LeasedMessages", "makeReady", "(I)V"⟩) ∈ lw_all := lw_g (lw_at lw_ms 0 rfl) rfl
theorem qs1 : (Cond.selects "LeasedMessages" ⟨"LeasedMessages", "rise", "(III)V"⟩ ⟨"LeasedMessages", "rise", "(III)V"⟩) ∈ lw_all := lw_g (lw_at lw_ms 1 rfl) rfl
theorem qs2 : (Cond.selects "LeasedMessages" ⟨"LeasedMessages", "before", "(II)Z"⟩ ⟨"LeasedMessages", "before", "(II)Z"⟩) ∈ lw_all := lw_g (lw_at lw_ms 2 rfl) rfl
theorem qs3 : (Cond.selects "LeasedMessages" ⟨"LeasedMessages", "place", "(III)V"⟩ ⟨"LeasedMessages", "place", "(III)V"⟩) ∈ lw_all := lw_g (lw_at lw_ms 3 rfl) rfl
theorem qs4 : (Cond.selects "LeasedMessages" ⟨"LeasedMessages", "addLife", "(I)V"⟩ ⟨"LeasedMessages", "addLife", "(I)V"⟩) ∈ lw_all := lw_g (lw_at lw_ms 4 rfl) rfl
theorem qs5 : (Cond.selects "LeasedMessages" ⟨"LeasedMessages", "diesBefore", "(II)Z"⟩ ⟨"LeasedMessages", "diesBefore", "(II)Z"⟩) ∈ lw_all := lw_g (lw_at lw_ms 5 rfl) rfl
theorem qs6 : (Cond.selects "LeasedMessages" ⟨"LeasedMessages", "takeOut", "(I)V"⟩ ⟨"LeasedMessages", "takeOut", "(I)V"⟩) ∈ lw_all := lw_g (lw_at lw_ms 6 rfl) rfl
theorem qs7 : (Cond.selects "LeasedMessages" ⟨"LeasedMessages", "sink", "(III)V"⟩ ⟨"LeasedMessages", "sink", "(III)V"⟩) ∈ lw_all := lw_g (lw_at lw_ms 7 rfl) rfl
theorem qs8 : (Cond.selects "LeasedMessages" ⟨"LeasedMessages", "addOut", "(I)V"⟩ ⟨"LeasedMessages", "addOut", "(I)V"⟩) ∈ lw_all := lw_g (lw_at lw_ms 8 rfl) rfl
theorem qs9 : (Cond.selects "LeasedMessages" ⟨"LeasedMessages", "notOut", "(II)Z"⟩ ⟨"LeasedMessages", "notOut", "(II)Z"⟩) ∈ lw_all := lw_g (lw_at lw_ms 9 rfl) rfl
theorem qs10 : (Cond.selects "LeasedMessages" ⟨"LeasedMessages", "dropOut", "(I)V"⟩ ⟨"LeasedMessages", "dropOut", "(I)V"⟩) ∈ lw_all := lw_g (lw_at lw_ms 10 rfl) rfl
theorem qs11 : (Cond.selects "LeasedMessages" ⟨"LeasedMessages", "comeBack", "(I)V"⟩ ⟨"LeasedMessages", "comeBack", "(I)V"⟩) ∈ lw_all := lw_g (lw_at lw_ms 11 rfl) rfl
theorem qs12 : (Cond.selects "LeasedMessages" ⟨"LeasedMessages", "readyAgain", "(I)V"⟩ ⟨"LeasedMessages", "readyAgain", "(I)V"⟩) ∈ lw_all := lw_g (lw_at lw_ms 12 rfl) rfl
theorem qs13 : (Cond.selects "LeasedMessages" ⟨"LeasedMessages", "inLives", "(I)Z"⟩ ⟨"LeasedMessages", "inLives", "(I)Z"⟩) ∈ lw_all := lw_g (lw_at lw_ms 13 rfl) rfl
theorem qs14 : (Cond.selects "LeasedMessages" ⟨"LeasedMessages", "firstLife", "()I"⟩ ⟨"LeasedMessages", "firstLife", "()I"⟩) ∈ lw_all := lw_g (lw_at lw_ms 14 rfl) rfl
theorem qs15 : (Cond.selects "LeasedMessagesModel" ⟨"LeasedMessagesModel", "three", "(I)Z"⟩ ⟨"LeasedMessagesModel", "three", "(I)Z"⟩) ∈ lw_all := lw_g (lw_at lw_ms 15 rfl) rfl
theorem qs16 : (Cond.selects "LeasedMessagesModel" ⟨"LeasedMessagesModel", "out", "(I)I"⟩ ⟨"LeasedMessagesModel", "out", "(I)I"⟩) ∈ lw_all := lw_g (lw_at lw_ms 16 rfl) rfl
theorem qs17 : (Cond.selects "LeasedMessagesModel" ⟨"LeasedMessagesModel", "isReady", "(II)Z"⟩ ⟨"LeasedMessagesModel", "isReady", "(II)Z"⟩) ∈ lw_all := lw_g (lw_at lw_ms 17 rfl) rfl
theorem qs18 : (Cond.selects "LeasedMessagesModel" ⟨"LeasedMessagesModel", "before", "(II)I"⟩ ⟨"LeasedMessagesModel", "before", "(II)I"⟩) ∈ lw_all := lw_g (lw_at lw_ms 18 rfl) rfl
theorem qs19 : (Cond.selects "LeasedMessagesModel" ⟨"LeasedMessagesModel", "refusal", "(II)I"⟩ ⟨"LeasedMessagesModel", "refusal", "(II)I"⟩) ∈ lw_all := lw_g (lw_at lw_ms 19 rfl) rfl
theorem qs20 : (Cond.selects "LeasedMessagesModel" ⟨"LeasedMessagesModel", "comeBack", "(I)V"⟩ ⟨"LeasedMessagesModel", "comeBack", "(I)V"⟩) ∈ lw_all := lw_g (lw_at lw_ms 20 rfl) rfl
end
section
/-! LeasedMessages -/
set_option maxRecDepth 100000
def RX0 : String := "LeasedMessages"
def TX0 : u_T := fun k => match k with
  | 0 => ("LeasedMessages", "count", "I", false)
  | 1 => ("LeasedMessages", "queueOf", "[I", true)
  | 2 => ("LeasedMessages", "body", "[I", true)
  | 3 => ("LeasedMessages", "priority", "[I", true)
  | 4 => ("LeasedMessages", "deliveries", "[I", true)
  | 5 => ("LeasedMessages", "states", "[I", true)
  | 6 => ("LeasedMessages", "consumerOf", "[I", true)
  | 7 => ("LeasedMessages", "deadline", "[I", true)
  | 8 => ("LeasedMessages", "expiry", "[I", true)
  | 9 => ("LeasedMessages", "heapSize", "[I", true)
  | 10 => ("LeasedMessages", "heap", "[I", true)
  | 11 => ("LeasedMessages", "position", "[I", true)
  | 12 => ("LeasedMessages", "patience", "[I", true)
  | 13 => ("LeasedMessages", "limit", "[I", true)
  | 14 => ("LeasedMessages", "outCount", "I", false)
  | 15 => ("LeasedMessages", "outList", "[I", true)
  | 16 => ("LeasedMessages", "holding", "[I", true)
  | 17 => ("LeasedMessages", "lives", "I", false)
  | 18 => ("LeasedMessages", "lifeHeap", "[I", true)
  | 19 => ("LeasedMessages", "time", "I", false)
  | _ => ("LeasedMessages", "sorted", "[I", true)
def tyX0 : Nat → FieldType := fun k => match k with
  | 0 => .int
  | 1 => .array .int
  | 2 => .array .int
  | 3 => .array .int
  | 4 => .array .int
  | 5 => .array .int
  | 6 => .array .int
  | 7 => .array .int
  | 8 => .array .int
  | 9 => .array .int
  | 10 => .array .int
  | 11 => .array .int
  | 12 => .array .int
  | 13 => .array .int
  | 14 => .int
  | 15 => .array .int
  | 16 => .array .int
  | 17 => .int
  | 18 => .array .int
  | 19 => .int
  | _ => .array .int
abbrev wsX00 : List Cond := u_ws RX0 TX0 21
set_option maxRecDepth 100000 in
theorem nmX0 : ∀ a, a < 21 → ∀ b, b < 21 → a ≠ b → (TX0 a).2.1 ≠ (TX0 b).2.1 := by decide +kernel
set_option maxRecDepth 100000 in
theorem tyX0_ok : ∀ k, k < 21 → parseFieldDescriptor (TX0 k).2.2.1 = some (tyX0 k) := by decide +kernel
abbrev cX0_init : ByteArray := prog_1_method_1_code
def yX0_init : MethodName := ⟨RX0, "<init>", "()V"⟩
abbrev cX0_publish : ByteArray := prog_1_method_19_code
def yX0_publish : MethodName := ⟨RX0, "publish", "(IIII)I"⟩
abbrev cX0_badQueue : ByteArray := prog_1_method_2_code
def yX0_badQueue : MethodName := ⟨RX0, "badQueue", "(I)Z"⟩
abbrev cX0_makeReady : ByteArray := prog_1_method_8_code
def yX0_makeReady : MethodName := ⟨RX0, "makeReady", "(I)V"⟩
abbrev cX0_rise : ByteArray := prog_1_method_6_code
def yX0_rise : MethodName := ⟨RX0, "rise", "(III)V"⟩
abbrev cX0_before : ByteArray := prog_1_method_4_code
def yX0_before : MethodName := ⟨RX0, "before", "(II)Z"⟩
abbrev cX0_place : ByteArray := prog_1_method_5_code
def yX0_place : MethodName := ⟨RX0, "place", "(III)V"⟩
abbrev cX0_addLife : ByteArray := prog_1_method_11_code
def yX0_addLife : MethodName := ⟨RX0, "addLife", "(I)V"⟩
abbrev cX0_diesBefore : ByteArray := prog_1_method_10_code
def yX0_diesBefore : MethodName := ⟨RX0, "diesBefore", "(II)Z"⟩
abbrev cX0_take : ByteArray := prog_1_method_20_code
def yX0_take : MethodName := ⟨RX0, "take", "(II)I"⟩
abbrev cX0_badConsumer : ByteArray := prog_1_method_3_code
def yX0_badConsumer : MethodName := ⟨RX0, "badConsumer", "(I)Z"⟩
abbrev cX0_takeOut : ByteArray := prog_1_method_9_code
def yX0_takeOut : MethodName := ⟨RX0, "takeOut", "(I)V"⟩
abbrev cX0_sink : ByteArray := prog_1_method_7_code
def yX0_sink : MethodName := ⟨RX0, "sink", "(III)V"⟩
abbrev cX0_addOut : ByteArray := prog_1_method_15_code
def yX0_addOut : MethodName := ⟨RX0, "addOut", "(I)V"⟩
abbrev cX0_acknowledge : ByteArray := prog_1_method_21_code
def yX0_acknowledge : MethodName := ⟨RX0, "acknowledge", "(II)I"⟩
abbrev cX0_notOut : ByteArray := prog_1_method_18_code
def yX0_notOut : MethodName := ⟨RX0, "notOut", "(II)Z"⟩
abbrev cX0_dropOut : ByteArray := prog_1_method_16_code
def yX0_dropOut : MethodName := ⟨RX0, "dropOut", "(I)V"⟩
abbrev cX0_refuse : ByteArray := prog_1_method_22_code
def yX0_refuse : MethodName := ⟨RX0, "refuse", "(II)I"⟩
abbrev cX0_comeBack : ByteArray := prog_1_method_17_code
def yX0_comeBack : MethodName := ⟨RX0, "comeBack", "(I)V"⟩
abbrev cX0_readyAgain : ByteArray := prog_1_method_14_code
def yX0_readyAgain : MethodName := ⟨RX0, "readyAgain", "(I)V"⟩
abbrev cX0_inLives : ByteArray := prog_1_method_13_code
def yX0_inLives : MethodName := ⟨RX0, "inLives", "(I)Z"⟩
abbrev cX0_lose : ByteArray := prog_1_method_23_code
def yX0_lose : MethodName := ⟨RX0, "lose", "(I)I"⟩
abbrev cX0_renew : ByteArray := prog_1_method_24_code
def yX0_renew : MethodName := ⟨RX0, "renew", "(II)I"⟩
abbrev cX0_pass : ByteArray := prog_1_method_25_code
def yX0_pass : MethodName := ⟨RX0, "pass", "(I)I"⟩
abbrev cX0_firstLife : ByteArray := prog_1_method_12_code
def yX0_firstLife : MethodName := ⟨RX0, "firstLife", "()I"⟩
abbrev cX0_tune : ByteArray := prog_1_method_26_code
def yX0_tune : MethodName := ⟨RX0, "tune", "(III)I"⟩
abbrev cX0_revive : ByteArray := prog_1_method_27_code
def yX0_revive : MethodName := ⟨RX0, "revive", "(I)I"⟩
abbrev cX0_clear : ByteArray := prog_1_method_28_code
def yX0_clear : MethodName := ⟨RX0, "clear", "()V"⟩
abbrev cX0_state : ByteArray := prog_1_method_29_code
def yX0_state : MethodName := ⟨RX0, "state", "(I)I"⟩
abbrev cX0_ready : ByteArray := prog_1_method_30_code
def yX0_ready : MethodName := ⟨RX0, "ready", "(I)I"⟩
abbrev cX0_peek : ByteArray := prog_1_method_31_code
def yX0_peek : MethodName := ⟨RX0, "peek", "(II)I"⟩
abbrev cX0_nextDeadline : ByteArray := prog_1_method_32_code
def yX0_nextDeadline : MethodName := ⟨RX0, "nextDeadline", "()I"⟩
abbrev cX0_sum : ByteArray := prog_1_method_33_code
def yX0_sum : MethodName := ⟨RX0, "sum", "(I)I"⟩
theorem q22 : (Jvm.Cond.initialized "LeasedMessages") ∈ lw_all := lw_g (lw_at lw_m1 1 rfl) rfl
theorem q25 : (Jvm.Cond.instantiable "LeasedMessages" (21 : Nat)) ∈ lw_all := lw_g (lw_at lw_m1 4 rfl) rfl
theorem q27 : (Jvm.Cond.instanceMethod ({ cls := "LeasedMessages", name := "<init>", desc := "()V" } : Jvm.MethodName)) ∈ lw_all := lw_g (lw_at lw_m1 6 rfl) rfl
theorem q28 : (Jvm.Cond.code ({ cls := "LeasedMessages", name := "<init>", desc := "()V" } : Jvm.MethodName) prog_1_method_1_code (2 : Nat) (Option.none : Option Jvm.ClassFile.FieldType)) ∈ lw_all := lw_g (lw_at lw_m1 7 rfl) rfl
theorem q29 : (Jvm.Cond.methodLink "LeasedMessages" (1 : Nat) ({ cls := "java/lang/Object", name := "<init>", desc := "()V" } : Jvm.MethodName)) ∈ lw_all := lw_g (lw_at lw_m1 8 rfl) rfl
theorem q32 : (Jvm.Cond.fieldLink "LeasedMessages" (102 : Nat) "LeasedMessages" "count" "I") ∈ lw_all := lw_g (lw_at lw_m1 11 rfl) rfl
theorem q33 : (Jvm.Cond.fieldLink "LeasedMessages" (7 : Nat) "LeasedMessages" "queueOf" "[I") ∈ lw_all := lw_g (lw_at lw_m1 12 rfl) rfl
theorem q34 : (Jvm.Cond.fieldLink "LeasedMessages" (13 : Nat) "LeasedMessages" "body" "[I") ∈ lw_all := lw_g (lw_at lw_m1 13 rfl) rfl
theorem q35 : (Jvm.Cond.fieldLink "LeasedMessages" (16 : Nat) "LeasedMessages" "priority" "[I") ∈ lw_all := lw_g (lw_at lw_m1 14 rfl) rfl
theorem q36 : (Jvm.Cond.fieldLink "LeasedMessages" (19 : Nat) "LeasedMessages" "deliveries" "[I") ∈ lw_all := lw_g (lw_at lw_m1 15 rfl) rfl
theorem q37 : (Jvm.Cond.fieldLink "LeasedMessages" (22 : Nat) "LeasedMessages" "states" "[I") ∈ lw_all := lw_g (lw_at lw_m1 16 rfl) rfl
theorem q38 : (Jvm.Cond.fieldLink "LeasedMessages" (25 : Nat) "LeasedMessages" "consumerOf" "[I") ∈ lw_all := lw_g (lw_at lw_m1 17 rfl) rfl
theorem q39 : (Jvm.Cond.fieldLink "LeasedMessages" (28 : Nat) "LeasedMessages" "deadline" "[I") ∈ lw_all := lw_g (lw_at lw_m1 18 rfl) rfl
theorem q40 : (Jvm.Cond.fieldLink "LeasedMessages" (31 : Nat) "LeasedMessages" "expiry" "[I") ∈ lw_all := lw_g (lw_at lw_m1 19 rfl) rfl
theorem q41 : (Jvm.Cond.fieldLink "LeasedMessages" (34 : Nat) "LeasedMessages" "heapSize" "[I") ∈ lw_all := lw_g (lw_at lw_m1 20 rfl) rfl
theorem q42 : (Jvm.Cond.fieldLink "LeasedMessages" (37 : Nat) "LeasedMessages" "heap" "[I") ∈ lw_all := lw_g (lw_at lw_m1 21 rfl) rfl
theorem q43 : (Jvm.Cond.fieldLink "LeasedMessages" (40 : Nat) "LeasedMessages" "position" "[I") ∈ lw_all := lw_g (lw_at lw_m1 22 rfl) rfl
theorem q44 : (Jvm.Cond.fieldLink "LeasedMessages" (43 : Nat) "LeasedMessages" "patience" "[I") ∈ lw_all := lw_g (lw_at lw_m1 23 rfl) rfl
theorem q45 : (Jvm.Cond.fieldLink "LeasedMessages" (46 : Nat) "LeasedMessages" "limit" "[I") ∈ lw_all := lw_g (lw_at lw_m1 24 rfl) rfl
theorem q46 : (Jvm.Cond.fieldLink "LeasedMessages" (93 : Nat) "LeasedMessages" "outCount" "I") ∈ lw_all := lw_g (lw_at lw_m1 25 rfl) rfl
theorem q47 : (Jvm.Cond.fieldLink "LeasedMessages" (49 : Nat) "LeasedMessages" "outList" "[I") ∈ lw_all := lw_g (lw_at lw_m1 26 rfl) rfl
theorem q48 : (Jvm.Cond.fieldLink "LeasedMessages" (52 : Nat) "LeasedMessages" "holding" "[I") ∈ lw_all := lw_g (lw_at lw_m1 27 rfl) rfl
theorem q49 : (Jvm.Cond.fieldLink "LeasedMessages" (75 : Nat) "LeasedMessages" "lives" "I") ∈ lw_all := lw_g (lw_at lw_m1 28 rfl) rfl
theorem q50 : (Jvm.Cond.fieldLink "LeasedMessages" (55 : Nat) "LeasedMessages" "lifeHeap" "[I") ∈ lw_all := lw_g (lw_at lw_m1 29 rfl) rfl
theorem q51 : (Jvm.Cond.fieldLink "LeasedMessages" (108 : Nat) "LeasedMessages" "time" "I") ∈ lw_all := lw_g (lw_at lw_m1 30 rfl) rfl
theorem q52 : (Jvm.Cond.fieldLink "LeasedMessages" (58 : Nat) "LeasedMessages" "sorted" "[I") ∈ lw_all := lw_g (lw_at lw_m1 31 rfl) rfl
theorem q53 : (Jvm.Cond.lays "LeasedMessages" "LeasedMessages" "count" "I") ∈ lw_all := lw_g (lw_at lw_m1 32 rfl) rfl
theorem q54 : (Jvm.Cond.soleField "LeasedMessages" "count") ∈ lw_all := lw_g (lw_at lw_m1 33 rfl) rfl
theorem q55 : (Jvm.Cond.laysFinal "LeasedMessages" "LeasedMessages" "queueOf" "[I") ∈ lw_all := lw_g (lw_at lw_m1 34 rfl) rfl
theorem q56 : (Jvm.Cond.soleField "LeasedMessages" "queueOf") ∈ lw_all := lw_g (lw_at lw_m1 35 rfl) rfl
theorem q57 : (Jvm.Cond.laysFinal "LeasedMessages" "LeasedMessages" "body" "[I") ∈ lw_all := lw_g (lw_at lw_m1 36 rfl) rfl
theorem q58 : (Jvm.Cond.soleField "LeasedMessages" "body") ∈ lw_all := lw_g (lw_at lw_m1 37 rfl) rfl
theorem q59 : (Jvm.Cond.laysFinal "LeasedMessages" "LeasedMessages" "priority" "[I") ∈ lw_all := lw_g (lw_at lw_m1 38 rfl) rfl
theorem q60 : (Jvm.Cond.soleField "LeasedMessages" "priority") ∈ lw_all := lw_g (lw_at lw_m1 39 rfl) rfl
theorem q61 : (Jvm.Cond.laysFinal "LeasedMessages" "LeasedMessages" "deliveries" "[I") ∈ lw_all := lw_g (lw_at lw_m1 40 rfl) rfl
theorem q62 : (Jvm.Cond.soleField "LeasedMessages" "deliveries") ∈ lw_all := lw_g (lw_at lw_m1 41 rfl) rfl
theorem q63 : (Jvm.Cond.laysFinal "LeasedMessages" "LeasedMessages" "states" "[I") ∈ lw_all := lw_g (lw_at lw_m1 42 rfl) rfl
theorem q64 : (Jvm.Cond.soleField "LeasedMessages" "states") ∈ lw_all := lw_g (lw_at lw_m1 43 rfl) rfl
theorem q65 : (Jvm.Cond.laysFinal "LeasedMessages" "LeasedMessages" "consumerOf" "[I") ∈ lw_all := lw_g (lw_at lw_m1 44 rfl) rfl
theorem q66 : (Jvm.Cond.soleField "LeasedMessages" "consumerOf") ∈ lw_all := lw_g (lw_at lw_m1 45 rfl) rfl
theorem q67 : (Jvm.Cond.laysFinal "LeasedMessages" "LeasedMessages" "deadline" "[I") ∈ lw_all := lw_g (lw_at lw_m1 46 rfl) rfl
theorem q68 : (Jvm.Cond.soleField "LeasedMessages" "deadline") ∈ lw_all := lw_g (lw_at lw_m1 47 rfl) rfl
theorem q69 : (Jvm.Cond.laysFinal "LeasedMessages" "LeasedMessages" "expiry" "[I") ∈ lw_all := lw_g (lw_at lw_m1 48 rfl) rfl
theorem q70 : (Jvm.Cond.soleField "LeasedMessages" "expiry") ∈ lw_all := lw_g (lw_at lw_m1 49 rfl) rfl
theorem q71 : (Jvm.Cond.laysFinal "LeasedMessages" "LeasedMessages" "heapSize" "[I") ∈ lw_all := lw_g (lw_at lw_m1 50 rfl) rfl
theorem q72 : (Jvm.Cond.soleField "LeasedMessages" "heapSize") ∈ lw_all := lw_g (lw_at lw_m1 51 rfl) rfl
theorem q73 : (Jvm.Cond.laysFinal "LeasedMessages" "LeasedMessages" "heap" "[I") ∈ lw_all := lw_g (lw_at lw_m1 52 rfl) rfl
theorem q74 : (Jvm.Cond.soleField "LeasedMessages" "heap") ∈ lw_all := lw_g (lw_at lw_m1 53 rfl) rfl
theorem q75 : (Jvm.Cond.laysFinal "LeasedMessages" "LeasedMessages" "position" "[I") ∈ lw_all := lw_g (lw_at lw_m1 54 rfl) rfl
theorem q76 : (Jvm.Cond.soleField "LeasedMessages" "position") ∈ lw_all := lw_g (lw_at lw_m1 55 rfl) rfl
theorem q77 : (Jvm.Cond.laysFinal "LeasedMessages" "LeasedMessages" "patience" "[I") ∈ lw_all := lw_g (lw_at lw_m1 56 rfl) rfl
theorem q78 : (Jvm.Cond.soleField "LeasedMessages" "patience") ∈ lw_all := lw_g (lw_at lw_m1 57 rfl) rfl
theorem q79 : (Jvm.Cond.laysFinal "LeasedMessages" "LeasedMessages" "limit" "[I") ∈ lw_all := lw_g (lw_at lw_m1 58 rfl) rfl
theorem q80 : (Jvm.Cond.soleField "LeasedMessages" "limit") ∈ lw_all := lw_g (lw_at lw_m1 59 rfl) rfl
theorem q81 : (Jvm.Cond.lays "LeasedMessages" "LeasedMessages" "outCount" "I") ∈ lw_all := lw_g (lw_at lw_m1 60 rfl) rfl
theorem q82 : (Jvm.Cond.soleField "LeasedMessages" "outCount") ∈ lw_all := lw_g (lw_at lw_m1 61 rfl) rfl
theorem q83 : (Jvm.Cond.laysFinal "LeasedMessages" "LeasedMessages" "outList" "[I") ∈ lw_all := lw_g (lw_at lw_m1 62 rfl) rfl
theorem q84 : (Jvm.Cond.soleField "LeasedMessages" "outList") ∈ lw_all := lw_g (lw_at lw_m1 63 rfl) rfl
theorem q85 : (Jvm.Cond.laysFinal "LeasedMessages" "LeasedMessages" "holding" "[I") ∈ lw_all := lw_g (lw_at lw_m1 64 rfl) rfl
theorem q86 : (Jvm.Cond.soleField "LeasedMessages" "holding") ∈ lw_all := lw_g (lw_at lw_m1 65 rfl) rfl
theorem q87 : (Jvm.Cond.lays "LeasedMessages" "LeasedMessages" "lives" "I") ∈ lw_all := lw_g (lw_at lw_m1 66 rfl) rfl
theorem q88 : (Jvm.Cond.soleField "LeasedMessages" "lives") ∈ lw_all := lw_g (lw_at lw_m1 67 rfl) rfl
theorem q89 : (Jvm.Cond.laysFinal "LeasedMessages" "LeasedMessages" "lifeHeap" "[I") ∈ lw_all := lw_g (lw_at lw_m1 68 rfl) rfl
theorem q90 : (Jvm.Cond.soleField "LeasedMessages" "lifeHeap") ∈ lw_all := lw_g (lw_at lw_m1 69 rfl) rfl
theorem q91 : (Jvm.Cond.lays "LeasedMessages" "LeasedMessages" "time" "I") ∈ lw_all := lw_g (lw_at lw_m1 70 rfl) rfl
theorem q92 : (Jvm.Cond.soleField "LeasedMessages" "time") ∈ lw_all := lw_g (lw_at lw_m1 71 rfl) rfl
theorem q93 : (Jvm.Cond.laysFinal "LeasedMessages" "LeasedMessages" "sorted" "[I") ∈ lw_all := lw_g (lw_at lw_m1 72 rfl) rfl
theorem q94 : (Jvm.Cond.soleField "LeasedMessages" "sorted") ∈ lw_all := lw_g (lw_at lw_m1 73 rfl) rfl
theorem q95 : (Jvm.Cond.superclass "LeasedMessages" "java/lang/Object") ∈ lw_all := lw_g (lw_at lw_m1 74 rfl) rfl
theorem q98 : (Jvm.Cond.instanceMethod ({ cls := "LeasedMessages", name := "publish", desc := "(IIII)I" } : Jvm.MethodName)) ∈ lw_all := lw_g (lw_at lw_m1 77 rfl) rfl
theorem q99 : (Jvm.Cond.selects "LeasedMessages" ({ cls := "LeasedMessages", name := "publish", desc := "(IIII)I" } : Jvm.MethodName) ({ cls := "LeasedMessages", name := "publish", desc := "(IIII)I" } : Jvm.MethodName)) ∈ lw_all := lw_g (lw_at lw_m1 78 rfl) rfl
theorem q100 : (Jvm.Cond.code ({ cls := "LeasedMessages", name := "publish", desc := "(IIII)I" } : Jvm.MethodName) prog_1_method_19_code (6 : Nat) (Option.some Jvm.ClassFile.FieldType.int)) ∈ lw_all := lw_g (lw_at lw_m1 79 rfl) rfl
theorem q101 : (Jvm.Cond.methodLink "LeasedMessages" (105 : Nat) ({ cls := "LeasedMessages", name := "badQueue", desc := "(I)Z" } : Jvm.MethodName)) ∈ lw_all := lw_g (lw_at lw_m1 80 rfl) rfl
theorem q102 : (Jvm.Cond.static ({ cls := "LeasedMessages", name := "badQueue", desc := "(I)Z" } : Jvm.MethodName)) ∈ lw_all := lw_g (lw_at lw_m1 81 rfl) rfl
theorem q103 : (Jvm.Cond.code ({ cls := "LeasedMessages", name := "badQueue", desc := "(I)Z" } : Jvm.MethodName) prog_1_method_2_code (1 : Nat) (Option.some Jvm.ClassFile.FieldType.boolean)) ∈ lw_all := lw_g (lw_at lw_m1 82 rfl) rfl
theorem q104 : (Jvm.Cond.methodLink "LeasedMessages" (82 : Nat) ({ cls := "LeasedMessages", name := "makeReady", desc := "(I)V" } : Jvm.MethodName)) ∈ lw_all := lw_g (lw_at lw_m1 83 rfl) rfl
theorem q105 : (Jvm.Cond.privateMethod ({ cls := "LeasedMessages", name := "makeReady", desc := "(I)V" } : Jvm.MethodName)) ∈ lw_tbl := lw_at lw_m1 84 rfl
theorem q106 : (Jvm.Cond.instanceMethod ({ cls := "LeasedMessages", name := "makeReady", desc := "(I)V" } : Jvm.MethodName)) ∈ lw_all := lw_g (lw_at lw_m1 85 rfl) rfl
theorem q107 : (Jvm.Cond.code ({ cls := "LeasedMessages", name := "makeReady", desc := "(I)V" } : Jvm.MethodName) prog_1_method_8_code (3 : Nat) (Option.none : Option Jvm.ClassFile.FieldType)) ∈ lw_all := lw_g (lw_at lw_m1 86 rfl) rfl
theorem q108 : (Jvm.Cond.methodLink "LeasedMessages" (69 : Nat) ({ cls := "LeasedMessages", name := "rise", desc := "(III)V" } : Jvm.MethodName)) ∈ lw_all := lw_g (lw_at lw_m1 87 rfl) rfl
theorem q109 : (Jvm.Cond.privateMethod ({ cls := "LeasedMessages", name := "rise", desc := "(III)V" } : Jvm.MethodName)) ∈ lw_tbl := lw_at lw_m1 88 rfl
theorem q110 : (Jvm.Cond.instanceMethod ({ cls := "LeasedMessages", name := "rise", desc := "(III)V" } : Jvm.MethodName)) ∈ lw_all := lw_g (lw_at lw_m1 89 rfl) rfl
theorem q111 : (Jvm.Cond.code ({ cls := "LeasedMessages", name := "rise", desc := "(III)V" } : Jvm.MethodName) prog_1_method_6_code (5 : Nat) (Option.none : Option Jvm.ClassFile.FieldType)) ∈ lw_all := lw_g (lw_at lw_m1 90 rfl) rfl
theorem q112 : (Jvm.Cond.methodLink "LeasedMessages" (61 : Nat) ({ cls := "LeasedMessages", name := "before", desc := "(II)Z" } : Jvm.MethodName)) ∈ lw_all := lw_g (lw_at lw_m1 91 rfl) rfl
theorem q113 : (Jvm.Cond.privateMethod ({ cls := "LeasedMessages", name := "before", desc := "(II)Z" } : Jvm.MethodName)) ∈ lw_tbl := lw_at lw_m1 92 rfl
theorem q114 : (Jvm.Cond.instanceMethod ({ cls := "LeasedMessages", name := "before", desc := "(II)Z" } : Jvm.MethodName)) ∈ lw_all := lw_g (lw_at lw_m1 93 rfl) rfl
theorem q115 : (Jvm.Cond.code ({ cls := "LeasedMessages", name := "before", desc := "(II)Z" } : Jvm.MethodName) prog_1_method_4_code (3 : Nat) (Option.some Jvm.ClassFile.FieldType.boolean)) ∈ lw_all := lw_g (lw_at lw_m1 94 rfl) rfl
theorem q116 : (Jvm.Cond.methodLink "LeasedMessages" (65 : Nat) ({ cls := "LeasedMessages", name := "place", desc := "(III)V" } : Jvm.MethodName)) ∈ lw_all := lw_g (lw_at lw_m1 95 rfl) rfl
theorem q117 : (Jvm.Cond.privateMethod ({ cls := "LeasedMessages", name := "place", desc := "(III)V" } : Jvm.MethodName)) ∈ lw_tbl := lw_at lw_m1 96 rfl
theorem q118 : (Jvm.Cond.instanceMethod ({ cls := "LeasedMessages", name := "place", desc := "(III)V" } : Jvm.MethodName)) ∈ lw_all := lw_g (lw_at lw_m1 97 rfl) rfl
theorem q119 : (Jvm.Cond.code ({ cls := "LeasedMessages", name := "place", desc := "(III)V" } : Jvm.MethodName) prog_1_method_5_code (4 : Nat) (Option.none : Option Jvm.ClassFile.FieldType)) ∈ lw_all := lw_g (lw_at lw_m1 98 rfl) rfl
theorem q120 : (Jvm.Cond.methodLink "LeasedMessages" (90 : Nat) ({ cls := "LeasedMessages", name := "addLife", desc := "(I)V" } : Jvm.MethodName)) ∈ lw_all := lw_g (lw_at lw_m1 99 rfl) rfl
theorem q121 : (Jvm.Cond.privateMethod ({ cls := "LeasedMessages", name := "addLife", desc := "(I)V" } : Jvm.MethodName)) ∈ lw_tbl := lw_at lw_m1 100 rfl
theorem q122 : (Jvm.Cond.instanceMethod ({ cls := "LeasedMessages", name := "addLife", desc := "(I)V" } : Jvm.MethodName)) ∈ lw_all := lw_g (lw_at lw_m1 101 rfl) rfl
theorem q123 : (Jvm.Cond.code ({ cls := "LeasedMessages", name := "addLife", desc := "(I)V" } : Jvm.MethodName) prog_1_method_11_code (3 : Nat) (Option.none : Option Jvm.ClassFile.FieldType)) ∈ lw_all := lw_g (lw_at lw_m1 102 rfl) rfl
theorem q124 : (Jvm.Cond.methodLink "LeasedMessages" (79 : Nat) ({ cls := "LeasedMessages", name := "diesBefore", desc := "(II)Z" } : Jvm.MethodName)) ∈ lw_all := lw_g (lw_at lw_m1 103 rfl) rfl
theorem q125 : (Jvm.Cond.privateMethod ({ cls := "LeasedMessages", name := "diesBefore", desc := "(II)Z" } : Jvm.MethodName)) ∈ lw_tbl := lw_at lw_m1 104 rfl
theorem q126 : (Jvm.Cond.instanceMethod ({ cls := "LeasedMessages", name := "diesBefore", desc := "(II)Z" } : Jvm.MethodName)) ∈ lw_all := lw_g (lw_at lw_m1 105 rfl) rfl
theorem q127 : (Jvm.Cond.code ({ cls := "LeasedMessages", name := "diesBefore", desc := "(II)Z" } : Jvm.MethodName) prog_1_method_10_code (3 : Nat) (Option.some Jvm.ClassFile.FieldType.boolean)) ∈ lw_all := lw_g (lw_at lw_m1 106 rfl) rfl
theorem q129 : (Jvm.Cond.instanceMethod ({ cls := "LeasedMessages", name := "take", desc := "(II)I" } : Jvm.MethodName)) ∈ lw_all := lw_g (lw_at lw_m1 108 rfl) rfl
theorem q130 : (Jvm.Cond.selects "LeasedMessages" ({ cls := "LeasedMessages", name := "take", desc := "(II)I" } : Jvm.MethodName) ({ cls := "LeasedMessages", name := "take", desc := "(II)I" } : Jvm.MethodName)) ∈ lw_all := lw_g (lw_at lw_m1 109 rfl) rfl
theorem q131 : (Jvm.Cond.code ({ cls := "LeasedMessages", name := "take", desc := "(II)I" } : Jvm.MethodName) prog_1_method_20_code (4 : Nat) (Option.some Jvm.ClassFile.FieldType.int)) ∈ lw_all := lw_g (lw_at lw_m1 110 rfl) rfl
theorem q132 : (Jvm.Cond.methodLink "LeasedMessages" (111 : Nat) ({ cls := "LeasedMessages", name := "badConsumer", desc := "(I)Z" } : Jvm.MethodName)) ∈ lw_all := lw_g (lw_at lw_m1 111 rfl) rfl
theorem q133 : (Jvm.Cond.static ({ cls := "LeasedMessages", name := "badConsumer", desc := "(I)Z" } : Jvm.MethodName)) ∈ lw_all := lw_g (lw_at lw_m1 112 rfl) rfl
theorem q134 : (Jvm.Cond.code ({ cls := "LeasedMessages", name := "badConsumer", desc := "(I)Z" } : Jvm.MethodName) prog_1_method_3_code (1 : Nat) (Option.some Jvm.ClassFile.FieldType.boolean)) ∈ lw_all := lw_g (lw_at lw_m1 113 rfl) rfl
theorem q135 : (Jvm.Cond.methodLink "LeasedMessages" (114 : Nat) ({ cls := "LeasedMessages", name := "takeOut", desc := "(I)V" } : Jvm.MethodName)) ∈ lw_all := lw_g (lw_at lw_m1 114 rfl) rfl
theorem q136 : (Jvm.Cond.privateMethod ({ cls := "LeasedMessages", name := "takeOut", desc := "(I)V" } : Jvm.MethodName)) ∈ lw_tbl := lw_at lw_m1 115 rfl
theorem q137 : (Jvm.Cond.instanceMethod ({ cls := "LeasedMessages", name := "takeOut", desc := "(I)V" } : Jvm.MethodName)) ∈ lw_all := lw_g (lw_at lw_m1 116 rfl) rfl
theorem q138 : (Jvm.Cond.code ({ cls := "LeasedMessages", name := "takeOut", desc := "(I)V" } : Jvm.MethodName) prog_1_method_9_code (5 : Nat) (Option.none : Option Jvm.ClassFile.FieldType)) ∈ lw_all := lw_g (lw_at lw_m1 117 rfl) rfl
theorem q139 : (Jvm.Cond.methodLink "LeasedMessages" (72 : Nat) ({ cls := "LeasedMessages", name := "sink", desc := "(III)V" } : Jvm.MethodName)) ∈ lw_all := lw_g (lw_at lw_m1 118 rfl) rfl
theorem q140 : (Jvm.Cond.privateMethod ({ cls := "LeasedMessages", name := "sink", desc := "(III)V" } : Jvm.MethodName)) ∈ lw_tbl := lw_at lw_m1 119 rfl
theorem q141 : (Jvm.Cond.instanceMethod ({ cls := "LeasedMessages", name := "sink", desc := "(III)V" } : Jvm.MethodName)) ∈ lw_all := lw_g (lw_at lw_m1 120 rfl) rfl
theorem q142 : (Jvm.Cond.code ({ cls := "LeasedMessages", name := "sink", desc := "(III)V" } : Jvm.MethodName) prog_1_method_7_code (6 : Nat) (Option.none : Option Jvm.ClassFile.FieldType)) ∈ lw_all := lw_g (lw_at lw_m1 121 rfl) rfl
theorem q143 : (Jvm.Cond.methodLink "LeasedMessages" (117 : Nat) ({ cls := "LeasedMessages", name := "addOut", desc := "(I)V" } : Jvm.MethodName)) ∈ lw_all := lw_g (lw_at lw_m1 122 rfl) rfl
theorem q144 : (Jvm.Cond.privateMethod ({ cls := "LeasedMessages", name := "addOut", desc := "(I)V" } : Jvm.MethodName)) ∈ lw_tbl := lw_at lw_m1 123 rfl
theorem q145 : (Jvm.Cond.instanceMethod ({ cls := "LeasedMessages", name := "addOut", desc := "(I)V" } : Jvm.MethodName)) ∈ lw_all := lw_g (lw_at lw_m1 124 rfl) rfl
theorem q146 : (Jvm.Cond.code ({ cls := "LeasedMessages", name := "addOut", desc := "(I)V" } : Jvm.MethodName) prog_1_method_15_code (3 : Nat) (Option.none : Option Jvm.ClassFile.FieldType)) ∈ lw_all := lw_g (lw_at lw_m1 125 rfl) rfl
theorem q148 : (Jvm.Cond.instanceMethod ({ cls := "LeasedMessages", name := "acknowledge", desc := "(II)I" } : Jvm.MethodName)) ∈ lw_all := lw_g (lw_at lw_m1 127 rfl) rfl
theorem q149 : (Jvm.Cond.selects "LeasedMessages" ({ cls := "LeasedMessages", name := "acknowledge", desc := "(II)I" } : Jvm.MethodName) ({ cls := "LeasedMessages", name := "acknowledge", desc := "(II)I" } : Jvm.MethodName)) ∈ lw_all := lw_g (lw_at lw_m1 128 rfl) rfl
theorem q150 : (Jvm.Cond.code ({ cls := "LeasedMessages", name := "acknowledge", desc := "(II)I" } : Jvm.MethodName) prog_1_method_21_code (3 : Nat) (Option.some Jvm.ClassFile.FieldType.int)) ∈ lw_all := lw_g (lw_at lw_m1 129 rfl) rfl
theorem q151 : (Jvm.Cond.methodLink "LeasedMessages" (120 : Nat) ({ cls := "LeasedMessages", name := "notOut", desc := "(II)Z" } : Jvm.MethodName)) ∈ lw_all := lw_g (lw_at lw_m1 130 rfl) rfl
theorem q152 : (Jvm.Cond.privateMethod ({ cls := "LeasedMessages", name := "notOut", desc := "(II)Z" } : Jvm.MethodName)) ∈ lw_tbl := lw_at lw_m1 131 rfl
theorem q153 : (Jvm.Cond.instanceMethod ({ cls := "LeasedMessages", name := "notOut", desc := "(II)Z" } : Jvm.MethodName)) ∈ lw_all := lw_g (lw_at lw_m1 132 rfl) rfl
theorem q154 : (Jvm.Cond.code ({ cls := "LeasedMessages", name := "notOut", desc := "(II)Z" } : Jvm.MethodName) prog_1_method_18_code (3 : Nat) (Option.some Jvm.ClassFile.FieldType.boolean)) ∈ lw_all := lw_g (lw_at lw_m1 133 rfl) rfl
theorem q155 : (Jvm.Cond.methodLink "LeasedMessages" (96 : Nat) ({ cls := "LeasedMessages", name := "dropOut", desc := "(I)V" } : Jvm.MethodName)) ∈ lw_all := lw_g (lw_at lw_m1 134 rfl) rfl
theorem q156 : (Jvm.Cond.privateMethod ({ cls := "LeasedMessages", name := "dropOut", desc := "(I)V" } : Jvm.MethodName)) ∈ lw_tbl := lw_at lw_m1 135 rfl
theorem q157 : (Jvm.Cond.instanceMethod ({ cls := "LeasedMessages", name := "dropOut", desc := "(I)V" } : Jvm.MethodName)) ∈ lw_all := lw_g (lw_at lw_m1 136 rfl) rfl
theorem q158 : (Jvm.Cond.code ({ cls := "LeasedMessages", name := "dropOut", desc := "(I)V" } : Jvm.MethodName) prog_1_method_16_code (4 : Nat) (Option.none : Option Jvm.ClassFile.FieldType)) ∈ lw_all := lw_g (lw_at lw_m1 137 rfl) rfl
theorem q160 : (Jvm.Cond.instanceMethod ({ cls := "LeasedMessages", name := "refuse", desc := "(II)I" } : Jvm.MethodName)) ∈ lw_all := lw_g (lw_at lw_m1 139 rfl) rfl
theorem q161 : (Jvm.Cond.selects "LeasedMessages" ({ cls := "LeasedMessages", name := "refuse", desc := "(II)I" } : Jvm.MethodName) ({ cls := "LeasedMessages", name := "refuse", desc := "(II)I" } : Jvm.MethodName)) ∈ lw_all := lw_g (lw_at lw_m1 140 rfl) rfl
theorem q162 : (Jvm.Cond.code ({ cls := "LeasedMessages", name := "refuse", desc := "(II)I" } : Jvm.MethodName) prog_1_method_22_code (3 : Nat) (Option.some Jvm.ClassFile.FieldType.int)) ∈ lw_all := lw_g (lw_at lw_m1 141 rfl) rfl
theorem q163 : (Jvm.Cond.methodLink "LeasedMessages" (123 : Nat) ({ cls := "LeasedMessages", name := "comeBack", desc := "(I)V" } : Jvm.MethodName)) ∈ lw_all := lw_g (lw_at lw_m1 142 rfl) rfl
theorem q164 : (Jvm.Cond.privateMethod ({ cls := "LeasedMessages", name := "comeBack", desc := "(I)V" } : Jvm.MethodName)) ∈ lw_tbl := lw_at lw_m1 143 rfl
theorem q165 : (Jvm.Cond.instanceMethod ({ cls := "LeasedMessages", name := "comeBack", desc := "(I)V" } : Jvm.MethodName)) ∈ lw_all := lw_g (lw_at lw_m1 144 rfl) rfl
theorem q166 : (Jvm.Cond.code ({ cls := "LeasedMessages", name := "comeBack", desc := "(I)V" } : Jvm.MethodName) prog_1_method_17_code (2 : Nat) (Option.none : Option Jvm.ClassFile.FieldType)) ∈ lw_all := lw_g (lw_at lw_m1 145 rfl) rfl
theorem q167 : (Jvm.Cond.methodLink "LeasedMessages" (99 : Nat) ({ cls := "LeasedMessages", name := "readyAgain", desc := "(I)V" } : Jvm.MethodName)) ∈ lw_all := lw_g (lw_at lw_m1 146 rfl) rfl
theorem q168 : (Jvm.Cond.privateMethod ({ cls := "LeasedMessages", name := "readyAgain", desc := "(I)V" } : Jvm.MethodName)) ∈ lw_tbl := lw_at lw_m1 147 rfl
theorem q169 : (Jvm.Cond.instanceMethod ({ cls := "LeasedMessages", name := "readyAgain", desc := "(I)V" } : Jvm.MethodName)) ∈ lw_all := lw_g (lw_at lw_m1 148 rfl) rfl
theorem q170 : (Jvm.Cond.code ({ cls := "LeasedMessages", name := "readyAgain", desc := "(I)V" } : Jvm.MethodName) prog_1_method_14_code (3 : Nat) (Option.none : Option Jvm.ClassFile.FieldType)) ∈ lw_all := lw_g (lw_at lw_m1 149 rfl) rfl
theorem q171 : (Jvm.Cond.methodLink "LeasedMessages" (86 : Nat) ({ cls := "LeasedMessages", name := "inLives", desc := "(I)Z" } : Jvm.MethodName)) ∈ lw_all := lw_g (lw_at lw_m1 150 rfl) rfl
theorem q172 : (Jvm.Cond.privateMethod ({ cls := "LeasedMessages", name := "inLives", desc := "(I)Z" } : Jvm.MethodName)) ∈ lw_tbl := lw_at lw_m1 151 rfl
theorem q173 : (Jvm.Cond.instanceMethod ({ cls := "LeasedMessages", name := "inLives", desc := "(I)Z" } : Jvm.MethodName)) ∈ lw_all := lw_g (lw_at lw_m1 152 rfl) rfl
theorem q174 : (Jvm.Cond.code ({ cls := "LeasedMessages", name := "inLives", desc := "(I)Z" } : Jvm.MethodName) prog_1_method_13_code (3 : Nat) (Option.some Jvm.ClassFile.FieldType.boolean)) ∈ lw_all := lw_g (lw_at lw_m1 153 rfl) rfl
theorem q176 : (Jvm.Cond.instanceMethod ({ cls := "LeasedMessages", name := "lose", desc := "(I)I" } : Jvm.MethodName)) ∈ lw_all := lw_g (lw_at lw_m1 155 rfl) rfl
theorem q177 : (Jvm.Cond.selects "LeasedMessages" ({ cls := "LeasedMessages", name := "lose", desc := "(I)I" } : Jvm.MethodName) ({ cls := "LeasedMessages", name := "lose", desc := "(I)I" } : Jvm.MethodName)) ∈ lw_all := lw_g (lw_at lw_m1 156 rfl) rfl
theorem q178 : (Jvm.Cond.code ({ cls := "LeasedMessages", name := "lose", desc := "(I)I" } : Jvm.MethodName) prog_1_method_23_code (4 : Nat) (Option.some Jvm.ClassFile.FieldType.int)) ∈ lw_all := lw_g (lw_at lw_m1 157 rfl) rfl
theorem q180 : (Jvm.Cond.instanceMethod ({ cls := "LeasedMessages", name := "renew", desc := "(II)I" } : Jvm.MethodName)) ∈ lw_all := lw_g (lw_at lw_m1 159 rfl) rfl
theorem q181 : (Jvm.Cond.selects "LeasedMessages" ({ cls := "LeasedMessages", name := "renew", desc := "(II)I" } : Jvm.MethodName) ({ cls := "LeasedMessages", name := "renew", desc := "(II)I" } : Jvm.MethodName)) ∈ lw_all := lw_g (lw_at lw_m1 160 rfl) rfl
theorem q182 : (Jvm.Cond.code ({ cls := "LeasedMessages", name := "renew", desc := "(II)I" } : Jvm.MethodName) prog_1_method_24_code (3 : Nat) (Option.some Jvm.ClassFile.FieldType.int)) ∈ lw_all := lw_g (lw_at lw_m1 161 rfl) rfl
theorem q184 : (Jvm.Cond.instanceMethod ({ cls := "LeasedMessages", name := "pass", desc := "(I)I" } : Jvm.MethodName)) ∈ lw_all := lw_g (lw_at lw_m1 163 rfl) rfl
theorem q185 : (Jvm.Cond.selects "LeasedMessages" ({ cls := "LeasedMessages", name := "pass", desc := "(I)I" } : Jvm.MethodName) ({ cls := "LeasedMessages", name := "pass", desc := "(I)I" } : Jvm.MethodName)) ∈ lw_all := lw_g (lw_at lw_m1 164 rfl) rfl
theorem q186 : (Jvm.Cond.code ({ cls := "LeasedMessages", name := "pass", desc := "(I)I" } : Jvm.MethodName) prog_1_method_25_code (4 : Nat) (Option.some Jvm.ClassFile.FieldType.int)) ∈ lw_all := lw_g (lw_at lw_m1 165 rfl) rfl
theorem q187 : (Jvm.Cond.methodLink "LeasedMessages" (126 : Nat) ({ cls := "LeasedMessages", name := "firstLife", desc := "()I" } : Jvm.MethodName)) ∈ lw_all := lw_g (lw_at lw_m1 166 rfl) rfl
theorem q188 : (Jvm.Cond.privateMethod ({ cls := "LeasedMessages", name := "firstLife", desc := "()I" } : Jvm.MethodName)) ∈ lw_tbl := lw_at lw_m1 167 rfl
theorem q189 : (Jvm.Cond.instanceMethod ({ cls := "LeasedMessages", name := "firstLife", desc := "()I" } : Jvm.MethodName)) ∈ lw_all := lw_g (lw_at lw_m1 168 rfl) rfl
theorem q190 : (Jvm.Cond.code ({ cls := "LeasedMessages", name := "firstLife", desc := "()I" } : Jvm.MethodName) prog_1_method_12_code (5 : Nat) (Option.some Jvm.ClassFile.FieldType.int)) ∈ lw_all := lw_g (lw_at lw_m1 169 rfl) rfl
theorem q192 : (Jvm.Cond.instanceMethod ({ cls := "LeasedMessages", name := "tune", desc := "(III)I" } : Jvm.MethodName)) ∈ lw_all := lw_g (lw_at lw_m1 171 rfl) rfl
theorem q193 : (Jvm.Cond.selects "LeasedMessages" ({ cls := "LeasedMessages", name := "tune", desc := "(III)I" } : Jvm.MethodName) ({ cls := "LeasedMessages", name := "tune", desc := "(III)I" } : Jvm.MethodName)) ∈ lw_all := lw_g (lw_at lw_m1 172 rfl) rfl
theorem q194 : (Jvm.Cond.code ({ cls := "LeasedMessages", name := "tune", desc := "(III)I" } : Jvm.MethodName) prog_1_method_26_code (4 : Nat) (Option.some Jvm.ClassFile.FieldType.int)) ∈ lw_all := lw_g (lw_at lw_m1 173 rfl) rfl
theorem q196 : (Jvm.Cond.instanceMethod ({ cls := "LeasedMessages", name := "revive", desc := "(I)I" } : Jvm.MethodName)) ∈ lw_all := lw_g (lw_at lw_m1 175 rfl) rfl
theorem q197 : (Jvm.Cond.selects "LeasedMessages" ({ cls := "LeasedMessages", name := "revive", desc := "(I)I" } : Jvm.MethodName) ({ cls := "LeasedMessages", name := "revive", desc := "(I)I" } : Jvm.MethodName)) ∈ lw_all := lw_g (lw_at lw_m1 176 rfl) rfl
theorem q198 : (Jvm.Cond.code ({ cls := "LeasedMessages", name := "revive", desc := "(I)I" } : Jvm.MethodName) prog_1_method_27_code (4 : Nat) (Option.some Jvm.ClassFile.FieldType.int)) ∈ lw_all := lw_g (lw_at lw_m1 177 rfl) rfl
theorem q200 : (Jvm.Cond.instanceMethod ({ cls := "LeasedMessages", name := "clear", desc := "()V" } : Jvm.MethodName)) ∈ lw_all := lw_g (lw_at lw_m1 179 rfl) rfl
theorem q201 : (Jvm.Cond.selects "LeasedMessages" ({ cls := "LeasedMessages", name := "clear", desc := "()V" } : Jvm.MethodName) ({ cls := "LeasedMessages", name := "clear", desc := "()V" } : Jvm.MethodName)) ∈ lw_all := lw_g (lw_at lw_m1 180 rfl) rfl
theorem q202 : (Jvm.Cond.code ({ cls := "LeasedMessages", name := "clear", desc := "()V" } : Jvm.MethodName) prog_1_method_28_code (2 : Nat) (Option.none : Option Jvm.ClassFile.FieldType)) ∈ lw_all := lw_g (lw_at lw_m1 181 rfl) rfl
theorem q204 : (Jvm.Cond.instanceMethod ({ cls := "LeasedMessages", name := "state", desc := "(I)I" } : Jvm.MethodName)) ∈ lw_all := lw_g (lw_at lw_m1 183 rfl) rfl
theorem q205 : (Jvm.Cond.selects "LeasedMessages" ({ cls := "LeasedMessages", name := "state", desc := "(I)I" } : Jvm.MethodName) ({ cls := "LeasedMessages", name := "state", desc := "(I)I" } : Jvm.MethodName)) ∈ lw_all := lw_g (lw_at lw_m1 184 rfl) rfl
theorem q206 : (Jvm.Cond.code ({ cls := "LeasedMessages", name := "state", desc := "(I)I" } : Jvm.MethodName) prog_1_method_29_code (2 : Nat) (Option.some Jvm.ClassFile.FieldType.int)) ∈ lw_all := lw_g (lw_at lw_m1 185 rfl) rfl
theorem q208 : (Jvm.Cond.instanceMethod ({ cls := "LeasedMessages", name := "ready", desc := "(I)I" } : Jvm.MethodName)) ∈ lw_all := lw_g (lw_at lw_m1 187 rfl) rfl
theorem q209 : (Jvm.Cond.selects "LeasedMessages" ({ cls := "LeasedMessages", name := "ready", desc := "(I)I" } : Jvm.MethodName) ({ cls := "LeasedMessages", name := "ready", desc := "(I)I" } : Jvm.MethodName)) ∈ lw_all := lw_g (lw_at lw_m1 188 rfl) rfl
theorem q210 : (Jvm.Cond.code ({ cls := "LeasedMessages", name := "ready", desc := "(I)I" } : Jvm.MethodName) prog_1_method_30_code (2 : Nat) (Option.some Jvm.ClassFile.FieldType.int)) ∈ lw_all := lw_g (lw_at lw_m1 189 rfl) rfl
theorem q212 : (Jvm.Cond.instanceMethod ({ cls := "LeasedMessages", name := "peek", desc := "(II)I" } : Jvm.MethodName)) ∈ lw_all := lw_g (lw_at lw_m1 191 rfl) rfl
theorem q213 : (Jvm.Cond.selects "LeasedMessages" ({ cls := "LeasedMessages", name := "peek", desc := "(II)I" } : Jvm.MethodName) ({ cls := "LeasedMessages", name := "peek", desc := "(II)I" } : Jvm.MethodName)) ∈ lw_all := lw_g (lw_at lw_m1 192 rfl) rfl
theorem q214 : (Jvm.Cond.code ({ cls := "LeasedMessages", name := "peek", desc := "(II)I" } : Jvm.MethodName) prog_1_method_31_code (6 : Nat) (Option.some Jvm.ClassFile.FieldType.int)) ∈ lw_all := lw_g (lw_at lw_m1 193 rfl) rfl
theorem q216 : (Jvm.Cond.instanceMethod ({ cls := "LeasedMessages", name := "nextDeadline", desc := "()I" } : Jvm.MethodName)) ∈ lw_all := lw_g (lw_at lw_m1 195 rfl) rfl
theorem q217 : (Jvm.Cond.selects "LeasedMessages" ({ cls := "LeasedMessages", name := "nextDeadline", desc := "()I" } : Jvm.MethodName) ({ cls := "LeasedMessages", name := "nextDeadline", desc := "()I" } : Jvm.MethodName)) ∈ lw_all := lw_g (lw_at lw_m1 196 rfl) rfl
theorem q218 : (Jvm.Cond.code ({ cls := "LeasedMessages", name := "nextDeadline", desc := "()I" } : Jvm.MethodName) prog_1_method_32_code (1 : Nat) (Option.some Jvm.ClassFile.FieldType.int)) ∈ lw_all := lw_g (lw_at lw_m1 197 rfl) rfl
theorem q220 : (Jvm.Cond.instanceMethod ({ cls := "LeasedMessages", name := "sum", desc := "(I)I" } : Jvm.MethodName)) ∈ lw_all := lw_g (lw_at lw_m1 199 rfl) rfl
theorem q221 : (Jvm.Cond.selects "LeasedMessages" ({ cls := "LeasedMessages", name := "sum", desc := "(I)I" } : Jvm.MethodName) ({ cls := "LeasedMessages", name := "sum", desc := "(I)I" } : Jvm.MethodName)) ∈ lw_all := lw_g (lw_at lw_m1 200 rfl) rfl
theorem q222 : (Jvm.Cond.code ({ cls := "LeasedMessages", name := "sum", desc := "(I)I" } : Jvm.MethodName) prog_1_method_33_code (4 : Nat) (Option.some Jvm.ClassFile.FieldType.int)) ∈ lw_all := lw_g (lw_at lw_m1 201 rfl) rfl
theorem in_X0 : ∀ w ∈ wsX00, w ∈ lw_all := lw_in wsX00 [53, 55, 57, 59, 61, 63, 65, 67, 69, 71, 73, 75, 77, 79, 81, 83, 85, 87, 89, 91, 93] (by decide +kernel) (by decide +kernel)
end
section
set_option maxRecDepth 100000
theorem dX0_init_0 : decode cX0_init 0 = .ok (.aload_n 0, 1) := by decide +kernel
theorem dX0_init_1 : decode cX0_init 1 = .ok (.invokespecial 1, 3) := by decide +kernel
theorem dX0_init_4 : decode cX0_init 4 = .ok (.aload_n 0, 1) := by decide +kernel
theorem dX0_init_5 : decode cX0_init 5 = .ok (.bipush 40, 2) := by decide +kernel
theorem dX0_init_7 : decode cX0_init 7 = .ok (.newarray .int, 2) := by decide +kernel
theorem dX0_init_9 : decode cX0_init 9 = .ok (.putfield 7, 3) := by decide +kernel
theorem dX0_init_12 : decode cX0_init 12 = .ok (.aload_n 0, 1) := by decide +kernel
theorem dX0_init_13 : decode cX0_init 13 = .ok (.bipush 40, 2) := by decide +kernel
theorem dX0_init_15 : decode cX0_init 15 = .ok (.newarray .int, 2) := by decide +kernel
theorem dX0_init_17 : decode cX0_init 17 = .ok (.putfield 13, 3) := by decide +kernel
theorem dX0_init_20 : decode cX0_init 20 = .ok (.aload_n 0, 1) := by decide +kernel
theorem dX0_init_21 : decode cX0_init 21 = .ok (.bipush 40, 2) := by decide +kernel
theorem dX0_init_23 : decode cX0_init 23 = .ok (.newarray .int, 2) := by decide +kernel
theorem dX0_init_25 : decode cX0_init 25 = .ok (.putfield 16, 3) := by decide +kernel
theorem dX0_init_28 : decode cX0_init 28 = .ok (.aload_n 0, 1) := by decide +kernel
theorem dX0_init_29 : decode cX0_init 29 = .ok (.bipush 40, 2) := by decide +kernel
theorem dX0_init_31 : decode cX0_init 31 = .ok (.newarray .int, 2) := by decide +kernel
theorem dX0_init_33 : decode cX0_init 33 = .ok (.putfield 19, 3) := by decide +kernel
theorem dX0_init_36 : decode cX0_init 36 = .ok (.aload_n 0, 1) := by decide +kernel
theorem dX0_init_37 : decode cX0_init 37 = .ok (.bipush 40, 2) := by decide +kernel
theorem dX0_init_39 : decode cX0_init 39 = .ok (.newarray .int, 2) := by decide +kernel
theorem dX0_init_41 : decode cX0_init 41 = .ok (.putfield 22, 3) := by decide +kernel
theorem dX0_init_44 : decode cX0_init 44 = .ok (.aload_n 0, 1) := by decide +kernel
theorem dX0_init_45 : decode cX0_init 45 = .ok (.bipush 40, 2) := by decide +kernel
theorem dX0_init_47 : decode cX0_init 47 = .ok (.newarray .int, 2) := by decide +kernel
theorem dX0_init_49 : decode cX0_init 49 = .ok (.putfield 25, 3) := by decide +kernel
theorem dX0_init_52 : decode cX0_init 52 = .ok (.aload_n 0, 1) := by decide +kernel
theorem dX0_init_53 : decode cX0_init 53 = .ok (.bipush 40, 2) := by decide +kernel
theorem dX0_init_55 : decode cX0_init 55 = .ok (.newarray .int, 2) := by decide +kernel
theorem dX0_init_57 : decode cX0_init 57 = .ok (.putfield 28, 3) := by decide +kernel
theorem dX0_init_60 : decode cX0_init 60 = .ok (.aload_n 0, 1) := by decide +kernel
theorem dX0_init_61 : decode cX0_init 61 = .ok (.bipush 40, 2) := by decide +kernel
theorem dX0_init_63 : decode cX0_init 63 = .ok (.newarray .int, 2) := by decide +kernel
theorem dX0_init_65 : decode cX0_init 65 = .ok (.putfield 31, 3) := by decide +kernel
theorem dX0_init_68 : decode cX0_init 68 = .ok (.aload_n 0, 1) := by decide +kernel
theorem dX0_init_69 : decode cX0_init 69 = .ok (.iconst 3, 1) := by decide +kernel
theorem dX0_init_70 : decode cX0_init 70 = .ok (.newarray .int, 2) := by decide +kernel
theorem dX0_init_72 : decode cX0_init 72 = .ok (.putfield 34, 3) := by decide +kernel
theorem dX0_init_75 : decode cX0_init 75 = .ok (.aload_n 0, 1) := by decide +kernel
theorem dX0_init_76 : decode cX0_init 76 = .ok (.bipush 120, 2) := by decide +kernel
theorem dX0_init_78 : decode cX0_init 78 = .ok (.newarray .int, 2) := by decide +kernel
theorem dX0_init_80 : decode cX0_init 80 = .ok (.putfield 37, 3) := by decide +kernel
theorem dX0_init_83 : decode cX0_init 83 = .ok (.aload_n 0, 1) := by decide +kernel
theorem dX0_init_84 : decode cX0_init 84 = .ok (.bipush 40, 2) := by decide +kernel
theorem dX0_init_86 : decode cX0_init 86 = .ok (.newarray .int, 2) := by decide +kernel
theorem dX0_init_88 : decode cX0_init 88 = .ok (.putfield 40, 3) := by decide +kernel
theorem dX0_init_91 : decode cX0_init 91 = .ok (.aload_n 0, 1) := by decide +kernel
theorem dX0_init_92 : decode cX0_init 92 = .ok (.iconst 3, 1) := by decide +kernel
theorem dX0_init_93 : decode cX0_init 93 = .ok (.newarray .int, 2) := by decide +kernel
theorem dX0_init_95 : decode cX0_init 95 = .ok (.putfield 43, 3) := by decide +kernel
theorem dX0_init_98 : decode cX0_init 98 = .ok (.aload_n 0, 1) := by decide +kernel
theorem dX0_init_99 : decode cX0_init 99 = .ok (.iconst 3, 1) := by decide +kernel
theorem dX0_init_100 : decode cX0_init 100 = .ok (.newarray .int, 2) := by decide +kernel
theorem dX0_init_102 : decode cX0_init 102 = .ok (.putfield 46, 3) := by decide +kernel
theorem dX0_init_105 : decode cX0_init 105 = .ok (.aload_n 0, 1) := by decide +kernel
theorem dX0_init_106 : decode cX0_init 106 = .ok (.bipush 6, 2) := by decide +kernel
theorem dX0_init_108 : decode cX0_init 108 = .ok (.newarray .int, 2) := by decide +kernel
theorem dX0_init_110 : decode cX0_init 110 = .ok (.putfield 49, 3) := by decide +kernel
theorem dX0_init_113 : decode cX0_init 113 = .ok (.aload_n 0, 1) := by decide +kernel
theorem dX0_init_114 : decode cX0_init 114 = .ok (.iconst 3, 1) := by decide +kernel
theorem dX0_init_115 : decode cX0_init 115 = .ok (.newarray .int, 2) := by decide +kernel
theorem dX0_init_117 : decode cX0_init 117 = .ok (.putfield 52, 3) := by decide +kernel
theorem dX0_init_120 : decode cX0_init 120 = .ok (.aload_n 0, 1) := by decide +kernel
theorem dX0_init_121 : decode cX0_init 121 = .ok (.bipush 40, 2) := by decide +kernel
theorem dX0_init_123 : decode cX0_init 123 = .ok (.newarray .int, 2) := by decide +kernel
theorem dX0_init_125 : decode cX0_init 125 = .ok (.putfield 55, 3) := by decide +kernel
theorem dX0_init_128 : decode cX0_init 128 = .ok (.aload_n 0, 1) := by decide +kernel
theorem dX0_init_129 : decode cX0_init 129 = .ok (.bipush 40, 2) := by decide +kernel
theorem dX0_init_131 : decode cX0_init 131 = .ok (.newarray .int, 2) := by decide +kernel
theorem dX0_init_133 : decode cX0_init 133 = .ok (.putfield 58, 3) := by decide +kernel
theorem dX0_init_136 : decode cX0_init 136 = .ok (.iconst 0, 1) := by decide +kernel
theorem dX0_init_137 : decode cX0_init 137 = .ok (.istore_n 1, 1) := by decide +kernel
theorem dX0_init_138 : decode cX0_init 138 = .ok (.iload_n 1, 1) := by decide +kernel
theorem dX0_init_139 : decode cX0_init 139 = .ok (.iconst 3, 1) := by decide +kernel
theorem dX0_init_140 : decode cX0_init 140 = .ok (.if_icmp .ge 23, 3) := by decide +kernel
theorem dX0_init_143 : decode cX0_init 143 = .ok (.aload_n 0, 1) := by decide +kernel
theorem dX0_init_144 : decode cX0_init 144 = .ok (.getfield 43, 3) := by decide +kernel
theorem dX0_init_147 : decode cX0_init 147 = .ok (.iload_n 1, 1) := by decide +kernel
theorem dX0_init_148 : decode cX0_init 148 = .ok (.iconst 5, 1) := by decide +kernel
theorem dX0_init_149 : decode cX0_init 149 = .ok (.iastore, 1) := by decide +kernel
theorem dX0_init_150 : decode cX0_init 150 = .ok (.aload_n 0, 1) := by decide +kernel
theorem dX0_init_151 : decode cX0_init 151 = .ok (.getfield 46, 3) := by decide +kernel
theorem dX0_init_154 : decode cX0_init 154 = .ok (.iload_n 1, 1) := by decide +kernel
theorem dX0_init_155 : decode cX0_init 155 = .ok (.iconst 3, 1) := by decide +kernel
theorem dX0_init_156 : decode cX0_init 156 = .ok (.iastore, 1) := by decide +kernel
theorem dX0_init_157 : decode cX0_init 157 = .ok (.iinc 1 1, 3) := by decide +kernel
theorem dX0_init_160 : decode cX0_init 160 = .ok (.goto (-22), 3) := by decide +kernel
theorem dX0_init_163 : decode cX0_init 163 = .ok (.return_, 1) := by decide +kernel
theorem dX0_publish_0 : decode cX0_publish 0 = .ok (.iload_n 1, 1) := by decide +kernel
theorem dX0_publish_1 : decode cX0_publish 1 = .ok (.invokestatic 105, 3) := by decide +kernel
theorem dX0_publish_4 : decode cX0_publish 4 = .ok (.ifCond .eq 5, 3) := by decide +kernel
theorem dX0_publish_7 : decode cX0_publish 7 = .ok (.iconst (-1), 1) := by decide +kernel
theorem dX0_publish_8 : decode cX0_publish 8 = .ok (.ireturn, 1) := by decide +kernel
theorem dX0_publish_9 : decode cX0_publish 9 = .ok (.iload_n 3, 1) := by decide +kernel
theorem dX0_publish_10 : decode cX0_publish 10 = .ok (.ifCond .lt 20, 3) := by decide +kernel
theorem dX0_publish_13 : decode cX0_publish 13 = .ok (.iload_n 3, 1) := by decide +kernel
theorem dX0_publish_14 : decode cX0_publish 14 = .ok (.iconst 3, 1) := by decide +kernel
theorem dX0_publish_15 : decode cX0_publish 15 = .ok (.if_icmp .gt 15, 3) := by decide +kernel
theorem dX0_publish_18 : decode cX0_publish 18 = .ok (.iload 4, 2) := by decide +kernel
theorem dX0_publish_20 : decode cX0_publish 20 = .ok (.ifCond .lt 10, 3) := by decide +kernel
theorem dX0_publish_23 : decode cX0_publish 23 = .ok (.iload 4, 2) := by decide +kernel
theorem dX0_publish_25 : decode cX0_publish 25 = .ok (.bipush 50, 2) := by decide +kernel
theorem dX0_publish_27 : decode cX0_publish 27 = .ok (.if_icmp .le 6, 3) := by decide +kernel
theorem dX0_publish_30 : decode cX0_publish 30 = .ok (.bipush (-3), 2) := by decide +kernel
theorem dX0_publish_32 : decode cX0_publish 32 = .ok (.ireturn, 1) := by decide +kernel
theorem dX0_publish_33 : decode cX0_publish 33 = .ok (.aload_n 0, 1) := by decide +kernel
theorem dX0_publish_34 : decode cX0_publish 34 = .ok (.getfield 102, 3) := by decide +kernel
theorem dX0_publish_37 : decode cX0_publish 37 = .ok (.bipush 40, 2) := by decide +kernel
theorem dX0_publish_39 : decode cX0_publish 39 = .ok (.if_icmp .lt 6, 3) := by decide +kernel
theorem dX0_publish_42 : decode cX0_publish 42 = .ok (.bipush (-4), 2) := by decide +kernel
theorem dX0_publish_44 : decode cX0_publish 44 = .ok (.ireturn, 1) := by decide +kernel
theorem dX0_publish_45 : decode cX0_publish 45 = .ok (.aload_n 0, 1) := by decide +kernel
theorem dX0_publish_46 : decode cX0_publish 46 = .ok (.getfield 102, 3) := by decide +kernel
theorem dX0_publish_49 : decode cX0_publish 49 = .ok (.istore 5, 2) := by decide +kernel
theorem dX0_publish_51 : decode cX0_publish 51 = .ok (.aload_n 0, 1) := by decide +kernel
theorem dX0_publish_52 : decode cX0_publish 52 = .ok (.getfield 7, 3) := by decide +kernel
theorem dX0_publish_55 : decode cX0_publish 55 = .ok (.iload 5, 2) := by decide +kernel
theorem dX0_publish_57 : decode cX0_publish 57 = .ok (.iload_n 1, 1) := by decide +kernel
theorem dX0_publish_58 : decode cX0_publish 58 = .ok (.iastore, 1) := by decide +kernel
theorem dX0_publish_59 : decode cX0_publish 59 = .ok (.aload_n 0, 1) := by decide +kernel
theorem dX0_publish_60 : decode cX0_publish 60 = .ok (.getfield 13, 3) := by decide +kernel
theorem dX0_publish_63 : decode cX0_publish 63 = .ok (.iload 5, 2) := by decide +kernel
theorem dX0_publish_65 : decode cX0_publish 65 = .ok (.iload_n 2, 1) := by decide +kernel
theorem dX0_publish_66 : decode cX0_publish 66 = .ok (.iastore, 1) := by decide +kernel
theorem dX0_publish_67 : decode cX0_publish 67 = .ok (.aload_n 0, 1) := by decide +kernel
theorem dX0_publish_68 : decode cX0_publish 68 = .ok (.getfield 16, 3) := by decide +kernel
theorem dX0_publish_71 : decode cX0_publish 71 = .ok (.iload 5, 2) := by decide +kernel
theorem dX0_publish_73 : decode cX0_publish 73 = .ok (.iload_n 3, 1) := by decide +kernel
theorem dX0_publish_74 : decode cX0_publish 74 = .ok (.iastore, 1) := by decide +kernel
theorem dX0_publish_75 : decode cX0_publish 75 = .ok (.aload_n 0, 1) := by decide +kernel
theorem dX0_publish_76 : decode cX0_publish 76 = .ok (.getfield 19, 3) := by decide +kernel
theorem dX0_publish_79 : decode cX0_publish 79 = .ok (.iload 5, 2) := by decide +kernel
theorem dX0_publish_81 : decode cX0_publish 81 = .ok (.iconst 0, 1) := by decide +kernel
theorem dX0_publish_82 : decode cX0_publish 82 = .ok (.iastore, 1) := by decide +kernel
theorem dX0_publish_83 : decode cX0_publish 83 = .ok (.aload_n 0, 1) := by decide +kernel
theorem dX0_publish_84 : decode cX0_publish 84 = .ok (.getfield 31, 3) := by decide +kernel
theorem dX0_publish_87 : decode cX0_publish 87 = .ok (.iload 5, 2) := by decide +kernel
theorem dX0_publish_89 : decode cX0_publish 89 = .ok (.iload 4, 2) := by decide +kernel
theorem dX0_publish_91 : decode cX0_publish 91 = .ok (.ifCond .le 13, 3) := by decide +kernel
theorem dX0_publish_94 : decode cX0_publish 94 = .ok (.aload_n 0, 1) := by decide +kernel
theorem dX0_publish_95 : decode cX0_publish 95 = .ok (.getfield 108, 3) := by decide +kernel
theorem dX0_publish_98 : decode cX0_publish 98 = .ok (.iload 4, 2) := by decide +kernel
theorem dX0_publish_100 : decode cX0_publish 100 = .ok (.iadd, 1) := by decide +kernel
theorem dX0_publish_101 : decode cX0_publish 101 = .ok (.goto 4, 3) := by decide +kernel
theorem dX0_publish_104 : decode cX0_publish 104 = .ok (.iconst (-1), 1) := by decide +kernel
theorem dX0_publish_105 : decode cX0_publish 105 = .ok (.iastore, 1) := by decide +kernel
theorem dX0_publish_106 : decode cX0_publish 106 = .ok (.aload_n 0, 1) := by decide +kernel
theorem dX0_publish_107 : decode cX0_publish 107 = .ok (.dup, 1) := by decide +kernel
theorem dX0_publish_108 : decode cX0_publish 108 = .ok (.getfield 102, 3) := by decide +kernel
theorem dX0_publish_111 : decode cX0_publish 111 = .ok (.iconst 1, 1) := by decide +kernel
theorem dX0_publish_112 : decode cX0_publish 112 = .ok (.iadd, 1) := by decide +kernel
theorem dX0_publish_113 : decode cX0_publish 113 = .ok (.putfield 102, 3) := by decide +kernel
theorem dX0_publish_116 : decode cX0_publish 116 = .ok (.aload_n 0, 1) := by decide +kernel
theorem dX0_publish_117 : decode cX0_publish 117 = .ok (.iload 5, 2) := by decide +kernel
theorem dX0_publish_119 : decode cX0_publish 119 = .ok (.invokevirtual 82, 3) := by decide +kernel
theorem dX0_publish_122 : decode cX0_publish 122 = .ok (.iload 4, 2) := by decide +kernel
theorem dX0_publish_124 : decode cX0_publish 124 = .ok (.ifCond .le 9, 3) := by decide +kernel
theorem dX0_publish_127 : decode cX0_publish 127 = .ok (.aload_n 0, 1) := by decide +kernel
theorem dX0_publish_128 : decode cX0_publish 128 = .ok (.iload 5, 2) := by decide +kernel
theorem dX0_publish_130 : decode cX0_publish 130 = .ok (.invokevirtual 90, 3) := by decide +kernel
theorem dX0_publish_133 : decode cX0_publish 133 = .ok (.iload 5, 2) := by decide +kernel
theorem dX0_publish_135 : decode cX0_publish 135 = .ok (.ireturn, 1) := by decide +kernel
theorem dX0_badQueue_0 : decode cX0_badQueue 0 = .ok (.iload_n 0, 1) := by decide +kernel
theorem dX0_badQueue_1 : decode cX0_badQueue 1 = .ok (.ifCond .lt 8, 3) := by decide +kernel
theorem dX0_badQueue_4 : decode cX0_badQueue 4 = .ok (.iload_n 0, 1) := by decide +kernel
theorem dX0_badQueue_5 : decode cX0_badQueue 5 = .ok (.iconst 3, 1) := by decide +kernel
theorem dX0_badQueue_6 : decode cX0_badQueue 6 = .ok (.if_icmp .lt 7, 3) := by decide +kernel
theorem dX0_badQueue_9 : decode cX0_badQueue 9 = .ok (.iconst 1, 1) := by decide +kernel
theorem dX0_badQueue_10 : decode cX0_badQueue 10 = .ok (.goto 4, 3) := by decide +kernel
theorem dX0_badQueue_13 : decode cX0_badQueue 13 = .ok (.iconst 0, 1) := by decide +kernel
theorem dX0_badQueue_14 : decode cX0_badQueue 14 = .ok (.ireturn, 1) := by decide +kernel
theorem dX0_makeReady_0 : decode cX0_makeReady 0 = .ok (.aload_n 0, 1) := by decide +kernel
theorem dX0_makeReady_1 : decode cX0_makeReady 1 = .ok (.getfield 7, 3) := by decide +kernel
theorem dX0_makeReady_4 : decode cX0_makeReady 4 = .ok (.iload_n 1, 1) := by decide +kernel
theorem dX0_makeReady_5 : decode cX0_makeReady 5 = .ok (.iaload, 1) := by decide +kernel
theorem dX0_makeReady_6 : decode cX0_makeReady 6 = .ok (.istore_n 2, 1) := by decide +kernel
theorem dX0_makeReady_7 : decode cX0_makeReady 7 = .ok (.aload_n 0, 1) := by decide +kernel
theorem dX0_makeReady_8 : decode cX0_makeReady 8 = .ok (.getfield 22, 3) := by decide +kernel
theorem dX0_makeReady_11 : decode cX0_makeReady 11 = .ok (.iload_n 1, 1) := by decide +kernel
theorem dX0_makeReady_12 : decode cX0_makeReady 12 = .ok (.iconst 0, 1) := by decide +kernel
theorem dX0_makeReady_13 : decode cX0_makeReady 13 = .ok (.iastore, 1) := by decide +kernel
theorem dX0_makeReady_14 : decode cX0_makeReady 14 = .ok (.aload_n 0, 1) := by decide +kernel
theorem dX0_makeReady_15 : decode cX0_makeReady 15 = .ok (.getfield 34, 3) := by decide +kernel
theorem dX0_makeReady_18 : decode cX0_makeReady 18 = .ok (.iload_n 2, 1) := by decide +kernel
theorem dX0_makeReady_19 : decode cX0_makeReady 19 = .ok (.dup2, 1) := by decide +kernel
theorem dX0_makeReady_20 : decode cX0_makeReady 20 = .ok (.iaload, 1) := by decide +kernel
theorem dX0_makeReady_21 : decode cX0_makeReady 21 = .ok (.iconst 1, 1) := by decide +kernel
theorem dX0_makeReady_22 : decode cX0_makeReady 22 = .ok (.iadd, 1) := by decide +kernel
theorem dX0_makeReady_23 : decode cX0_makeReady 23 = .ok (.iastore, 1) := by decide +kernel
theorem dX0_makeReady_24 : decode cX0_makeReady 24 = .ok (.aload_n 0, 1) := by decide +kernel
theorem dX0_makeReady_25 : decode cX0_makeReady 25 = .ok (.iload_n 2, 1) := by decide +kernel
theorem dX0_makeReady_26 : decode cX0_makeReady 26 = .ok (.aload_n 0, 1) := by decide +kernel
theorem dX0_makeReady_27 : decode cX0_makeReady 27 = .ok (.getfield 34, 3) := by decide +kernel
theorem dX0_makeReady_30 : decode cX0_makeReady 30 = .ok (.iload_n 2, 1) := by decide +kernel
theorem dX0_makeReady_31 : decode cX0_makeReady 31 = .ok (.iaload, 1) := by decide +kernel
theorem dX0_makeReady_32 : decode cX0_makeReady 32 = .ok (.iconst 1, 1) := by decide +kernel
theorem dX0_makeReady_33 : decode cX0_makeReady 33 = .ok (.isub, 1) := by decide +kernel
theorem dX0_makeReady_34 : decode cX0_makeReady 34 = .ok (.iload_n 1, 1) := by decide +kernel
theorem dX0_makeReady_35 : decode cX0_makeReady 35 = .ok (.invokevirtual 69, 3) := by decide +kernel
theorem dX0_makeReady_38 : decode cX0_makeReady 38 = .ok (.return_, 1) := by decide +kernel
theorem dX0_rise_0 : decode cX0_rise 0 = .ok (.iload_n 2, 1) := by decide +kernel
theorem dX0_rise_1 : decode cX0_rise 1 = .ok (.istore 4, 2) := by decide +kernel
theorem dX0_rise_3 : decode cX0_rise 3 = .ok (.iload 4, 2) := by decide +kernel
theorem dX0_rise_5 : decode cX0_rise 5 = .ok (.ifCond .le 61, 3) := by decide +kernel
theorem dX0_rise_8 : decode cX0_rise 8 = .ok (.aload_n 0, 1) := by decide +kernel
theorem dX0_rise_9 : decode cX0_rise 9 = .ok (.iload_n 3, 1) := by decide +kernel
theorem dX0_rise_10 : decode cX0_rise 10 = .ok (.aload_n 0, 1) := by decide +kernel
theorem dX0_rise_11 : decode cX0_rise 11 = .ok (.getfield 37, 3) := by decide +kernel
theorem dX0_rise_14 : decode cX0_rise 14 = .ok (.iload_n 1, 1) := by decide +kernel
theorem dX0_rise_15 : decode cX0_rise 15 = .ok (.bipush 40, 2) := by decide +kernel
theorem dX0_rise_17 : decode cX0_rise 17 = .ok (.imul, 1) := by decide +kernel
theorem dX0_rise_18 : decode cX0_rise 18 = .ok (.iload 4, 2) := by decide +kernel
theorem dX0_rise_20 : decode cX0_rise 20 = .ok (.iconst 1, 1) := by decide +kernel
theorem dX0_rise_21 : decode cX0_rise 21 = .ok (.isub, 1) := by decide +kernel
theorem dX0_rise_22 : decode cX0_rise 22 = .ok (.iconst 2, 1) := by decide +kernel
theorem dX0_rise_23 : decode cX0_rise 23 = .ok (.idiv, 1) := by decide +kernel
theorem dX0_rise_24 : decode cX0_rise 24 = .ok (.iadd, 1) := by decide +kernel
theorem dX0_rise_25 : decode cX0_rise 25 = .ok (.iaload, 1) := by decide +kernel
theorem dX0_rise_26 : decode cX0_rise 26 = .ok (.invokevirtual 61, 3) := by decide +kernel
theorem dX0_rise_29 : decode cX0_rise 29 = .ok (.ifCond .eq 37, 3) := by decide +kernel
theorem dX0_rise_32 : decode cX0_rise 32 = .ok (.aload_n 0, 1) := by decide +kernel
theorem dX0_rise_33 : decode cX0_rise 33 = .ok (.iload_n 1, 1) := by decide +kernel
theorem dX0_rise_34 : decode cX0_rise 34 = .ok (.iload 4, 2) := by decide +kernel
theorem dX0_rise_36 : decode cX0_rise 36 = .ok (.aload_n 0, 1) := by decide +kernel
theorem dX0_rise_37 : decode cX0_rise 37 = .ok (.getfield 37, 3) := by decide +kernel
theorem dX0_rise_40 : decode cX0_rise 40 = .ok (.iload_n 1, 1) := by decide +kernel
theorem dX0_rise_41 : decode cX0_rise 41 = .ok (.bipush 40, 2) := by decide +kernel
theorem dX0_rise_43 : decode cX0_rise 43 = .ok (.imul, 1) := by decide +kernel
theorem dX0_rise_44 : decode cX0_rise 44 = .ok (.iload 4, 2) := by decide +kernel
theorem dX0_rise_46 : decode cX0_rise 46 = .ok (.iconst 1, 1) := by decide +kernel
theorem dX0_rise_47 : decode cX0_rise 47 = .ok (.isub, 1) := by decide +kernel
theorem dX0_rise_48 : decode cX0_rise 48 = .ok (.iconst 2, 1) := by decide +kernel
theorem dX0_rise_49 : decode cX0_rise 49 = .ok (.idiv, 1) := by decide +kernel
theorem dX0_rise_50 : decode cX0_rise 50 = .ok (.iadd, 1) := by decide +kernel
theorem dX0_rise_51 : decode cX0_rise 51 = .ok (.iaload, 1) := by decide +kernel
theorem dX0_rise_52 : decode cX0_rise 52 = .ok (.invokevirtual 65, 3) := by decide +kernel
theorem dX0_rise_55 : decode cX0_rise 55 = .ok (.iload 4, 2) := by decide +kernel
theorem dX0_rise_57 : decode cX0_rise 57 = .ok (.iconst 1, 1) := by decide +kernel
theorem dX0_rise_58 : decode cX0_rise 58 = .ok (.isub, 1) := by decide +kernel
theorem dX0_rise_59 : decode cX0_rise 59 = .ok (.iconst 2, 1) := by decide +kernel
theorem dX0_rise_60 : decode cX0_rise 60 = .ok (.idiv, 1) := by decide +kernel
theorem dX0_rise_61 : decode cX0_rise 61 = .ok (.istore 4, 2) := by decide +kernel
theorem dX0_rise_63 : decode cX0_rise 63 = .ok (.goto (-60), 3) := by decide +kernel
theorem dX0_rise_66 : decode cX0_rise 66 = .ok (.aload_n 0, 1) := by decide +kernel
theorem dX0_rise_67 : decode cX0_rise 67 = .ok (.iload_n 1, 1) := by decide +kernel
theorem dX0_rise_68 : decode cX0_rise 68 = .ok (.iload 4, 2) := by decide +kernel
theorem dX0_rise_70 : decode cX0_rise 70 = .ok (.iload_n 3, 1) := by decide +kernel
theorem dX0_rise_71 : decode cX0_rise 71 = .ok (.invokevirtual 65, 3) := by decide +kernel
theorem dX0_rise_74 : decode cX0_rise 74 = .ok (.return_, 1) := by decide +kernel
theorem dX0_before_0 : decode cX0_before 0 = .ok (.aload_n 0, 1) := by decide +kernel
theorem dX0_before_1 : decode cX0_before 1 = .ok (.getfield 16, 3) := by decide +kernel
theorem dX0_before_4 : decode cX0_before 4 = .ok (.iload_n 1, 1) := by decide +kernel
theorem dX0_before_5 : decode cX0_before 5 = .ok (.iaload, 1) := by decide +kernel
theorem dX0_before_6 : decode cX0_before 6 = .ok (.aload_n 0, 1) := by decide +kernel
theorem dX0_before_7 : decode cX0_before 7 = .ok (.getfield 16, 3) := by decide +kernel
theorem dX0_before_10 : decode cX0_before 10 = .ok (.iload_n 2, 1) := by decide +kernel
theorem dX0_before_11 : decode cX0_before 11 = .ok (.iaload, 1) := by decide +kernel
theorem dX0_before_12 : decode cX0_before 12 = .ok (.if_icmp .eq 26, 3) := by decide +kernel
theorem dX0_before_15 : decode cX0_before 15 = .ok (.aload_n 0, 1) := by decide +kernel
theorem dX0_before_16 : decode cX0_before 16 = .ok (.getfield 16, 3) := by decide +kernel
theorem dX0_before_19 : decode cX0_before 19 = .ok (.iload_n 1, 1) := by decide +kernel
theorem dX0_before_20 : decode cX0_before 20 = .ok (.iaload, 1) := by decide +kernel
theorem dX0_before_21 : decode cX0_before 21 = .ok (.aload_n 0, 1) := by decide +kernel
theorem dX0_before_22 : decode cX0_before 22 = .ok (.getfield 16, 3) := by decide +kernel
theorem dX0_before_25 : decode cX0_before 25 = .ok (.iload_n 2, 1) := by decide +kernel
theorem dX0_before_26 : decode cX0_before 26 = .ok (.iaload, 1) := by decide +kernel
theorem dX0_before_27 : decode cX0_before 27 = .ok (.if_icmp .le 7, 3) := by decide +kernel
theorem dX0_before_30 : decode cX0_before 30 = .ok (.iconst 1, 1) := by decide +kernel
theorem dX0_before_31 : decode cX0_before 31 = .ok (.goto 17, 3) := by decide +kernel
theorem dX0_before_34 : decode cX0_before 34 = .ok (.iconst 0, 1) := by decide +kernel
theorem dX0_before_35 : decode cX0_before 35 = .ok (.goto 13, 3) := by decide +kernel
theorem dX0_before_38 : decode cX0_before 38 = .ok (.iload_n 1, 1) := by decide +kernel
theorem dX0_before_39 : decode cX0_before 39 = .ok (.iload_n 2, 1) := by decide +kernel
theorem dX0_before_40 : decode cX0_before 40 = .ok (.if_icmp .ge 7, 3) := by decide +kernel
theorem dX0_before_43 : decode cX0_before 43 = .ok (.iconst 1, 1) := by decide +kernel
theorem dX0_before_44 : decode cX0_before 44 = .ok (.goto 4, 3) := by decide +kernel
theorem dX0_before_47 : decode cX0_before 47 = .ok (.iconst 0, 1) := by decide +kernel
theorem dX0_before_48 : decode cX0_before 48 = .ok (.ireturn, 1) := by decide +kernel
theorem dX0_place_0 : decode cX0_place 0 = .ok (.aload_n 0, 1) := by decide +kernel
theorem dX0_place_1 : decode cX0_place 1 = .ok (.getfield 37, 3) := by decide +kernel
theorem dX0_place_4 : decode cX0_place 4 = .ok (.iload_n 1, 1) := by decide +kernel
theorem dX0_place_5 : decode cX0_place 5 = .ok (.bipush 40, 2) := by decide +kernel
theorem dX0_place_7 : decode cX0_place 7 = .ok (.imul, 1) := by decide +kernel
theorem dX0_place_8 : decode cX0_place 8 = .ok (.iload_n 2, 1) := by decide +kernel
theorem dX0_place_9 : decode cX0_place 9 = .ok (.iadd, 1) := by decide +kernel
theorem dX0_place_10 : decode cX0_place 10 = .ok (.iload_n 3, 1) := by decide +kernel
theorem dX0_place_11 : decode cX0_place 11 = .ok (.iastore, 1) := by decide +kernel
theorem dX0_place_12 : decode cX0_place 12 = .ok (.aload_n 0, 1) := by decide +kernel
theorem dX0_place_13 : decode cX0_place 13 = .ok (.getfield 40, 3) := by decide +kernel
theorem dX0_place_16 : decode cX0_place 16 = .ok (.iload_n 3, 1) := by decide +kernel
theorem dX0_place_17 : decode cX0_place 17 = .ok (.iload_n 2, 1) := by decide +kernel
theorem dX0_place_18 : decode cX0_place 18 = .ok (.iastore, 1) := by decide +kernel
theorem dX0_place_19 : decode cX0_place 19 = .ok (.return_, 1) := by decide +kernel
theorem dX0_addLife_0 : decode cX0_addLife 0 = .ok (.aload_n 0, 1) := by decide +kernel
theorem dX0_addLife_1 : decode cX0_addLife 1 = .ok (.getfield 75, 3) := by decide +kernel
theorem dX0_addLife_4 : decode cX0_addLife 4 = .ok (.istore_n 2, 1) := by decide +kernel
theorem dX0_addLife_5 : decode cX0_addLife 5 = .ok (.aload_n 0, 1) := by decide +kernel
theorem dX0_addLife_6 : decode cX0_addLife 6 = .ok (.dup, 1) := by decide +kernel
theorem dX0_addLife_7 : decode cX0_addLife 7 = .ok (.getfield 75, 3) := by decide +kernel
theorem dX0_addLife_10 : decode cX0_addLife 10 = .ok (.iconst 1, 1) := by decide +kernel
theorem dX0_addLife_11 : decode cX0_addLife 11 = .ok (.iadd, 1) := by decide +kernel
theorem dX0_addLife_12 : decode cX0_addLife 12 = .ok (.putfield 75, 3) := by decide +kernel
theorem dX0_addLife_15 : decode cX0_addLife 15 = .ok (.iload_n 2, 1) := by decide +kernel
theorem dX0_addLife_16 : decode cX0_addLife 16 = .ok (.ifCond .le 46, 3) := by decide +kernel
theorem dX0_addLife_19 : decode cX0_addLife 19 = .ok (.aload_n 0, 1) := by decide +kernel
theorem dX0_addLife_20 : decode cX0_addLife 20 = .ok (.iload_n 1, 1) := by decide +kernel
theorem dX0_addLife_21 : decode cX0_addLife 21 = .ok (.aload_n 0, 1) := by decide +kernel
theorem dX0_addLife_22 : decode cX0_addLife 22 = .ok (.getfield 55, 3) := by decide +kernel
theorem dX0_addLife_25 : decode cX0_addLife 25 = .ok (.iload_n 2, 1) := by decide +kernel
theorem dX0_addLife_26 : decode cX0_addLife 26 = .ok (.iconst 1, 1) := by decide +kernel
theorem dX0_addLife_27 : decode cX0_addLife 27 = .ok (.isub, 1) := by decide +kernel
theorem dX0_addLife_28 : decode cX0_addLife 28 = .ok (.iconst 2, 1) := by decide +kernel
theorem dX0_addLife_29 : decode cX0_addLife 29 = .ok (.idiv, 1) := by decide +kernel
theorem dX0_addLife_30 : decode cX0_addLife 30 = .ok (.iaload, 1) := by decide +kernel
theorem dX0_addLife_31 : decode cX0_addLife 31 = .ok (.invokevirtual 79, 3) := by decide +kernel
theorem dX0_addLife_34 : decode cX0_addLife 34 = .ok (.ifCond .eq 28, 3) := by decide +kernel
theorem dX0_addLife_37 : decode cX0_addLife 37 = .ok (.aload_n 0, 1) := by decide +kernel
theorem dX0_addLife_38 : decode cX0_addLife 38 = .ok (.getfield 55, 3) := by decide +kernel
theorem dX0_addLife_41 : decode cX0_addLife 41 = .ok (.iload_n 2, 1) := by decide +kernel
theorem dX0_addLife_42 : decode cX0_addLife 42 = .ok (.aload_n 0, 1) := by decide +kernel
theorem dX0_addLife_43 : decode cX0_addLife 43 = .ok (.getfield 55, 3) := by decide +kernel
theorem dX0_addLife_46 : decode cX0_addLife 46 = .ok (.iload_n 2, 1) := by decide +kernel
theorem dX0_addLife_47 : decode cX0_addLife 47 = .ok (.iconst 1, 1) := by decide +kernel
theorem dX0_addLife_48 : decode cX0_addLife 48 = .ok (.isub, 1) := by decide +kernel
theorem dX0_addLife_49 : decode cX0_addLife 49 = .ok (.iconst 2, 1) := by decide +kernel
theorem dX0_addLife_50 : decode cX0_addLife 50 = .ok (.idiv, 1) := by decide +kernel
theorem dX0_addLife_51 : decode cX0_addLife 51 = .ok (.iaload, 1) := by decide +kernel
theorem dX0_addLife_52 : decode cX0_addLife 52 = .ok (.iastore, 1) := by decide +kernel
theorem dX0_addLife_53 : decode cX0_addLife 53 = .ok (.iload_n 2, 1) := by decide +kernel
theorem dX0_addLife_54 : decode cX0_addLife 54 = .ok (.iconst 1, 1) := by decide +kernel
theorem dX0_addLife_55 : decode cX0_addLife 55 = .ok (.isub, 1) := by decide +kernel
theorem dX0_addLife_56 : decode cX0_addLife 56 = .ok (.iconst 2, 1) := by decide +kernel
theorem dX0_addLife_57 : decode cX0_addLife 57 = .ok (.idiv, 1) := by decide +kernel
theorem dX0_addLife_58 : decode cX0_addLife 58 = .ok (.istore_n 2, 1) := by decide +kernel
theorem dX0_addLife_59 : decode cX0_addLife 59 = .ok (.goto (-44), 3) := by decide +kernel
theorem dX0_addLife_62 : decode cX0_addLife 62 = .ok (.aload_n 0, 1) := by decide +kernel
theorem dX0_addLife_63 : decode cX0_addLife 63 = .ok (.getfield 55, 3) := by decide +kernel
theorem dX0_addLife_66 : decode cX0_addLife 66 = .ok (.iload_n 2, 1) := by decide +kernel
theorem dX0_addLife_67 : decode cX0_addLife 67 = .ok (.iload_n 1, 1) := by decide +kernel
theorem dX0_addLife_68 : decode cX0_addLife 68 = .ok (.iastore, 1) := by decide +kernel
theorem dX0_addLife_69 : decode cX0_addLife 69 = .ok (.return_, 1) := by decide +kernel
end
section
set_option maxRecDepth 100000
theorem dX0_diesBefore_0 : decode cX0_diesBefore 0 = .ok (.aload_n 0, 1) := by decide +kernel
theorem dX0_diesBefore_1 : decode cX0_diesBefore 1 = .ok (.getfield 31, 3) := by decide +kernel
theorem dX0_diesBefore_4 : decode cX0_diesBefore 4 = .ok (.iload_n 1, 1) := by decide +kernel
theorem dX0_diesBefore_5 : decode cX0_diesBefore 5 = .ok (.iaload, 1) := by decide +kernel
theorem dX0_diesBefore_6 : decode cX0_diesBefore 6 = .ok (.aload_n 0, 1) := by decide +kernel
theorem dX0_diesBefore_7 : decode cX0_diesBefore 7 = .ok (.getfield 31, 3) := by decide +kernel
theorem dX0_diesBefore_10 : decode cX0_diesBefore 10 = .ok (.iload_n 2, 1) := by decide +kernel
theorem dX0_diesBefore_11 : decode cX0_diesBefore 11 = .ok (.iaload, 1) := by decide +kernel
theorem dX0_diesBefore_12 : decode cX0_diesBefore 12 = .ok (.if_icmp .eq 26, 3) := by decide +kernel
theorem dX0_diesBefore_15 : decode cX0_diesBefore 15 = .ok (.aload_n 0, 1) := by decide +kernel
theorem dX0_diesBefore_16 : decode cX0_diesBefore 16 = .ok (.getfield 31, 3) := by decide +kernel
theorem dX0_diesBefore_19 : decode cX0_diesBefore 19 = .ok (.iload_n 1, 1) := by decide +kernel
theorem dX0_diesBefore_20 : decode cX0_diesBefore 20 = .ok (.iaload, 1) := by decide +kernel
theorem dX0_diesBefore_21 : decode cX0_diesBefore 21 = .ok (.aload_n 0, 1) := by decide +kernel
theorem dX0_diesBefore_22 : decode cX0_diesBefore 22 = .ok (.getfield 31, 3) := by decide +kernel
theorem dX0_diesBefore_25 : decode cX0_diesBefore 25 = .ok (.iload_n 2, 1) := by decide +kernel
theorem dX0_diesBefore_26 : decode cX0_diesBefore 26 = .ok (.iaload, 1) := by decide +kernel
theorem dX0_diesBefore_27 : decode cX0_diesBefore 27 = .ok (.if_icmp .ge 7, 3) := by decide +kernel
theorem dX0_diesBefore_30 : decode cX0_diesBefore 30 = .ok (.iconst 1, 1) := by decide +kernel
theorem dX0_diesBefore_31 : decode cX0_diesBefore 31 = .ok (.goto 17, 3) := by decide +kernel
theorem dX0_diesBefore_34 : decode cX0_diesBefore 34 = .ok (.iconst 0, 1) := by decide +kernel
theorem dX0_diesBefore_35 : decode cX0_diesBefore 35 = .ok (.goto 13, 3) := by decide +kernel
theorem dX0_diesBefore_38 : decode cX0_diesBefore 38 = .ok (.iload_n 1, 1) := by decide +kernel
theorem dX0_diesBefore_39 : decode cX0_diesBefore 39 = .ok (.iload_n 2, 1) := by decide +kernel
theorem dX0_diesBefore_40 : decode cX0_diesBefore 40 = .ok (.if_icmp .ge 7, 3) := by decide +kernel
theorem dX0_diesBefore_43 : decode cX0_diesBefore 43 = .ok (.iconst 1, 1) := by decide +kernel
theorem dX0_diesBefore_44 : decode cX0_diesBefore 44 = .ok (.goto 4, 3) := by decide +kernel
theorem dX0_diesBefore_47 : decode cX0_diesBefore 47 = .ok (.iconst 0, 1) := by decide +kernel
theorem dX0_diesBefore_48 : decode cX0_diesBefore 48 = .ok (.ireturn, 1) := by decide +kernel
theorem dX0_take_0 : decode cX0_take 0 = .ok (.iload_n 1, 1) := by decide +kernel
theorem dX0_take_1 : decode cX0_take 1 = .ok (.invokestatic 105, 3) := by decide +kernel
theorem dX0_take_4 : decode cX0_take 4 = .ok (.ifCond .eq 5, 3) := by decide +kernel
theorem dX0_take_7 : decode cX0_take 7 = .ok (.iconst (-1), 1) := by decide +kernel
theorem dX0_take_8 : decode cX0_take 8 = .ok (.ireturn, 1) := by decide +kernel
theorem dX0_take_9 : decode cX0_take 9 = .ok (.iload_n 2, 1) := by decide +kernel
theorem dX0_take_10 : decode cX0_take 10 = .ok (.invokestatic 111, 3) := by decide +kernel
theorem dX0_take_13 : decode cX0_take 13 = .ok (.ifCond .eq 6, 3) := by decide +kernel
theorem dX0_take_16 : decode cX0_take 16 = .ok (.bipush (-2), 2) := by decide +kernel
theorem dX0_take_18 : decode cX0_take 18 = .ok (.ireturn, 1) := by decide +kernel
theorem dX0_take_19 : decode cX0_take 19 = .ok (.aload_n 0, 1) := by decide +kernel
theorem dX0_take_20 : decode cX0_take 20 = .ok (.getfield 52, 3) := by decide +kernel
theorem dX0_take_23 : decode cX0_take 23 = .ok (.iload_n 2, 1) := by decide +kernel
theorem dX0_take_24 : decode cX0_take 24 = .ok (.iaload, 1) := by decide +kernel
theorem dX0_take_25 : decode cX0_take 25 = .ok (.iconst 2, 1) := by decide +kernel
theorem dX0_take_26 : decode cX0_take 26 = .ok (.if_icmp .lt 6, 3) := by decide +kernel
theorem dX0_take_29 : decode cX0_take 29 = .ok (.bipush (-7), 2) := by decide +kernel
theorem dX0_take_31 : decode cX0_take 31 = .ok (.ireturn, 1) := by decide +kernel
theorem dX0_take_32 : decode cX0_take 32 = .ok (.aload_n 0, 1) := by decide +kernel
theorem dX0_take_33 : decode cX0_take 33 = .ok (.getfield 34, 3) := by decide +kernel
theorem dX0_take_36 : decode cX0_take 36 = .ok (.iload_n 1, 1) := by decide +kernel
theorem dX0_take_37 : decode cX0_take 37 = .ok (.iaload, 1) := by decide +kernel
theorem dX0_take_38 : decode cX0_take 38 = .ok (.ifCond .ne 6, 3) := by decide +kernel
theorem dX0_take_41 : decode cX0_take 41 = .ok (.bipush (-5), 2) := by decide +kernel
theorem dX0_take_43 : decode cX0_take 43 = .ok (.ireturn, 1) := by decide +kernel
theorem dX0_take_44 : decode cX0_take 44 = .ok (.aload_n 0, 1) := by decide +kernel
theorem dX0_take_45 : decode cX0_take 45 = .ok (.getfield 37, 3) := by decide +kernel
theorem dX0_take_48 : decode cX0_take 48 = .ok (.iload_n 1, 1) := by decide +kernel
theorem dX0_take_49 : decode cX0_take 49 = .ok (.bipush 40, 2) := by decide +kernel
theorem dX0_take_51 : decode cX0_take 51 = .ok (.imul, 1) := by decide +kernel
theorem dX0_take_52 : decode cX0_take 52 = .ok (.iaload, 1) := by decide +kernel
theorem dX0_take_53 : decode cX0_take 53 = .ok (.istore_n 3, 1) := by decide +kernel
theorem dX0_take_54 : decode cX0_take 54 = .ok (.aload_n 0, 1) := by decide +kernel
theorem dX0_take_55 : decode cX0_take 55 = .ok (.iload_n 3, 1) := by decide +kernel
theorem dX0_take_56 : decode cX0_take 56 = .ok (.invokevirtual 114, 3) := by decide +kernel
theorem dX0_take_59 : decode cX0_take 59 = .ok (.aload_n 0, 1) := by decide +kernel
theorem dX0_take_60 : decode cX0_take 60 = .ok (.getfield 22, 3) := by decide +kernel
theorem dX0_take_63 : decode cX0_take 63 = .ok (.iload_n 3, 1) := by decide +kernel
theorem dX0_take_64 : decode cX0_take 64 = .ok (.iconst 1, 1) := by decide +kernel
theorem dX0_take_65 : decode cX0_take 65 = .ok (.iastore, 1) := by decide +kernel
theorem dX0_take_66 : decode cX0_take 66 = .ok (.aload_n 0, 1) := by decide +kernel
theorem dX0_take_67 : decode cX0_take 67 = .ok (.getfield 19, 3) := by decide +kernel
theorem dX0_take_70 : decode cX0_take 70 = .ok (.iload_n 3, 1) := by decide +kernel
theorem dX0_take_71 : decode cX0_take 71 = .ok (.dup2, 1) := by decide +kernel
theorem dX0_take_72 : decode cX0_take 72 = .ok (.iaload, 1) := by decide +kernel
theorem dX0_take_73 : decode cX0_take 73 = .ok (.iconst 1, 1) := by decide +kernel
theorem dX0_take_74 : decode cX0_take 74 = .ok (.iadd, 1) := by decide +kernel
theorem dX0_take_75 : decode cX0_take 75 = .ok (.iastore, 1) := by decide +kernel
theorem dX0_take_76 : decode cX0_take 76 = .ok (.aload_n 0, 1) := by decide +kernel
theorem dX0_take_77 : decode cX0_take 77 = .ok (.getfield 25, 3) := by decide +kernel
theorem dX0_take_80 : decode cX0_take 80 = .ok (.iload_n 3, 1) := by decide +kernel
theorem dX0_take_81 : decode cX0_take 81 = .ok (.iload_n 2, 1) := by decide +kernel
theorem dX0_take_82 : decode cX0_take 82 = .ok (.iastore, 1) := by decide +kernel
theorem dX0_take_83 : decode cX0_take 83 = .ok (.aload_n 0, 1) := by decide +kernel
theorem dX0_take_84 : decode cX0_take 84 = .ok (.getfield 52, 3) := by decide +kernel
theorem dX0_take_87 : decode cX0_take 87 = .ok (.iload_n 2, 1) := by decide +kernel
theorem dX0_take_88 : decode cX0_take 88 = .ok (.dup2, 1) := by decide +kernel
theorem dX0_take_89 : decode cX0_take 89 = .ok (.iaload, 1) := by decide +kernel
theorem dX0_take_90 : decode cX0_take 90 = .ok (.iconst 1, 1) := by decide +kernel
theorem dX0_take_91 : decode cX0_take 91 = .ok (.iadd, 1) := by decide +kernel
theorem dX0_take_92 : decode cX0_take 92 = .ok (.iastore, 1) := by decide +kernel
theorem dX0_take_93 : decode cX0_take 93 = .ok (.aload_n 0, 1) := by decide +kernel
theorem dX0_take_94 : decode cX0_take 94 = .ok (.getfield 28, 3) := by decide +kernel
theorem dX0_take_97 : decode cX0_take 97 = .ok (.iload_n 3, 1) := by decide +kernel
theorem dX0_take_98 : decode cX0_take 98 = .ok (.aload_n 0, 1) := by decide +kernel
theorem dX0_take_99 : decode cX0_take 99 = .ok (.getfield 108, 3) := by decide +kernel
theorem dX0_take_102 : decode cX0_take 102 = .ok (.aload_n 0, 1) := by decide +kernel
theorem dX0_take_103 : decode cX0_take 103 = .ok (.getfield 43, 3) := by decide +kernel
theorem dX0_take_106 : decode cX0_take 106 = .ok (.iload_n 1, 1) := by decide +kernel
theorem dX0_take_107 : decode cX0_take 107 = .ok (.iaload, 1) := by decide +kernel
theorem dX0_take_108 : decode cX0_take 108 = .ok (.iadd, 1) := by decide +kernel
theorem dX0_take_109 : decode cX0_take 109 = .ok (.iastore, 1) := by decide +kernel
theorem dX0_take_110 : decode cX0_take 110 = .ok (.aload_n 0, 1) := by decide +kernel
theorem dX0_take_111 : decode cX0_take 111 = .ok (.iload_n 3, 1) := by decide +kernel
theorem dX0_take_112 : decode cX0_take 112 = .ok (.invokevirtual 117, 3) := by decide +kernel
theorem dX0_take_115 : decode cX0_take 115 = .ok (.iload_n 3, 1) := by decide +kernel
theorem dX0_take_116 : decode cX0_take 116 = .ok (.ireturn, 1) := by decide +kernel
theorem dX0_badConsumer_0 : decode cX0_badConsumer 0 = .ok (.iload_n 0, 1) := by decide +kernel
theorem dX0_badConsumer_1 : decode cX0_badConsumer 1 = .ok (.ifCond .lt 8, 3) := by decide +kernel
theorem dX0_badConsumer_4 : decode cX0_badConsumer 4 = .ok (.iload_n 0, 1) := by decide +kernel
theorem dX0_badConsumer_5 : decode cX0_badConsumer 5 = .ok (.iconst 2, 1) := by decide +kernel
theorem dX0_badConsumer_6 : decode cX0_badConsumer 6 = .ok (.if_icmp .le 7, 3) := by decide +kernel
theorem dX0_badConsumer_9 : decode cX0_badConsumer 9 = .ok (.iconst 1, 1) := by decide +kernel
theorem dX0_badConsumer_10 : decode cX0_badConsumer 10 = .ok (.goto 4, 3) := by decide +kernel
theorem dX0_badConsumer_13 : decode cX0_badConsumer 13 = .ok (.iconst 0, 1) := by decide +kernel
theorem dX0_badConsumer_14 : decode cX0_badConsumer 14 = .ok (.ireturn, 1) := by decide +kernel
theorem dX0_takeOut_0 : decode cX0_takeOut 0 = .ok (.aload_n 0, 1) := by decide +kernel
theorem dX0_takeOut_1 : decode cX0_takeOut 1 = .ok (.getfield 7, 3) := by decide +kernel
theorem dX0_takeOut_4 : decode cX0_takeOut 4 = .ok (.iload_n 1, 1) := by decide +kernel
theorem dX0_takeOut_5 : decode cX0_takeOut 5 = .ok (.iaload, 1) := by decide +kernel
theorem dX0_takeOut_6 : decode cX0_takeOut 6 = .ok (.istore_n 2, 1) := by decide +kernel
theorem dX0_takeOut_7 : decode cX0_takeOut 7 = .ok (.aload_n 0, 1) := by decide +kernel
theorem dX0_takeOut_8 : decode cX0_takeOut 8 = .ok (.getfield 40, 3) := by decide +kernel
theorem dX0_takeOut_11 : decode cX0_takeOut 11 = .ok (.iload_n 1, 1) := by decide +kernel
theorem dX0_takeOut_12 : decode cX0_takeOut 12 = .ok (.iaload, 1) := by decide +kernel
theorem dX0_takeOut_13 : decode cX0_takeOut 13 = .ok (.istore_n 3, 1) := by decide +kernel
theorem dX0_takeOut_14 : decode cX0_takeOut 14 = .ok (.aload_n 0, 1) := by decide +kernel
theorem dX0_takeOut_15 : decode cX0_takeOut 15 = .ok (.getfield 34, 3) := by decide +kernel
theorem dX0_takeOut_18 : decode cX0_takeOut 18 = .ok (.iload_n 2, 1) := by decide +kernel
theorem dX0_takeOut_19 : decode cX0_takeOut 19 = .ok (.dup2, 1) := by decide +kernel
theorem dX0_takeOut_20 : decode cX0_takeOut 20 = .ok (.iaload, 1) := by decide +kernel
theorem dX0_takeOut_21 : decode cX0_takeOut 21 = .ok (.iconst 1, 1) := by decide +kernel
theorem dX0_takeOut_22 : decode cX0_takeOut 22 = .ok (.isub, 1) := by decide +kernel
theorem dX0_takeOut_23 : decode cX0_takeOut 23 = .ok (.iastore, 1) := by decide +kernel
theorem dX0_takeOut_24 : decode cX0_takeOut 24 = .ok (.aload_n 0, 1) := by decide +kernel
theorem dX0_takeOut_25 : decode cX0_takeOut 25 = .ok (.getfield 37, 3) := by decide +kernel
theorem dX0_takeOut_28 : decode cX0_takeOut 28 = .ok (.iload_n 2, 1) := by decide +kernel
theorem dX0_takeOut_29 : decode cX0_takeOut 29 = .ok (.bipush 40, 2) := by decide +kernel
theorem dX0_takeOut_31 : decode cX0_takeOut 31 = .ok (.imul, 1) := by decide +kernel
theorem dX0_takeOut_32 : decode cX0_takeOut 32 = .ok (.aload_n 0, 1) := by decide +kernel
theorem dX0_takeOut_33 : decode cX0_takeOut 33 = .ok (.getfield 34, 3) := by decide +kernel
theorem dX0_takeOut_36 : decode cX0_takeOut 36 = .ok (.iload_n 2, 1) := by decide +kernel
theorem dX0_takeOut_37 : decode cX0_takeOut 37 = .ok (.iaload, 1) := by decide +kernel
theorem dX0_takeOut_38 : decode cX0_takeOut 38 = .ok (.iadd, 1) := by decide +kernel
theorem dX0_takeOut_39 : decode cX0_takeOut 39 = .ok (.iaload, 1) := by decide +kernel
theorem dX0_takeOut_40 : decode cX0_takeOut 40 = .ok (.istore 4, 2) := by decide +kernel
theorem dX0_takeOut_42 : decode cX0_takeOut 42 = .ok (.iload 4, 2) := by decide +kernel
theorem dX0_takeOut_44 : decode cX0_takeOut 44 = .ok (.iload_n 1, 1) := by decide +kernel
theorem dX0_takeOut_45 : decode cX0_takeOut 45 = .ok (.if_icmp .ne 4, 3) := by decide +kernel
theorem dX0_takeOut_48 : decode cX0_takeOut 48 = .ok (.return_, 1) := by decide +kernel
theorem dX0_takeOut_49 : decode cX0_takeOut 49 = .ok (.iload_n 3, 1) := by decide +kernel
theorem dX0_takeOut_50 : decode cX0_takeOut 50 = .ok (.ifCond .le 38, 3) := by decide +kernel
theorem dX0_takeOut_53 : decode cX0_takeOut 53 = .ok (.aload_n 0, 1) := by decide +kernel
theorem dX0_takeOut_54 : decode cX0_takeOut 54 = .ok (.iload 4, 2) := by decide +kernel
theorem dX0_takeOut_56 : decode cX0_takeOut 56 = .ok (.aload_n 0, 1) := by decide +kernel
theorem dX0_takeOut_57 : decode cX0_takeOut 57 = .ok (.getfield 37, 3) := by decide +kernel
theorem dX0_takeOut_60 : decode cX0_takeOut 60 = .ok (.iload_n 2, 1) := by decide +kernel
theorem dX0_takeOut_61 : decode cX0_takeOut 61 = .ok (.bipush 40, 2) := by decide +kernel
theorem dX0_takeOut_63 : decode cX0_takeOut 63 = .ok (.imul, 1) := by decide +kernel
theorem dX0_takeOut_64 : decode cX0_takeOut 64 = .ok (.iload_n 3, 1) := by decide +kernel
theorem dX0_takeOut_65 : decode cX0_takeOut 65 = .ok (.iconst 1, 1) := by decide +kernel
theorem dX0_takeOut_66 : decode cX0_takeOut 66 = .ok (.isub, 1) := by decide +kernel
theorem dX0_takeOut_67 : decode cX0_takeOut 67 = .ok (.iconst 2, 1) := by decide +kernel
theorem dX0_takeOut_68 : decode cX0_takeOut 68 = .ok (.idiv, 1) := by decide +kernel
theorem dX0_takeOut_69 : decode cX0_takeOut 69 = .ok (.iadd, 1) := by decide +kernel
theorem dX0_takeOut_70 : decode cX0_takeOut 70 = .ok (.iaload, 1) := by decide +kernel
theorem dX0_takeOut_71 : decode cX0_takeOut 71 = .ok (.invokevirtual 61, 3) := by decide +kernel
theorem dX0_takeOut_74 : decode cX0_takeOut 74 = .ok (.ifCond .eq 14, 3) := by decide +kernel
theorem dX0_takeOut_77 : decode cX0_takeOut 77 = .ok (.aload_n 0, 1) := by decide +kernel
theorem dX0_takeOut_78 : decode cX0_takeOut 78 = .ok (.iload_n 2, 1) := by decide +kernel
theorem dX0_takeOut_79 : decode cX0_takeOut 79 = .ok (.iload_n 3, 1) := by decide +kernel
theorem dX0_takeOut_80 : decode cX0_takeOut 80 = .ok (.iload 4, 2) := by decide +kernel
theorem dX0_takeOut_82 : decode cX0_takeOut 82 = .ok (.invokevirtual 69, 3) := by decide +kernel
theorem dX0_takeOut_85 : decode cX0_takeOut 85 = .ok (.goto 11, 3) := by decide +kernel
theorem dX0_takeOut_88 : decode cX0_takeOut 88 = .ok (.aload_n 0, 1) := by decide +kernel
theorem dX0_takeOut_89 : decode cX0_takeOut 89 = .ok (.iload_n 2, 1) := by decide +kernel
theorem dX0_takeOut_90 : decode cX0_takeOut 90 = .ok (.iload_n 3, 1) := by decide +kernel
theorem dX0_takeOut_91 : decode cX0_takeOut 91 = .ok (.iload 4, 2) := by decide +kernel
theorem dX0_takeOut_93 : decode cX0_takeOut 93 = .ok (.invokevirtual 72, 3) := by decide +kernel
theorem dX0_takeOut_96 : decode cX0_takeOut 96 = .ok (.return_, 1) := by decide +kernel
theorem dX0_sink_0 : decode cX0_sink 0 = .ok (.iload_n 2, 1) := by decide +kernel
theorem dX0_sink_1 : decode cX0_sink 1 = .ok (.istore 4, 2) := by decide +kernel
theorem dX0_sink_3 : decode cX0_sink 3 = .ok (.iconst 2, 1) := by decide +kernel
theorem dX0_sink_4 : decode cX0_sink 4 = .ok (.iload 4, 2) := by decide +kernel
theorem dX0_sink_6 : decode cX0_sink 6 = .ok (.imul, 1) := by decide +kernel
theorem dX0_sink_7 : decode cX0_sink 7 = .ok (.iconst 1, 1) := by decide +kernel
theorem dX0_sink_8 : decode cX0_sink 8 = .ok (.iadd, 1) := by decide +kernel
theorem dX0_sink_9 : decode cX0_sink 9 = .ok (.istore 5, 2) := by decide +kernel
theorem dX0_sink_11 : decode cX0_sink 11 = .ok (.iload 5, 2) := by decide +kernel
theorem dX0_sink_13 : decode cX0_sink 13 = .ok (.aload_n 0, 1) := by decide +kernel
theorem dX0_sink_14 : decode cX0_sink 14 = .ok (.getfield 34, 3) := by decide +kernel
theorem dX0_sink_17 : decode cX0_sink 17 = .ok (.iload_n 1, 1) := by decide +kernel
theorem dX0_sink_18 : decode cX0_sink 18 = .ok (.iaload, 1) := by decide +kernel
theorem dX0_sink_19 : decode cX0_sink 19 = .ok (.if_icmp .ge 117, 3) := by decide +kernel
theorem dX0_sink_22 : decode cX0_sink 22 = .ok (.iload 5, 2) := by decide +kernel
theorem dX0_sink_24 : decode cX0_sink 24 = .ok (.iconst 1, 1) := by decide +kernel
theorem dX0_sink_25 : decode cX0_sink 25 = .ok (.iadd, 1) := by decide +kernel
theorem dX0_sink_26 : decode cX0_sink 26 = .ok (.aload_n 0, 1) := by decide +kernel
theorem dX0_sink_27 : decode cX0_sink 27 = .ok (.getfield 34, 3) := by decide +kernel
theorem dX0_sink_30 : decode cX0_sink 30 = .ok (.iload_n 1, 1) := by decide +kernel
theorem dX0_sink_31 : decode cX0_sink 31 = .ok (.iaload, 1) := by decide +kernel
theorem dX0_sink_32 : decode cX0_sink 32 = .ok (.if_icmp .ge 39, 3) := by decide +kernel
theorem dX0_sink_35 : decode cX0_sink 35 = .ok (.aload_n 0, 1) := by decide +kernel
theorem dX0_sink_36 : decode cX0_sink 36 = .ok (.aload_n 0, 1) := by decide +kernel
theorem dX0_sink_37 : decode cX0_sink 37 = .ok (.getfield 37, 3) := by decide +kernel
theorem dX0_sink_40 : decode cX0_sink 40 = .ok (.iload_n 1, 1) := by decide +kernel
theorem dX0_sink_41 : decode cX0_sink 41 = .ok (.bipush 40, 2) := by decide +kernel
theorem dX0_sink_43 : decode cX0_sink 43 = .ok (.imul, 1) := by decide +kernel
theorem dX0_sink_44 : decode cX0_sink 44 = .ok (.iload 5, 2) := by decide +kernel
theorem dX0_sink_46 : decode cX0_sink 46 = .ok (.iadd, 1) := by decide +kernel
theorem dX0_sink_47 : decode cX0_sink 47 = .ok (.iconst 1, 1) := by decide +kernel
theorem dX0_sink_48 : decode cX0_sink 48 = .ok (.iadd, 1) := by decide +kernel
theorem dX0_sink_49 : decode cX0_sink 49 = .ok (.iaload, 1) := by decide +kernel
theorem dX0_sink_50 : decode cX0_sink 50 = .ok (.aload_n 0, 1) := by decide +kernel
theorem dX0_sink_51 : decode cX0_sink 51 = .ok (.getfield 37, 3) := by decide +kernel
theorem dX0_sink_54 : decode cX0_sink 54 = .ok (.iload_n 1, 1) := by decide +kernel
theorem dX0_sink_55 : decode cX0_sink 55 = .ok (.bipush 40, 2) := by decide +kernel
theorem dX0_sink_57 : decode cX0_sink 57 = .ok (.imul, 1) := by decide +kernel
theorem dX0_sink_58 : decode cX0_sink 58 = .ok (.iload 5, 2) := by decide +kernel
theorem dX0_sink_60 : decode cX0_sink 60 = .ok (.iadd, 1) := by decide +kernel
theorem dX0_sink_61 : decode cX0_sink 61 = .ok (.iaload, 1) := by decide +kernel
theorem dX0_sink_62 : decode cX0_sink 62 = .ok (.invokevirtual 61, 3) := by decide +kernel
theorem dX0_sink_65 : decode cX0_sink 65 = .ok (.ifCond .eq 6, 3) := by decide +kernel
theorem dX0_sink_68 : decode cX0_sink 68 = .ok (.iinc 5 1, 3) := by decide +kernel
theorem dX0_sink_71 : decode cX0_sink 71 = .ok (.aload_n 0, 1) := by decide +kernel
theorem dX0_sink_72 : decode cX0_sink 72 = .ok (.aload_n 0, 1) := by decide +kernel
theorem dX0_sink_73 : decode cX0_sink 73 = .ok (.getfield 37, 3) := by decide +kernel
theorem dX0_sink_76 : decode cX0_sink 76 = .ok (.iload_n 1, 1) := by decide +kernel
theorem dX0_sink_77 : decode cX0_sink 77 = .ok (.bipush 40, 2) := by decide +kernel
theorem dX0_sink_79 : decode cX0_sink 79 = .ok (.imul, 1) := by decide +kernel
theorem dX0_sink_80 : decode cX0_sink 80 = .ok (.iload 5, 2) := by decide +kernel
theorem dX0_sink_82 : decode cX0_sink 82 = .ok (.iadd, 1) := by decide +kernel
theorem dX0_sink_83 : decode cX0_sink 83 = .ok (.iaload, 1) := by decide +kernel
theorem dX0_sink_84 : decode cX0_sink 84 = .ok (.iload_n 3, 1) := by decide +kernel
theorem dX0_sink_85 : decode cX0_sink 85 = .ok (.invokevirtual 61, 3) := by decide +kernel
theorem dX0_sink_88 : decode cX0_sink 88 = .ok (.ifCond .eq 37, 3) := by decide +kernel
theorem dX0_sink_91 : decode cX0_sink 91 = .ok (.aload_n 0, 1) := by decide +kernel
theorem dX0_sink_92 : decode cX0_sink 92 = .ok (.iload_n 1, 1) := by decide +kernel
theorem dX0_sink_93 : decode cX0_sink 93 = .ok (.iload 4, 2) := by decide +kernel
theorem dX0_sink_95 : decode cX0_sink 95 = .ok (.aload_n 0, 1) := by decide +kernel
theorem dX0_sink_96 : decode cX0_sink 96 = .ok (.getfield 37, 3) := by decide +kernel
theorem dX0_sink_99 : decode cX0_sink 99 = .ok (.iload_n 1, 1) := by decide +kernel
theorem dX0_sink_100 : decode cX0_sink 100 = .ok (.bipush 40, 2) := by decide +kernel
theorem dX0_sink_102 : decode cX0_sink 102 = .ok (.imul, 1) := by decide +kernel
theorem dX0_sink_103 : decode cX0_sink 103 = .ok (.iload 5, 2) := by decide +kernel
theorem dX0_sink_105 : decode cX0_sink 105 = .ok (.iadd, 1) := by decide +kernel
theorem dX0_sink_106 : decode cX0_sink 106 = .ok (.iaload, 1) := by decide +kernel
theorem dX0_sink_107 : decode cX0_sink 107 = .ok (.invokevirtual 65, 3) := by decide +kernel
theorem dX0_sink_110 : decode cX0_sink 110 = .ok (.iload 5, 2) := by decide +kernel
theorem dX0_sink_112 : decode cX0_sink 112 = .ok (.istore 4, 2) := by decide +kernel
theorem dX0_sink_114 : decode cX0_sink 114 = .ok (.iconst 2, 1) := by decide +kernel
theorem dX0_sink_115 : decode cX0_sink 115 = .ok (.iload 4, 2) := by decide +kernel
theorem dX0_sink_117 : decode cX0_sink 117 = .ok (.imul, 1) := by decide +kernel
theorem dX0_sink_118 : decode cX0_sink 118 = .ok (.iconst 1, 1) := by decide +kernel
theorem dX0_sink_119 : decode cX0_sink 119 = .ok (.iadd, 1) := by decide +kernel
theorem dX0_sink_120 : decode cX0_sink 120 = .ok (.istore 5, 2) := by decide +kernel
theorem dX0_sink_122 : decode cX0_sink 122 = .ok (.goto (-111), 3) := by decide +kernel
theorem dX0_sink_125 : decode cX0_sink 125 = .ok (.aload_n 0, 1) := by decide +kernel
theorem dX0_sink_126 : decode cX0_sink 126 = .ok (.getfield 34, 3) := by decide +kernel
theorem dX0_sink_129 : decode cX0_sink 129 = .ok (.iload_n 1, 1) := by decide +kernel
theorem dX0_sink_130 : decode cX0_sink 130 = .ok (.iaload, 1) := by decide +kernel
theorem dX0_sink_131 : decode cX0_sink 131 = .ok (.istore 5, 2) := by decide +kernel
theorem dX0_sink_133 : decode cX0_sink 133 = .ok (.goto (-122), 3) := by decide +kernel
theorem dX0_sink_136 : decode cX0_sink 136 = .ok (.aload_n 0, 1) := by decide +kernel
theorem dX0_sink_137 : decode cX0_sink 137 = .ok (.iload_n 1, 1) := by decide +kernel
theorem dX0_sink_138 : decode cX0_sink 138 = .ok (.iload 4, 2) := by decide +kernel
theorem dX0_sink_140 : decode cX0_sink 140 = .ok (.iload_n 3, 1) := by decide +kernel
theorem dX0_sink_141 : decode cX0_sink 141 = .ok (.invokevirtual 65, 3) := by decide +kernel
theorem dX0_sink_144 : decode cX0_sink 144 = .ok (.return_, 1) := by decide +kernel
theorem dX0_addOut_0 : decode cX0_addOut 0 = .ok (.aload_n 0, 1) := by decide +kernel
theorem dX0_addOut_1 : decode cX0_addOut 1 = .ok (.getfield 93, 3) := by decide +kernel
theorem dX0_addOut_4 : decode cX0_addOut 4 = .ok (.istore_n 2, 1) := by decide +kernel
theorem dX0_addOut_5 : decode cX0_addOut 5 = .ok (.iload_n 2, 1) := by decide +kernel
theorem dX0_addOut_6 : decode cX0_addOut 6 = .ok (.ifCond .le 45, 3) := by decide +kernel
theorem dX0_addOut_9 : decode cX0_addOut 9 = .ok (.aload_n 0, 1) := by decide +kernel
theorem dX0_addOut_10 : decode cX0_addOut 10 = .ok (.getfield 28, 3) := by decide +kernel
theorem dX0_addOut_13 : decode cX0_addOut 13 = .ok (.aload_n 0, 1) := by decide +kernel
theorem dX0_addOut_14 : decode cX0_addOut 14 = .ok (.getfield 49, 3) := by decide +kernel
theorem dX0_addOut_17 : decode cX0_addOut 17 = .ok (.iload_n 2, 1) := by decide +kernel
theorem dX0_addOut_18 : decode cX0_addOut 18 = .ok (.iconst 1, 1) := by decide +kernel
theorem dX0_addOut_19 : decode cX0_addOut 19 = .ok (.isub, 1) := by decide +kernel
theorem dX0_addOut_20 : decode cX0_addOut 20 = .ok (.iaload, 1) := by decide +kernel
theorem dX0_addOut_21 : decode cX0_addOut 21 = .ok (.iaload, 1) := by decide +kernel
theorem dX0_addOut_22 : decode cX0_addOut 22 = .ok (.aload_n 0, 1) := by decide +kernel
theorem dX0_addOut_23 : decode cX0_addOut 23 = .ok (.getfield 28, 3) := by decide +kernel
theorem dX0_addOut_26 : decode cX0_addOut 26 = .ok (.iload_n 1, 1) := by decide +kernel
theorem dX0_addOut_27 : decode cX0_addOut 27 = .ok (.iaload, 1) := by decide +kernel
theorem dX0_addOut_28 : decode cX0_addOut 28 = .ok (.if_icmp .le 23, 3) := by decide +kernel
theorem dX0_addOut_31 : decode cX0_addOut 31 = .ok (.aload_n 0, 1) := by decide +kernel
theorem dX0_addOut_32 : decode cX0_addOut 32 = .ok (.getfield 49, 3) := by decide +kernel
theorem dX0_addOut_35 : decode cX0_addOut 35 = .ok (.iload_n 2, 1) := by decide +kernel
theorem dX0_addOut_36 : decode cX0_addOut 36 = .ok (.aload_n 0, 1) := by decide +kernel
theorem dX0_addOut_37 : decode cX0_addOut 37 = .ok (.getfield 49, 3) := by decide +kernel
theorem dX0_addOut_40 : decode cX0_addOut 40 = .ok (.iload_n 2, 1) := by decide +kernel
theorem dX0_addOut_41 : decode cX0_addOut 41 = .ok (.iconst 1, 1) := by decide +kernel
theorem dX0_addOut_42 : decode cX0_addOut 42 = .ok (.isub, 1) := by decide +kernel
theorem dX0_addOut_43 : decode cX0_addOut 43 = .ok (.iaload, 1) := by decide +kernel
theorem dX0_addOut_44 : decode cX0_addOut 44 = .ok (.iastore, 1) := by decide +kernel
theorem dX0_addOut_45 : decode cX0_addOut 45 = .ok (.iinc 2 (-1), 3) := by decide +kernel
theorem dX0_addOut_48 : decode cX0_addOut 48 = .ok (.goto (-43), 3) := by decide +kernel
theorem dX0_addOut_51 : decode cX0_addOut 51 = .ok (.aload_n 0, 1) := by decide +kernel
theorem dX0_addOut_52 : decode cX0_addOut 52 = .ok (.getfield 49, 3) := by decide +kernel
theorem dX0_addOut_55 : decode cX0_addOut 55 = .ok (.iload_n 2, 1) := by decide +kernel
theorem dX0_addOut_56 : decode cX0_addOut 56 = .ok (.iload_n 1, 1) := by decide +kernel
theorem dX0_addOut_57 : decode cX0_addOut 57 = .ok (.iastore, 1) := by decide +kernel
theorem dX0_addOut_58 : decode cX0_addOut 58 = .ok (.aload_n 0, 1) := by decide +kernel
theorem dX0_addOut_59 : decode cX0_addOut 59 = .ok (.dup, 1) := by decide +kernel
theorem dX0_addOut_60 : decode cX0_addOut 60 = .ok (.getfield 93, 3) := by decide +kernel
theorem dX0_addOut_63 : decode cX0_addOut 63 = .ok (.iconst 1, 1) := by decide +kernel
theorem dX0_addOut_64 : decode cX0_addOut 64 = .ok (.iadd, 1) := by decide +kernel
theorem dX0_addOut_65 : decode cX0_addOut 65 = .ok (.putfield 93, 3) := by decide +kernel
theorem dX0_addOut_68 : decode cX0_addOut 68 = .ok (.return_, 1) := by decide +kernel
end
section
set_option maxRecDepth 100000
theorem dX0_acknowledge_0 : decode cX0_acknowledge 0 = .ok (.iload_n 1, 1) := by decide +kernel
theorem dX0_acknowledge_1 : decode cX0_acknowledge 1 = .ok (.invokestatic 111, 3) := by decide +kernel
theorem dX0_acknowledge_4 : decode cX0_acknowledge 4 = .ok (.ifCond .eq 6, 3) := by decide +kernel
theorem dX0_acknowledge_7 : decode cX0_acknowledge 7 = .ok (.bipush (-2), 2) := by decide +kernel
theorem dX0_acknowledge_9 : decode cX0_acknowledge 9 = .ok (.ireturn, 1) := by decide +kernel
theorem dX0_acknowledge_10 : decode cX0_acknowledge 10 = .ok (.aload_n 0, 1) := by decide +kernel
theorem dX0_acknowledge_11 : decode cX0_acknowledge 11 = .ok (.iload_n 1, 1) := by decide +kernel
theorem dX0_acknowledge_12 : decode cX0_acknowledge 12 = .ok (.iload_n 2, 1) := by decide +kernel
theorem dX0_acknowledge_13 : decode cX0_acknowledge 13 = .ok (.invokevirtual 120, 3) := by decide +kernel
theorem dX0_acknowledge_16 : decode cX0_acknowledge 16 = .ok (.ifCond .eq 6, 3) := by decide +kernel
theorem dX0_acknowledge_19 : decode cX0_acknowledge 19 = .ok (.bipush (-6), 2) := by decide +kernel
theorem dX0_acknowledge_21 : decode cX0_acknowledge 21 = .ok (.ireturn, 1) := by decide +kernel
theorem dX0_acknowledge_22 : decode cX0_acknowledge 22 = .ok (.aload_n 0, 1) := by decide +kernel
theorem dX0_acknowledge_23 : decode cX0_acknowledge 23 = .ok (.iload_n 2, 1) := by decide +kernel
theorem dX0_acknowledge_24 : decode cX0_acknowledge 24 = .ok (.invokevirtual 96, 3) := by decide +kernel
theorem dX0_acknowledge_27 : decode cX0_acknowledge 27 = .ok (.aload_n 0, 1) := by decide +kernel
theorem dX0_acknowledge_28 : decode cX0_acknowledge 28 = .ok (.getfield 52, 3) := by decide +kernel
theorem dX0_acknowledge_31 : decode cX0_acknowledge 31 = .ok (.iload_n 1, 1) := by decide +kernel
theorem dX0_acknowledge_32 : decode cX0_acknowledge 32 = .ok (.dup2, 1) := by decide +kernel
theorem dX0_acknowledge_33 : decode cX0_acknowledge 33 = .ok (.iaload, 1) := by decide +kernel
theorem dX0_acknowledge_34 : decode cX0_acknowledge 34 = .ok (.iconst 1, 1) := by decide +kernel
theorem dX0_acknowledge_35 : decode cX0_acknowledge 35 = .ok (.isub, 1) := by decide +kernel
theorem dX0_acknowledge_36 : decode cX0_acknowledge 36 = .ok (.iastore, 1) := by decide +kernel
theorem dX0_acknowledge_37 : decode cX0_acknowledge 37 = .ok (.aload_n 0, 1) := by decide +kernel
theorem dX0_acknowledge_38 : decode cX0_acknowledge 38 = .ok (.getfield 22, 3) := by decide +kernel
theorem dX0_acknowledge_41 : decode cX0_acknowledge 41 = .ok (.iload_n 2, 1) := by decide +kernel
theorem dX0_acknowledge_42 : decode cX0_acknowledge 42 = .ok (.iconst 2, 1) := by decide +kernel
theorem dX0_acknowledge_43 : decode cX0_acknowledge 43 = .ok (.iastore, 1) := by decide +kernel
theorem dX0_acknowledge_44 : decode cX0_acknowledge 44 = .ok (.aload_n 0, 1) := by decide +kernel
theorem dX0_acknowledge_45 : decode cX0_acknowledge 45 = .ok (.getfield 52, 3) := by decide +kernel
theorem dX0_acknowledge_48 : decode cX0_acknowledge 48 = .ok (.iload_n 1, 1) := by decide +kernel
theorem dX0_acknowledge_49 : decode cX0_acknowledge 49 = .ok (.iaload, 1) := by decide +kernel
theorem dX0_acknowledge_50 : decode cX0_acknowledge 50 = .ok (.ireturn, 1) := by decide +kernel
theorem dX0_notOut_0 : decode cX0_notOut 0 = .ok (.iload_n 2, 1) := by decide +kernel
theorem dX0_notOut_1 : decode cX0_notOut 1 = .ok (.ifCond .lt 11, 3) := by decide +kernel
theorem dX0_notOut_4 : decode cX0_notOut 4 = .ok (.iload_n 2, 1) := by decide +kernel
theorem dX0_notOut_5 : decode cX0_notOut 5 = .ok (.aload_n 0, 1) := by decide +kernel
theorem dX0_notOut_6 : decode cX0_notOut 6 = .ok (.getfield 102, 3) := by decide +kernel
theorem dX0_notOut_9 : decode cX0_notOut 9 = .ok (.if_icmp .lt 5, 3) := by decide +kernel
theorem dX0_notOut_12 : decode cX0_notOut 12 = .ok (.iconst 1, 1) := by decide +kernel
theorem dX0_notOut_13 : decode cX0_notOut 13 = .ok (.ireturn, 1) := by decide +kernel
theorem dX0_notOut_14 : decode cX0_notOut 14 = .ok (.aload_n 0, 1) := by decide +kernel
theorem dX0_notOut_15 : decode cX0_notOut 15 = .ok (.getfield 22, 3) := by decide +kernel
theorem dX0_notOut_18 : decode cX0_notOut 18 = .ok (.iload_n 2, 1) := by decide +kernel
theorem dX0_notOut_19 : decode cX0_notOut 19 = .ok (.iaload, 1) := by decide +kernel
theorem dX0_notOut_20 : decode cX0_notOut 20 = .ok (.iconst 1, 1) := by decide +kernel
theorem dX0_notOut_21 : decode cX0_notOut 21 = .ok (.if_icmp .ne 13, 3) := by decide +kernel
theorem dX0_notOut_24 : decode cX0_notOut 24 = .ok (.aload_n 0, 1) := by decide +kernel
theorem dX0_notOut_25 : decode cX0_notOut 25 = .ok (.getfield 25, 3) := by decide +kernel
theorem dX0_notOut_28 : decode cX0_notOut 28 = .ok (.iload_n 2, 1) := by decide +kernel
theorem dX0_notOut_29 : decode cX0_notOut 29 = .ok (.iaload, 1) := by decide +kernel
theorem dX0_notOut_30 : decode cX0_notOut 30 = .ok (.iload_n 1, 1) := by decide +kernel
theorem dX0_notOut_31 : decode cX0_notOut 31 = .ok (.if_icmp .eq 7, 3) := by decide +kernel
theorem dX0_notOut_34 : decode cX0_notOut 34 = .ok (.iconst 1, 1) := by decide +kernel
theorem dX0_notOut_35 : decode cX0_notOut 35 = .ok (.goto 4, 3) := by decide +kernel
theorem dX0_notOut_38 : decode cX0_notOut 38 = .ok (.iconst 0, 1) := by decide +kernel
theorem dX0_notOut_39 : decode cX0_notOut 39 = .ok (.ireturn, 1) := by decide +kernel
theorem dX0_dropOut_0 : decode cX0_dropOut 0 = .ok (.iconst 0, 1) := by decide +kernel
theorem dX0_dropOut_1 : decode cX0_dropOut 1 = .ok (.istore_n 2, 1) := by decide +kernel
theorem dX0_dropOut_2 : decode cX0_dropOut 2 = .ok (.iconst 0, 1) := by decide +kernel
theorem dX0_dropOut_3 : decode cX0_dropOut 3 = .ok (.istore_n 3, 1) := by decide +kernel
theorem dX0_dropOut_4 : decode cX0_dropOut 4 = .ok (.iload_n 3, 1) := by decide +kernel
theorem dX0_dropOut_5 : decode cX0_dropOut 5 = .ok (.aload_n 0, 1) := by decide +kernel
theorem dX0_dropOut_6 : decode cX0_dropOut 6 = .ok (.getfield 93, 3) := by decide +kernel
theorem dX0_dropOut_9 : decode cX0_dropOut 9 = .ok (.if_icmp .ge 34, 3) := by decide +kernel
theorem dX0_dropOut_12 : decode cX0_dropOut 12 = .ok (.aload_n 0, 1) := by decide +kernel
theorem dX0_dropOut_13 : decode cX0_dropOut 13 = .ok (.getfield 49, 3) := by decide +kernel
theorem dX0_dropOut_16 : decode cX0_dropOut 16 = .ok (.iload_n 3, 1) := by decide +kernel
theorem dX0_dropOut_17 : decode cX0_dropOut 17 = .ok (.iaload, 1) := by decide +kernel
theorem dX0_dropOut_18 : decode cX0_dropOut 18 = .ok (.iload_n 1, 1) := by decide +kernel
theorem dX0_dropOut_19 : decode cX0_dropOut 19 = .ok (.if_icmp .eq 18, 3) := by decide +kernel
theorem dX0_dropOut_22 : decode cX0_dropOut 22 = .ok (.aload_n 0, 1) := by decide +kernel
theorem dX0_dropOut_23 : decode cX0_dropOut 23 = .ok (.getfield 49, 3) := by decide +kernel
theorem dX0_dropOut_26 : decode cX0_dropOut 26 = .ok (.iload_n 2, 1) := by decide +kernel
theorem dX0_dropOut_27 : decode cX0_dropOut 27 = .ok (.aload_n 0, 1) := by decide +kernel
theorem dX0_dropOut_28 : decode cX0_dropOut 28 = .ok (.getfield 49, 3) := by decide +kernel
theorem dX0_dropOut_31 : decode cX0_dropOut 31 = .ok (.iload_n 3, 1) := by decide +kernel
theorem dX0_dropOut_32 : decode cX0_dropOut 32 = .ok (.iaload, 1) := by decide +kernel
theorem dX0_dropOut_33 : decode cX0_dropOut 33 = .ok (.iastore, 1) := by decide +kernel
theorem dX0_dropOut_34 : decode cX0_dropOut 34 = .ok (.iinc 2 1, 3) := by decide +kernel
theorem dX0_dropOut_37 : decode cX0_dropOut 37 = .ok (.iinc 3 1, 3) := by decide +kernel
theorem dX0_dropOut_40 : decode cX0_dropOut 40 = .ok (.goto (-36), 3) := by decide +kernel
theorem dX0_dropOut_43 : decode cX0_dropOut 43 = .ok (.aload_n 0, 1) := by decide +kernel
theorem dX0_dropOut_44 : decode cX0_dropOut 44 = .ok (.iload_n 2, 1) := by decide +kernel
theorem dX0_dropOut_45 : decode cX0_dropOut 45 = .ok (.putfield 93, 3) := by decide +kernel
theorem dX0_dropOut_48 : decode cX0_dropOut 48 = .ok (.return_, 1) := by decide +kernel
theorem dX0_refuse_0 : decode cX0_refuse 0 = .ok (.iload_n 1, 1) := by decide +kernel
theorem dX0_refuse_1 : decode cX0_refuse 1 = .ok (.invokestatic 111, 3) := by decide +kernel
theorem dX0_refuse_4 : decode cX0_refuse 4 = .ok (.ifCond .eq 6, 3) := by decide +kernel
theorem dX0_refuse_7 : decode cX0_refuse 7 = .ok (.bipush (-2), 2) := by decide +kernel
theorem dX0_refuse_9 : decode cX0_refuse 9 = .ok (.ireturn, 1) := by decide +kernel
theorem dX0_refuse_10 : decode cX0_refuse 10 = .ok (.aload_n 0, 1) := by decide +kernel
theorem dX0_refuse_11 : decode cX0_refuse 11 = .ok (.iload_n 1, 1) := by decide +kernel
theorem dX0_refuse_12 : decode cX0_refuse 12 = .ok (.iload_n 2, 1) := by decide +kernel
theorem dX0_refuse_13 : decode cX0_refuse 13 = .ok (.invokevirtual 120, 3) := by decide +kernel
theorem dX0_refuse_16 : decode cX0_refuse 16 = .ok (.ifCond .eq 6, 3) := by decide +kernel
theorem dX0_refuse_19 : decode cX0_refuse 19 = .ok (.bipush (-6), 2) := by decide +kernel
theorem dX0_refuse_21 : decode cX0_refuse 21 = .ok (.ireturn, 1) := by decide +kernel
theorem dX0_refuse_22 : decode cX0_refuse 22 = .ok (.aload_n 0, 1) := by decide +kernel
theorem dX0_refuse_23 : decode cX0_refuse 23 = .ok (.iload_n 2, 1) := by decide +kernel
theorem dX0_refuse_24 : decode cX0_refuse 24 = .ok (.invokevirtual 123, 3) := by decide +kernel
theorem dX0_refuse_27 : decode cX0_refuse 27 = .ok (.aload_n 0, 1) := by decide +kernel
theorem dX0_refuse_28 : decode cX0_refuse 28 = .ok (.getfield 22, 3) := by decide +kernel
theorem dX0_refuse_31 : decode cX0_refuse 31 = .ok (.iload_n 2, 1) := by decide +kernel
theorem dX0_refuse_32 : decode cX0_refuse 32 = .ok (.iaload, 1) := by decide +kernel
theorem dX0_refuse_33 : decode cX0_refuse 33 = .ok (.ireturn, 1) := by decide +kernel
theorem dX0_comeBack_0 : decode cX0_comeBack 0 = .ok (.aload_n 0, 1) := by decide +kernel
theorem dX0_comeBack_1 : decode cX0_comeBack 1 = .ok (.iload_n 1, 1) := by decide +kernel
theorem dX0_comeBack_2 : decode cX0_comeBack 2 = .ok (.invokevirtual 96, 3) := by decide +kernel
theorem dX0_comeBack_5 : decode cX0_comeBack 5 = .ok (.aload_n 0, 1) := by decide +kernel
theorem dX0_comeBack_6 : decode cX0_comeBack 6 = .ok (.getfield 52, 3) := by decide +kernel
theorem dX0_comeBack_9 : decode cX0_comeBack 9 = .ok (.aload_n 0, 1) := by decide +kernel
theorem dX0_comeBack_10 : decode cX0_comeBack 10 = .ok (.getfield 25, 3) := by decide +kernel
theorem dX0_comeBack_13 : decode cX0_comeBack 13 = .ok (.iload_n 1, 1) := by decide +kernel
theorem dX0_comeBack_14 : decode cX0_comeBack 14 = .ok (.iaload, 1) := by decide +kernel
theorem dX0_comeBack_15 : decode cX0_comeBack 15 = .ok (.dup2, 1) := by decide +kernel
theorem dX0_comeBack_16 : decode cX0_comeBack 16 = .ok (.iaload, 1) := by decide +kernel
theorem dX0_comeBack_17 : decode cX0_comeBack 17 = .ok (.iconst 1, 1) := by decide +kernel
theorem dX0_comeBack_18 : decode cX0_comeBack 18 = .ok (.isub, 1) := by decide +kernel
theorem dX0_comeBack_19 : decode cX0_comeBack 19 = .ok (.iastore, 1) := by decide +kernel
theorem dX0_comeBack_20 : decode cX0_comeBack 20 = .ok (.aload_n 0, 1) := by decide +kernel
theorem dX0_comeBack_21 : decode cX0_comeBack 21 = .ok (.getfield 19, 3) := by decide +kernel
theorem dX0_comeBack_24 : decode cX0_comeBack 24 = .ok (.iload_n 1, 1) := by decide +kernel
theorem dX0_comeBack_25 : decode cX0_comeBack 25 = .ok (.iaload, 1) := by decide +kernel
theorem dX0_comeBack_26 : decode cX0_comeBack 26 = .ok (.aload_n 0, 1) := by decide +kernel
theorem dX0_comeBack_27 : decode cX0_comeBack 27 = .ok (.getfield 46, 3) := by decide +kernel
theorem dX0_comeBack_30 : decode cX0_comeBack 30 = .ok (.aload_n 0, 1) := by decide +kernel
theorem dX0_comeBack_31 : decode cX0_comeBack 31 = .ok (.getfield 7, 3) := by decide +kernel
theorem dX0_comeBack_34 : decode cX0_comeBack 34 = .ok (.iload_n 1, 1) := by decide +kernel
theorem dX0_comeBack_35 : decode cX0_comeBack 35 = .ok (.iaload, 1) := by decide +kernel
theorem dX0_comeBack_36 : decode cX0_comeBack 36 = .ok (.iaload, 1) := by decide +kernel
theorem dX0_comeBack_37 : decode cX0_comeBack 37 = .ok (.if_icmp .lt 13, 3) := by decide +kernel
theorem dX0_comeBack_40 : decode cX0_comeBack 40 = .ok (.aload_n 0, 1) := by decide +kernel
theorem dX0_comeBack_41 : decode cX0_comeBack 41 = .ok (.getfield 22, 3) := by decide +kernel
theorem dX0_comeBack_44 : decode cX0_comeBack 44 = .ok (.iload_n 1, 1) := by decide +kernel
theorem dX0_comeBack_45 : decode cX0_comeBack 45 = .ok (.iconst 3, 1) := by decide +kernel
theorem dX0_comeBack_46 : decode cX0_comeBack 46 = .ok (.iastore, 1) := by decide +kernel
theorem dX0_comeBack_47 : decode cX0_comeBack 47 = .ok (.goto 8, 3) := by decide +kernel
theorem dX0_comeBack_50 : decode cX0_comeBack 50 = .ok (.aload_n 0, 1) := by decide +kernel
theorem dX0_comeBack_51 : decode cX0_comeBack 51 = .ok (.iload_n 1, 1) := by decide +kernel
theorem dX0_comeBack_52 : decode cX0_comeBack 52 = .ok (.invokevirtual 99, 3) := by decide +kernel
theorem dX0_comeBack_55 : decode cX0_comeBack 55 = .ok (.return_, 1) := by decide +kernel
theorem dX0_readyAgain_0 : decode cX0_readyAgain 0 = .ok (.aload_n 0, 1) := by decide +kernel
theorem dX0_readyAgain_1 : decode cX0_readyAgain 1 = .ok (.iload_n 1, 1) := by decide +kernel
theorem dX0_readyAgain_2 : decode cX0_readyAgain 2 = .ok (.invokevirtual 82, 3) := by decide +kernel
theorem dX0_readyAgain_5 : decode cX0_readyAgain 5 = .ok (.aload_n 0, 1) := by decide +kernel
theorem dX0_readyAgain_6 : decode cX0_readyAgain 6 = .ok (.iload_n 1, 1) := by decide +kernel
theorem dX0_readyAgain_7 : decode cX0_readyAgain 7 = .ok (.invokevirtual 86, 3) := by decide +kernel
theorem dX0_readyAgain_10 : decode cX0_readyAgain 10 = .ok (.istore_n 2, 1) := by decide +kernel
theorem dX0_readyAgain_11 : decode cX0_readyAgain 11 = .ok (.aload_n 0, 1) := by decide +kernel
theorem dX0_readyAgain_12 : decode cX0_readyAgain 12 = .ok (.getfield 31, 3) := by decide +kernel
theorem dX0_readyAgain_15 : decode cX0_readyAgain 15 = .ok (.iload_n 1, 1) := by decide +kernel
theorem dX0_readyAgain_16 : decode cX0_readyAgain 16 = .ok (.iaload, 1) := by decide +kernel
theorem dX0_readyAgain_17 : decode cX0_readyAgain 17 = .ok (.ifCond .lt 12, 3) := by decide +kernel
theorem dX0_readyAgain_20 : decode cX0_readyAgain 20 = .ok (.iload_n 2, 1) := by decide +kernel
theorem dX0_readyAgain_21 : decode cX0_readyAgain 21 = .ok (.ifCond .ne 8, 3) := by decide +kernel
theorem dX0_readyAgain_24 : decode cX0_readyAgain 24 = .ok (.aload_n 0, 1) := by decide +kernel
theorem dX0_readyAgain_25 : decode cX0_readyAgain 25 = .ok (.iload_n 1, 1) := by decide +kernel
theorem dX0_readyAgain_26 : decode cX0_readyAgain 26 = .ok (.invokevirtual 90, 3) := by decide +kernel
theorem dX0_readyAgain_29 : decode cX0_readyAgain 29 = .ok (.return_, 1) := by decide +kernel
theorem dX0_inLives_0 : decode cX0_inLives 0 = .ok (.iconst 0, 1) := by decide +kernel
theorem dX0_inLives_1 : decode cX0_inLives 1 = .ok (.istore_n 2, 1) := by decide +kernel
theorem dX0_inLives_2 : decode cX0_inLives 2 = .ok (.iload_n 2, 1) := by decide +kernel
theorem dX0_inLives_3 : decode cX0_inLives 3 = .ok (.aload_n 0, 1) := by decide +kernel
theorem dX0_inLives_4 : decode cX0_inLives 4 = .ok (.getfield 75, 3) := by decide +kernel
theorem dX0_inLives_7 : decode cX0_inLives 7 = .ok (.if_icmp .ge 21, 3) := by decide +kernel
theorem dX0_inLives_10 : decode cX0_inLives 10 = .ok (.aload_n 0, 1) := by decide +kernel
theorem dX0_inLives_11 : decode cX0_inLives 11 = .ok (.getfield 55, 3) := by decide +kernel
theorem dX0_inLives_14 : decode cX0_inLives 14 = .ok (.iload_n 2, 1) := by decide +kernel
theorem dX0_inLives_15 : decode cX0_inLives 15 = .ok (.iaload, 1) := by decide +kernel
theorem dX0_inLives_16 : decode cX0_inLives 16 = .ok (.iload_n 1, 1) := by decide +kernel
theorem dX0_inLives_17 : decode cX0_inLives 17 = .ok (.if_icmp .ne 5, 3) := by decide +kernel
theorem dX0_inLives_20 : decode cX0_inLives 20 = .ok (.iconst 1, 1) := by decide +kernel
theorem dX0_inLives_21 : decode cX0_inLives 21 = .ok (.ireturn, 1) := by decide +kernel
theorem dX0_inLives_22 : decode cX0_inLives 22 = .ok (.iinc 2 1, 3) := by decide +kernel
theorem dX0_inLives_25 : decode cX0_inLives 25 = .ok (.goto (-23), 3) := by decide +kernel
theorem dX0_inLives_28 : decode cX0_inLives 28 = .ok (.iconst 0, 1) := by decide +kernel
theorem dX0_inLives_29 : decode cX0_inLives 29 = .ok (.ireturn, 1) := by decide +kernel
theorem dX0_lose_0 : decode cX0_lose 0 = .ok (.iload_n 1, 1) := by decide +kernel
theorem dX0_lose_1 : decode cX0_lose 1 = .ok (.invokestatic 111, 3) := by decide +kernel
theorem dX0_lose_4 : decode cX0_lose 4 = .ok (.ifCond .eq 6, 3) := by decide +kernel
theorem dX0_lose_7 : decode cX0_lose 7 = .ok (.bipush (-2), 2) := by decide +kernel
theorem dX0_lose_9 : decode cX0_lose 9 = .ok (.ireturn, 1) := by decide +kernel
theorem dX0_lose_10 : decode cX0_lose 10 = .ok (.iconst 0, 1) := by decide +kernel
theorem dX0_lose_11 : decode cX0_lose 11 = .ok (.istore_n 2, 1) := by decide +kernel
theorem dX0_lose_12 : decode cX0_lose 12 = .ok (.iconst 0, 1) := by decide +kernel
theorem dX0_lose_13 : decode cX0_lose 13 = .ok (.istore_n 3, 1) := by decide +kernel
theorem dX0_lose_14 : decode cX0_lose 14 = .ok (.iload_n 3, 1) := by decide +kernel
theorem dX0_lose_15 : decode cX0_lose 15 = .ok (.aload_n 0, 1) := by decide +kernel
theorem dX0_lose_16 : decode cX0_lose 16 = .ok (.getfield 102, 3) := by decide +kernel
theorem dX0_lose_19 : decode cX0_lose 19 = .ok (.if_icmp .ge 37, 3) := by decide +kernel
theorem dX0_lose_22 : decode cX0_lose 22 = .ok (.aload_n 0, 1) := by decide +kernel
theorem dX0_lose_23 : decode cX0_lose 23 = .ok (.getfield 22, 3) := by decide +kernel
theorem dX0_lose_26 : decode cX0_lose 26 = .ok (.iload_n 3, 1) := by decide +kernel
theorem dX0_lose_27 : decode cX0_lose 27 = .ok (.iaload, 1) := by decide +kernel
theorem dX0_lose_28 : decode cX0_lose 28 = .ok (.iconst 1, 1) := by decide +kernel
theorem dX0_lose_29 : decode cX0_lose 29 = .ok (.if_icmp .ne 21, 3) := by decide +kernel
theorem dX0_lose_32 : decode cX0_lose 32 = .ok (.aload_n 0, 1) := by decide +kernel
theorem dX0_lose_33 : decode cX0_lose 33 = .ok (.getfield 25, 3) := by decide +kernel
theorem dX0_lose_36 : decode cX0_lose 36 = .ok (.iload_n 3, 1) := by decide +kernel
theorem dX0_lose_37 : decode cX0_lose 37 = .ok (.iaload, 1) := by decide +kernel
theorem dX0_lose_38 : decode cX0_lose 38 = .ok (.iload_n 1, 1) := by decide +kernel
theorem dX0_lose_39 : decode cX0_lose 39 = .ok (.if_icmp .ne 11, 3) := by decide +kernel
theorem dX0_lose_42 : decode cX0_lose 42 = .ok (.aload_n 0, 1) := by decide +kernel
theorem dX0_lose_43 : decode cX0_lose 43 = .ok (.iload_n 3, 1) := by decide +kernel
theorem dX0_lose_44 : decode cX0_lose 44 = .ok (.invokevirtual 123, 3) := by decide +kernel
theorem dX0_lose_47 : decode cX0_lose 47 = .ok (.iinc 2 1, 3) := by decide +kernel
theorem dX0_lose_50 : decode cX0_lose 50 = .ok (.iinc 3 1, 3) := by decide +kernel
theorem dX0_lose_53 : decode cX0_lose 53 = .ok (.goto (-39), 3) := by decide +kernel
theorem dX0_lose_56 : decode cX0_lose 56 = .ok (.iload_n 2, 1) := by decide +kernel
theorem dX0_lose_57 : decode cX0_lose 57 = .ok (.ireturn, 1) := by decide +kernel
theorem dX0_renew_0 : decode cX0_renew 0 = .ok (.iload_n 1, 1) := by decide +kernel
theorem dX0_renew_1 : decode cX0_renew 1 = .ok (.invokestatic 111, 3) := by decide +kernel
theorem dX0_renew_4 : decode cX0_renew 4 = .ok (.ifCond .eq 6, 3) := by decide +kernel
theorem dX0_renew_7 : decode cX0_renew 7 = .ok (.bipush (-2), 2) := by decide +kernel
theorem dX0_renew_9 : decode cX0_renew 9 = .ok (.ireturn, 1) := by decide +kernel
theorem dX0_renew_10 : decode cX0_renew 10 = .ok (.aload_n 0, 1) := by decide +kernel
theorem dX0_renew_11 : decode cX0_renew 11 = .ok (.iload_n 1, 1) := by decide +kernel
theorem dX0_renew_12 : decode cX0_renew 12 = .ok (.iload_n 2, 1) := by decide +kernel
theorem dX0_renew_13 : decode cX0_renew 13 = .ok (.invokevirtual 120, 3) := by decide +kernel
theorem dX0_renew_16 : decode cX0_renew 16 = .ok (.ifCond .eq 6, 3) := by decide +kernel
theorem dX0_renew_19 : decode cX0_renew 19 = .ok (.bipush (-6), 2) := by decide +kernel
theorem dX0_renew_21 : decode cX0_renew 21 = .ok (.ireturn, 1) := by decide +kernel
theorem dX0_renew_22 : decode cX0_renew 22 = .ok (.aload_n 0, 1) := by decide +kernel
theorem dX0_renew_23 : decode cX0_renew 23 = .ok (.iload_n 2, 1) := by decide +kernel
theorem dX0_renew_24 : decode cX0_renew 24 = .ok (.invokevirtual 96, 3) := by decide +kernel
theorem dX0_renew_27 : decode cX0_renew 27 = .ok (.aload_n 0, 1) := by decide +kernel
theorem dX0_renew_28 : decode cX0_renew 28 = .ok (.getfield 28, 3) := by decide +kernel
theorem dX0_renew_31 : decode cX0_renew 31 = .ok (.iload_n 2, 1) := by decide +kernel
theorem dX0_renew_32 : decode cX0_renew 32 = .ok (.aload_n 0, 1) := by decide +kernel
theorem dX0_renew_33 : decode cX0_renew 33 = .ok (.getfield 108, 3) := by decide +kernel
theorem dX0_renew_36 : decode cX0_renew 36 = .ok (.aload_n 0, 1) := by decide +kernel
theorem dX0_renew_37 : decode cX0_renew 37 = .ok (.getfield 43, 3) := by decide +kernel
theorem dX0_renew_40 : decode cX0_renew 40 = .ok (.aload_n 0, 1) := by decide +kernel
theorem dX0_renew_41 : decode cX0_renew 41 = .ok (.getfield 7, 3) := by decide +kernel
theorem dX0_renew_44 : decode cX0_renew 44 = .ok (.iload_n 2, 1) := by decide +kernel
theorem dX0_renew_45 : decode cX0_renew 45 = .ok (.iaload, 1) := by decide +kernel
theorem dX0_renew_46 : decode cX0_renew 46 = .ok (.iaload, 1) := by decide +kernel
theorem dX0_renew_47 : decode cX0_renew 47 = .ok (.iadd, 1) := by decide +kernel
theorem dX0_renew_48 : decode cX0_renew 48 = .ok (.iastore, 1) := by decide +kernel
theorem dX0_renew_49 : decode cX0_renew 49 = .ok (.aload_n 0, 1) := by decide +kernel
theorem dX0_renew_50 : decode cX0_renew 50 = .ok (.iload_n 2, 1) := by decide +kernel
theorem dX0_renew_51 : decode cX0_renew 51 = .ok (.invokevirtual 117, 3) := by decide +kernel
theorem dX0_renew_54 : decode cX0_renew 54 = .ok (.aload_n 0, 1) := by decide +kernel
theorem dX0_renew_55 : decode cX0_renew 55 = .ok (.getfield 28, 3) := by decide +kernel
theorem dX0_renew_58 : decode cX0_renew 58 = .ok (.iload_n 2, 1) := by decide +kernel
theorem dX0_renew_59 : decode cX0_renew 59 = .ok (.iaload, 1) := by decide +kernel
theorem dX0_renew_60 : decode cX0_renew 60 = .ok (.ireturn, 1) := by decide +kernel
theorem dX0_pass_0 : decode cX0_pass 0 = .ok (.iload_n 1, 1) := by decide +kernel
theorem dX0_pass_1 : decode cX0_pass 1 = .ok (.ifCond .lt 9, 3) := by decide +kernel
theorem dX0_pass_4 : decode cX0_pass 4 = .ok (.iload_n 1, 1) := by decide +kernel
theorem dX0_pass_5 : decode cX0_pass 5 = .ok (.bipush 100, 2) := by decide +kernel
theorem dX0_pass_7 : decode cX0_pass 7 = .ok (.if_icmp .le 6, 3) := by decide +kernel
theorem dX0_pass_10 : decode cX0_pass 10 = .ok (.bipush (-3), 2) := by decide +kernel
theorem dX0_pass_12 : decode cX0_pass 12 = .ok (.ireturn, 1) := by decide +kernel
theorem dX0_pass_13 : decode cX0_pass 13 = .ok (.aload_n 0, 1) := by decide +kernel
theorem dX0_pass_14 : decode cX0_pass 14 = .ok (.dup, 1) := by decide +kernel
theorem dX0_pass_15 : decode cX0_pass 15 = .ok (.getfield 108, 3) := by decide +kernel
theorem dX0_pass_18 : decode cX0_pass 18 = .ok (.iload_n 1, 1) := by decide +kernel
theorem dX0_pass_19 : decode cX0_pass 19 = .ok (.iadd, 1) := by decide +kernel
theorem dX0_pass_20 : decode cX0_pass 20 = .ok (.putfield 108, 3) := by decide +kernel
theorem dX0_pass_23 : decode cX0_pass 23 = .ok (.iconst 0, 1) := by decide +kernel
theorem dX0_pass_24 : decode cX0_pass 24 = .ok (.istore_n 2, 1) := by decide +kernel
theorem dX0_pass_25 : decode cX0_pass 25 = .ok (.aload_n 0, 1) := by decide +kernel
theorem dX0_pass_26 : decode cX0_pass 26 = .ok (.getfield 93, 3) := by decide +kernel
theorem dX0_pass_29 : decode cX0_pass 29 = .ok (.ifCond .le 37, 3) := by decide +kernel
theorem dX0_pass_32 : decode cX0_pass 32 = .ok (.aload_n 0, 1) := by decide +kernel
theorem dX0_pass_33 : decode cX0_pass 33 = .ok (.getfield 28, 3) := by decide +kernel
theorem dX0_pass_36 : decode cX0_pass 36 = .ok (.aload_n 0, 1) := by decide +kernel
theorem dX0_pass_37 : decode cX0_pass 37 = .ok (.getfield 49, 3) := by decide +kernel
theorem dX0_pass_40 : decode cX0_pass 40 = .ok (.iconst 0, 1) := by decide +kernel
theorem dX0_pass_41 : decode cX0_pass 41 = .ok (.iaload, 1) := by decide +kernel
theorem dX0_pass_42 : decode cX0_pass 42 = .ok (.iaload, 1) := by decide +kernel
theorem dX0_pass_43 : decode cX0_pass 43 = .ok (.aload_n 0, 1) := by decide +kernel
theorem dX0_pass_44 : decode cX0_pass 44 = .ok (.getfield 108, 3) := by decide +kernel
theorem dX0_pass_47 : decode cX0_pass 47 = .ok (.if_icmp .gt 19, 3) := by decide +kernel
theorem dX0_pass_50 : decode cX0_pass 50 = .ok (.aload_n 0, 1) := by decide +kernel
theorem dX0_pass_51 : decode cX0_pass 51 = .ok (.aload_n 0, 1) := by decide +kernel
theorem dX0_pass_52 : decode cX0_pass 52 = .ok (.getfield 49, 3) := by decide +kernel
theorem dX0_pass_55 : decode cX0_pass 55 = .ok (.iconst 0, 1) := by decide +kernel
theorem dX0_pass_56 : decode cX0_pass 56 = .ok (.iaload, 1) := by decide +kernel
theorem dX0_pass_57 : decode cX0_pass 57 = .ok (.invokevirtual 123, 3) := by decide +kernel
theorem dX0_pass_60 : decode cX0_pass 60 = .ok (.iinc 2 1, 3) := by decide +kernel
theorem dX0_pass_63 : decode cX0_pass 63 = .ok (.goto (-38), 3) := by decide +kernel
theorem dX0_pass_66 : decode cX0_pass 66 = .ok (.aload_n 0, 1) := by decide +kernel
theorem dX0_pass_67 : decode cX0_pass 67 = .ok (.getfield 75, 3) := by decide +kernel
theorem dX0_pass_70 : decode cX0_pass 70 = .ok (.ifCond .le 50, 3) := by decide +kernel
theorem dX0_pass_73 : decode cX0_pass 73 = .ok (.aload_n 0, 1) := by decide +kernel
theorem dX0_pass_74 : decode cX0_pass 74 = .ok (.getfield 31, 3) := by decide +kernel
theorem dX0_pass_77 : decode cX0_pass 77 = .ok (.aload_n 0, 1) := by decide +kernel
theorem dX0_pass_78 : decode cX0_pass 78 = .ok (.getfield 55, 3) := by decide +kernel
theorem dX0_pass_81 : decode cX0_pass 81 = .ok (.iconst 0, 1) := by decide +kernel
theorem dX0_pass_82 : decode cX0_pass 82 = .ok (.iaload, 1) := by decide +kernel
theorem dX0_pass_83 : decode cX0_pass 83 = .ok (.iaload, 1) := by decide +kernel
theorem dX0_pass_84 : decode cX0_pass 84 = .ok (.aload_n 0, 1) := by decide +kernel
theorem dX0_pass_85 : decode cX0_pass 85 = .ok (.getfield 108, 3) := by decide +kernel
theorem dX0_pass_88 : decode cX0_pass 88 = .ok (.if_icmp .gt 32, 3) := by decide +kernel
theorem dX0_pass_91 : decode cX0_pass 91 = .ok (.aload_n 0, 1) := by decide +kernel
theorem dX0_pass_92 : decode cX0_pass 92 = .ok (.invokevirtual 126, 3) := by decide +kernel
theorem dX0_pass_95 : decode cX0_pass 95 = .ok (.istore_n 3, 1) := by decide +kernel
theorem dX0_pass_96 : decode cX0_pass 96 = .ok (.aload_n 0, 1) := by decide +kernel
theorem dX0_pass_97 : decode cX0_pass 97 = .ok (.getfield 22, 3) := by decide +kernel
theorem dX0_pass_100 : decode cX0_pass 100 = .ok (.iload_n 3, 1) := by decide +kernel
theorem dX0_pass_101 : decode cX0_pass 101 = .ok (.iaload, 1) := by decide +kernel
theorem dX0_pass_102 : decode cX0_pass 102 = .ok (.ifCond .ne 15, 3) := by decide +kernel
theorem dX0_pass_105 : decode cX0_pass 105 = .ok (.aload_n 0, 1) := by decide +kernel
theorem dX0_pass_106 : decode cX0_pass 106 = .ok (.iload_n 3, 1) := by decide +kernel
theorem dX0_pass_107 : decode cX0_pass 107 = .ok (.invokevirtual 114, 3) := by decide +kernel
theorem dX0_pass_110 : decode cX0_pass 110 = .ok (.aload_n 0, 1) := by decide +kernel
theorem dX0_pass_111 : decode cX0_pass 111 = .ok (.getfield 22, 3) := by decide +kernel
theorem dX0_pass_114 : decode cX0_pass 114 = .ok (.iload_n 3, 1) := by decide +kernel
theorem dX0_pass_115 : decode cX0_pass 115 = .ok (.iconst 2, 1) := by decide +kernel
theorem dX0_pass_116 : decode cX0_pass 116 = .ok (.iastore, 1) := by decide +kernel
theorem dX0_pass_117 : decode cX0_pass 117 = .ok (.goto (-51), 3) := by decide +kernel
theorem dX0_pass_120 : decode cX0_pass 120 = .ok (.iload_n 2, 1) := by decide +kernel
theorem dX0_pass_121 : decode cX0_pass 121 = .ok (.ireturn, 1) := by decide +kernel
end
section
set_option maxRecDepth 100000
theorem dX0_firstLife_0 : decode cX0_firstLife 0 = .ok (.aload_n 0, 1) := by decide +kernel
theorem dX0_firstLife_1 : decode cX0_firstLife 1 = .ok (.getfield 55, 3) := by decide +kernel
theorem dX0_firstLife_4 : decode cX0_firstLife 4 = .ok (.iconst 0, 1) := by decide +kernel
theorem dX0_firstLife_5 : decode cX0_firstLife 5 = .ok (.iaload, 1) := by decide +kernel
theorem dX0_firstLife_6 : decode cX0_firstLife 6 = .ok (.istore_n 1, 1) := by decide +kernel
theorem dX0_firstLife_7 : decode cX0_firstLife 7 = .ok (.aload_n 0, 1) := by decide +kernel
theorem dX0_firstLife_8 : decode cX0_firstLife 8 = .ok (.dup, 1) := by decide +kernel
theorem dX0_firstLife_9 : decode cX0_firstLife 9 = .ok (.getfield 75, 3) := by decide +kernel
theorem dX0_firstLife_12 : decode cX0_firstLife 12 = .ok (.iconst 1, 1) := by decide +kernel
theorem dX0_firstLife_13 : decode cX0_firstLife 13 = .ok (.isub, 1) := by decide +kernel
theorem dX0_firstLife_14 : decode cX0_firstLife 14 = .ok (.putfield 75, 3) := by decide +kernel
theorem dX0_firstLife_17 : decode cX0_firstLife 17 = .ok (.aload_n 0, 1) := by decide +kernel
theorem dX0_firstLife_18 : decode cX0_firstLife 18 = .ok (.getfield 55, 3) := by decide +kernel
theorem dX0_firstLife_21 : decode cX0_firstLife 21 = .ok (.aload_n 0, 1) := by decide +kernel
theorem dX0_firstLife_22 : decode cX0_firstLife 22 = .ok (.getfield 75, 3) := by decide +kernel
theorem dX0_firstLife_25 : decode cX0_firstLife 25 = .ok (.iaload, 1) := by decide +kernel
theorem dX0_firstLife_26 : decode cX0_firstLife 26 = .ok (.istore_n 2, 1) := by decide +kernel
theorem dX0_firstLife_27 : decode cX0_firstLife 27 = .ok (.iconst 0, 1) := by decide +kernel
theorem dX0_firstLife_28 : decode cX0_firstLife 28 = .ok (.istore_n 3, 1) := by decide +kernel
theorem dX0_firstLife_29 : decode cX0_firstLife 29 = .ok (.iconst 1, 1) := by decide +kernel
theorem dX0_firstLife_30 : decode cX0_firstLife 30 = .ok (.istore 4, 2) := by decide +kernel
theorem dX0_firstLife_32 : decode cX0_firstLife 32 = .ok (.iload 4, 2) := by decide +kernel
theorem dX0_firstLife_34 : decode cX0_firstLife 34 = .ok (.aload_n 0, 1) := by decide +kernel
theorem dX0_firstLife_35 : decode cX0_firstLife 35 = .ok (.getfield 75, 3) := by decide +kernel
theorem dX0_firstLife_38 : decode cX0_firstLife 38 = .ok (.if_icmp .ge 90, 3) := by decide +kernel
theorem dX0_firstLife_41 : decode cX0_firstLife 41 = .ok (.iload 4, 2) := by decide +kernel
theorem dX0_firstLife_43 : decode cX0_firstLife 43 = .ok (.iconst 1, 1) := by decide +kernel
theorem dX0_firstLife_44 : decode cX0_firstLife 44 = .ok (.iadd, 1) := by decide +kernel
theorem dX0_firstLife_45 : decode cX0_firstLife 45 = .ok (.aload_n 0, 1) := by decide +kernel
theorem dX0_firstLife_46 : decode cX0_firstLife 46 = .ok (.getfield 75, 3) := by decide +kernel
theorem dX0_firstLife_49 : decode cX0_firstLife 49 = .ok (.if_icmp .ge 29, 3) := by decide +kernel
theorem dX0_firstLife_52 : decode cX0_firstLife 52 = .ok (.aload_n 0, 1) := by decide +kernel
theorem dX0_firstLife_53 : decode cX0_firstLife 53 = .ok (.aload_n 0, 1) := by decide +kernel
theorem dX0_firstLife_54 : decode cX0_firstLife 54 = .ok (.getfield 55, 3) := by decide +kernel
theorem dX0_firstLife_57 : decode cX0_firstLife 57 = .ok (.iload 4, 2) := by decide +kernel
theorem dX0_firstLife_59 : decode cX0_firstLife 59 = .ok (.iconst 1, 1) := by decide +kernel
theorem dX0_firstLife_60 : decode cX0_firstLife 60 = .ok (.iadd, 1) := by decide +kernel
theorem dX0_firstLife_61 : decode cX0_firstLife 61 = .ok (.iaload, 1) := by decide +kernel
theorem dX0_firstLife_62 : decode cX0_firstLife 62 = .ok (.aload_n 0, 1) := by decide +kernel
theorem dX0_firstLife_63 : decode cX0_firstLife 63 = .ok (.getfield 55, 3) := by decide +kernel
theorem dX0_firstLife_66 : decode cX0_firstLife 66 = .ok (.iload 4, 2) := by decide +kernel
theorem dX0_firstLife_68 : decode cX0_firstLife 68 = .ok (.iaload, 1) := by decide +kernel
theorem dX0_firstLife_69 : decode cX0_firstLife 69 = .ok (.invokevirtual 79, 3) := by decide +kernel
theorem dX0_firstLife_72 : decode cX0_firstLife 72 = .ok (.ifCond .eq 6, 3) := by decide +kernel
theorem dX0_firstLife_75 : decode cX0_firstLife 75 = .ok (.iinc 4 1, 3) := by decide +kernel
theorem dX0_firstLife_78 : decode cX0_firstLife 78 = .ok (.aload_n 0, 1) := by decide +kernel
theorem dX0_firstLife_79 : decode cX0_firstLife 79 = .ok (.aload_n 0, 1) := by decide +kernel
theorem dX0_firstLife_80 : decode cX0_firstLife 80 = .ok (.getfield 55, 3) := by decide +kernel
theorem dX0_firstLife_83 : decode cX0_firstLife 83 = .ok (.iload 4, 2) := by decide +kernel
theorem dX0_firstLife_85 : decode cX0_firstLife 85 = .ok (.iaload, 1) := by decide +kernel
theorem dX0_firstLife_86 : decode cX0_firstLife 86 = .ok (.iload_n 2, 1) := by decide +kernel
theorem dX0_firstLife_87 : decode cX0_firstLife 87 = .ok (.invokevirtual 79, 3) := by decide +kernel
theorem dX0_firstLife_90 : decode cX0_firstLife 90 = .ok (.ifCond .eq 29, 3) := by decide +kernel
theorem dX0_firstLife_93 : decode cX0_firstLife 93 = .ok (.aload_n 0, 1) := by decide +kernel
theorem dX0_firstLife_94 : decode cX0_firstLife 94 = .ok (.getfield 55, 3) := by decide +kernel
theorem dX0_firstLife_97 : decode cX0_firstLife 97 = .ok (.iload_n 3, 1) := by decide +kernel
theorem dX0_firstLife_98 : decode cX0_firstLife 98 = .ok (.aload_n 0, 1) := by decide +kernel
theorem dX0_firstLife_99 : decode cX0_firstLife 99 = .ok (.getfield 55, 3) := by decide +kernel
theorem dX0_firstLife_102 : decode cX0_firstLife 102 = .ok (.iload 4, 2) := by decide +kernel
theorem dX0_firstLife_104 : decode cX0_firstLife 104 = .ok (.iaload, 1) := by decide +kernel
theorem dX0_firstLife_105 : decode cX0_firstLife 105 = .ok (.iastore, 1) := by decide +kernel
theorem dX0_firstLife_106 : decode cX0_firstLife 106 = .ok (.iload 4, 2) := by decide +kernel
theorem dX0_firstLife_108 : decode cX0_firstLife 108 = .ok (.istore_n 3, 1) := by decide +kernel
theorem dX0_firstLife_109 : decode cX0_firstLife 109 = .ok (.iconst 2, 1) := by decide +kernel
theorem dX0_firstLife_110 : decode cX0_firstLife 110 = .ok (.iload_n 3, 1) := by decide +kernel
theorem dX0_firstLife_111 : decode cX0_firstLife 111 = .ok (.imul, 1) := by decide +kernel
theorem dX0_firstLife_112 : decode cX0_firstLife 112 = .ok (.iconst 1, 1) := by decide +kernel
theorem dX0_firstLife_113 : decode cX0_firstLife 113 = .ok (.iadd, 1) := by decide +kernel
theorem dX0_firstLife_114 : decode cX0_firstLife 114 = .ok (.istore 4, 2) := by decide +kernel
theorem dX0_firstLife_116 : decode cX0_firstLife 116 = .ok (.goto (-84), 3) := by decide +kernel
theorem dX0_firstLife_119 : decode cX0_firstLife 119 = .ok (.aload_n 0, 1) := by decide +kernel
theorem dX0_firstLife_120 : decode cX0_firstLife 120 = .ok (.getfield 75, 3) := by decide +kernel
theorem dX0_firstLife_123 : decode cX0_firstLife 123 = .ok (.istore 4, 2) := by decide +kernel
theorem dX0_firstLife_125 : decode cX0_firstLife 125 = .ok (.goto (-93), 3) := by decide +kernel
theorem dX0_firstLife_128 : decode cX0_firstLife 128 = .ok (.aload_n 0, 1) := by decide +kernel
theorem dX0_firstLife_129 : decode cX0_firstLife 129 = .ok (.getfield 55, 3) := by decide +kernel
theorem dX0_firstLife_132 : decode cX0_firstLife 132 = .ok (.iload_n 3, 1) := by decide +kernel
theorem dX0_firstLife_133 : decode cX0_firstLife 133 = .ok (.iload_n 2, 1) := by decide +kernel
theorem dX0_firstLife_134 : decode cX0_firstLife 134 = .ok (.iastore, 1) := by decide +kernel
theorem dX0_firstLife_135 : decode cX0_firstLife 135 = .ok (.iload_n 1, 1) := by decide +kernel
theorem dX0_firstLife_136 : decode cX0_firstLife 136 = .ok (.ireturn, 1) := by decide +kernel
theorem dX0_tune_0 : decode cX0_tune 0 = .ok (.iload_n 1, 1) := by decide +kernel
theorem dX0_tune_1 : decode cX0_tune 1 = .ok (.invokestatic 105, 3) := by decide +kernel
theorem dX0_tune_4 : decode cX0_tune 4 = .ok (.ifCond .eq 5, 3) := by decide +kernel
theorem dX0_tune_7 : decode cX0_tune 7 = .ok (.iconst (-1), 1) := by decide +kernel
theorem dX0_tune_8 : decode cX0_tune 8 = .ok (.ireturn, 1) := by decide +kernel
theorem dX0_tune_9 : decode cX0_tune 9 = .ok (.iload_n 2, 1) := by decide +kernel
theorem dX0_tune_10 : decode cX0_tune 10 = .ok (.iconst 1, 1) := by decide +kernel
theorem dX0_tune_11 : decode cX0_tune 11 = .ok (.if_icmp .lt 19, 3) := by decide +kernel
theorem dX0_tune_14 : decode cX0_tune 14 = .ok (.iload_n 2, 1) := by decide +kernel
theorem dX0_tune_15 : decode cX0_tune 15 = .ok (.bipush 20, 2) := by decide +kernel
theorem dX0_tune_17 : decode cX0_tune 17 = .ok (.if_icmp .gt 13, 3) := by decide +kernel
theorem dX0_tune_20 : decode cX0_tune 20 = .ok (.iload_n 3, 1) := by decide +kernel
theorem dX0_tune_21 : decode cX0_tune 21 = .ok (.iconst 1, 1) := by decide +kernel
theorem dX0_tune_22 : decode cX0_tune 22 = .ok (.if_icmp .lt 8, 3) := by decide +kernel
theorem dX0_tune_25 : decode cX0_tune 25 = .ok (.iload_n 3, 1) := by decide +kernel
theorem dX0_tune_26 : decode cX0_tune 26 = .ok (.iconst 5, 1) := by decide +kernel
theorem dX0_tune_27 : decode cX0_tune 27 = .ok (.if_icmp .le 6, 3) := by decide +kernel
theorem dX0_tune_30 : decode cX0_tune 30 = .ok (.bipush (-3), 2) := by decide +kernel
theorem dX0_tune_32 : decode cX0_tune 32 = .ok (.ireturn, 1) := by decide +kernel
theorem dX0_tune_33 : decode cX0_tune 33 = .ok (.aload_n 0, 1) := by decide +kernel
theorem dX0_tune_34 : decode cX0_tune 34 = .ok (.getfield 43, 3) := by decide +kernel
theorem dX0_tune_37 : decode cX0_tune 37 = .ok (.iload_n 1, 1) := by decide +kernel
theorem dX0_tune_38 : decode cX0_tune 38 = .ok (.iload_n 2, 1) := by decide +kernel
theorem dX0_tune_39 : decode cX0_tune 39 = .ok (.iastore, 1) := by decide +kernel
theorem dX0_tune_40 : decode cX0_tune 40 = .ok (.aload_n 0, 1) := by decide +kernel
theorem dX0_tune_41 : decode cX0_tune 41 = .ok (.getfield 46, 3) := by decide +kernel
theorem dX0_tune_44 : decode cX0_tune 44 = .ok (.iload_n 1, 1) := by decide +kernel
theorem dX0_tune_45 : decode cX0_tune 45 = .ok (.iload_n 3, 1) := by decide +kernel
theorem dX0_tune_46 : decode cX0_tune 46 = .ok (.iastore, 1) := by decide +kernel
theorem dX0_tune_47 : decode cX0_tune 47 = .ok (.iconst 0, 1) := by decide +kernel
theorem dX0_tune_48 : decode cX0_tune 48 = .ok (.ireturn, 1) := by decide +kernel
theorem dX0_revive_0 : decode cX0_revive 0 = .ok (.iload_n 1, 1) := by decide +kernel
theorem dX0_revive_1 : decode cX0_revive 1 = .ok (.invokestatic 105, 3) := by decide +kernel
theorem dX0_revive_4 : decode cX0_revive 4 = .ok (.ifCond .eq 5, 3) := by decide +kernel
theorem dX0_revive_7 : decode cX0_revive 7 = .ok (.iconst (-1), 1) := by decide +kernel
theorem dX0_revive_8 : decode cX0_revive 8 = .ok (.ireturn, 1) := by decide +kernel
theorem dX0_revive_9 : decode cX0_revive 9 = .ok (.iconst 0, 1) := by decide +kernel
theorem dX0_revive_10 : decode cX0_revive 10 = .ok (.istore_n 2, 1) := by decide +kernel
theorem dX0_revive_11 : decode cX0_revive 11 = .ok (.iconst 0, 1) := by decide +kernel
theorem dX0_revive_12 : decode cX0_revive 12 = .ok (.istore_n 3, 1) := by decide +kernel
theorem dX0_revive_13 : decode cX0_revive 13 = .ok (.iload_n 3, 1) := by decide +kernel
theorem dX0_revive_14 : decode cX0_revive 14 = .ok (.aload_n 0, 1) := by decide +kernel
theorem dX0_revive_15 : decode cX0_revive 15 = .ok (.getfield 102, 3) := by decide +kernel
theorem dX0_revive_18 : decode cX0_revive 18 = .ok (.if_icmp .ge 44, 3) := by decide +kernel
theorem dX0_revive_21 : decode cX0_revive 21 = .ok (.aload_n 0, 1) := by decide +kernel
theorem dX0_revive_22 : decode cX0_revive 22 = .ok (.getfield 22, 3) := by decide +kernel
theorem dX0_revive_25 : decode cX0_revive 25 = .ok (.iload_n 3, 1) := by decide +kernel
theorem dX0_revive_26 : decode cX0_revive 26 = .ok (.iaload, 1) := by decide +kernel
theorem dX0_revive_27 : decode cX0_revive 27 = .ok (.iconst 3, 1) := by decide +kernel
theorem dX0_revive_28 : decode cX0_revive 28 = .ok (.if_icmp .ne 28, 3) := by decide +kernel
theorem dX0_revive_31 : decode cX0_revive 31 = .ok (.aload_n 0, 1) := by decide +kernel
theorem dX0_revive_32 : decode cX0_revive 32 = .ok (.getfield 7, 3) := by decide +kernel
theorem dX0_revive_35 : decode cX0_revive 35 = .ok (.iload_n 3, 1) := by decide +kernel
theorem dX0_revive_36 : decode cX0_revive 36 = .ok (.iaload, 1) := by decide +kernel
theorem dX0_revive_37 : decode cX0_revive 37 = .ok (.iload_n 1, 1) := by decide +kernel
theorem dX0_revive_38 : decode cX0_revive 38 = .ok (.if_icmp .ne 18, 3) := by decide +kernel
theorem dX0_revive_41 : decode cX0_revive 41 = .ok (.aload_n 0, 1) := by decide +kernel
theorem dX0_revive_42 : decode cX0_revive 42 = .ok (.getfield 19, 3) := by decide +kernel
theorem dX0_revive_45 : decode cX0_revive 45 = .ok (.iload_n 3, 1) := by decide +kernel
theorem dX0_revive_46 : decode cX0_revive 46 = .ok (.iconst 0, 1) := by decide +kernel
theorem dX0_revive_47 : decode cX0_revive 47 = .ok (.iastore, 1) := by decide +kernel
theorem dX0_revive_48 : decode cX0_revive 48 = .ok (.aload_n 0, 1) := by decide +kernel
theorem dX0_revive_49 : decode cX0_revive 49 = .ok (.iload_n 3, 1) := by decide +kernel
theorem dX0_revive_50 : decode cX0_revive 50 = .ok (.invokevirtual 99, 3) := by decide +kernel
theorem dX0_revive_53 : decode cX0_revive 53 = .ok (.iinc 2 1, 3) := by decide +kernel
theorem dX0_revive_56 : decode cX0_revive 56 = .ok (.iinc 3 1, 3) := by decide +kernel
theorem dX0_revive_59 : decode cX0_revive 59 = .ok (.goto (-46), 3) := by decide +kernel
theorem dX0_revive_62 : decode cX0_revive 62 = .ok (.iload_n 2, 1) := by decide +kernel
theorem dX0_revive_63 : decode cX0_revive 63 = .ok (.ireturn, 1) := by decide +kernel
theorem dX0_clear_0 : decode cX0_clear 0 = .ok (.aload_n 0, 1) := by decide +kernel
theorem dX0_clear_1 : decode cX0_clear 1 = .ok (.iconst 0, 1) := by decide +kernel
theorem dX0_clear_2 : decode cX0_clear 2 = .ok (.putfield 102, 3) := by decide +kernel
theorem dX0_clear_5 : decode cX0_clear 5 = .ok (.aload_n 0, 1) := by decide +kernel
theorem dX0_clear_6 : decode cX0_clear 6 = .ok (.iconst 0, 1) := by decide +kernel
theorem dX0_clear_7 : decode cX0_clear 7 = .ok (.putfield 93, 3) := by decide +kernel
theorem dX0_clear_10 : decode cX0_clear 10 = .ok (.aload_n 0, 1) := by decide +kernel
theorem dX0_clear_11 : decode cX0_clear 11 = .ok (.iconst 0, 1) := by decide +kernel
theorem dX0_clear_12 : decode cX0_clear 12 = .ok (.putfield 75, 3) := by decide +kernel
theorem dX0_clear_15 : decode cX0_clear 15 = .ok (.iconst 0, 1) := by decide +kernel
theorem dX0_clear_16 : decode cX0_clear 16 = .ok (.istore_n 1, 1) := by decide +kernel
theorem dX0_clear_17 : decode cX0_clear 17 = .ok (.iload_n 1, 1) := by decide +kernel
theorem dX0_clear_18 : decode cX0_clear 18 = .ok (.iconst 3, 1) := by decide +kernel
theorem dX0_clear_19 : decode cX0_clear 19 = .ok (.if_icmp .ge 23, 3) := by decide +kernel
theorem dX0_clear_22 : decode cX0_clear 22 = .ok (.aload_n 0, 1) := by decide +kernel
theorem dX0_clear_23 : decode cX0_clear 23 = .ok (.getfield 34, 3) := by decide +kernel
theorem dX0_clear_26 : decode cX0_clear 26 = .ok (.iload_n 1, 1) := by decide +kernel
theorem dX0_clear_27 : decode cX0_clear 27 = .ok (.iconst 0, 1) := by decide +kernel
theorem dX0_clear_28 : decode cX0_clear 28 = .ok (.iastore, 1) := by decide +kernel
theorem dX0_clear_29 : decode cX0_clear 29 = .ok (.aload_n 0, 1) := by decide +kernel
theorem dX0_clear_30 : decode cX0_clear 30 = .ok (.getfield 52, 3) := by decide +kernel
theorem dX0_clear_33 : decode cX0_clear 33 = .ok (.iload_n 1, 1) := by decide +kernel
theorem dX0_clear_34 : decode cX0_clear 34 = .ok (.iconst 0, 1) := by decide +kernel
theorem dX0_clear_35 : decode cX0_clear 35 = .ok (.iastore, 1) := by decide +kernel
theorem dX0_clear_36 : decode cX0_clear 36 = .ok (.iinc 1 1, 3) := by decide +kernel
theorem dX0_clear_39 : decode cX0_clear 39 = .ok (.goto (-22), 3) := by decide +kernel
theorem dX0_clear_42 : decode cX0_clear 42 = .ok (.return_, 1) := by decide +kernel
theorem dX0_state_0 : decode cX0_state 0 = .ok (.iload_n 1, 1) := by decide +kernel
theorem dX0_state_1 : decode cX0_state 1 = .ok (.ifCond .lt 11, 3) := by decide +kernel
theorem dX0_state_4 : decode cX0_state 4 = .ok (.iload_n 1, 1) := by decide +kernel
theorem dX0_state_5 : decode cX0_state 5 = .ok (.aload_n 0, 1) := by decide +kernel
theorem dX0_state_6 : decode cX0_state 6 = .ok (.getfield 102, 3) := by decide +kernel
theorem dX0_state_9 : decode cX0_state 9 = .ok (.if_icmp .lt 8, 3) := by decide +kernel
theorem dX0_state_12 : decode cX0_state 12 = .ok (.bipush (-3), 2) := by decide +kernel
theorem dX0_state_14 : decode cX0_state 14 = .ok (.goto 9, 3) := by decide +kernel
theorem dX0_state_17 : decode cX0_state 17 = .ok (.aload_n 0, 1) := by decide +kernel
theorem dX0_state_18 : decode cX0_state 18 = .ok (.getfield 22, 3) := by decide +kernel
theorem dX0_state_21 : decode cX0_state 21 = .ok (.iload_n 1, 1) := by decide +kernel
theorem dX0_state_22 : decode cX0_state 22 = .ok (.iaload, 1) := by decide +kernel
theorem dX0_state_23 : decode cX0_state 23 = .ok (.ireturn, 1) := by decide +kernel
theorem dX0_ready_0 : decode cX0_ready 0 = .ok (.iload_n 1, 1) := by decide +kernel
theorem dX0_ready_1 : decode cX0_ready 1 = .ok (.invokestatic 105, 3) := by decide +kernel
theorem dX0_ready_4 : decode cX0_ready 4 = .ok (.ifCond .eq 7, 3) := by decide +kernel
theorem dX0_ready_7 : decode cX0_ready 7 = .ok (.iconst (-1), 1) := by decide +kernel
theorem dX0_ready_8 : decode cX0_ready 8 = .ok (.goto 9, 3) := by decide +kernel
theorem dX0_ready_11 : decode cX0_ready 11 = .ok (.aload_n 0, 1) := by decide +kernel
theorem dX0_ready_12 : decode cX0_ready 12 = .ok (.getfield 34, 3) := by decide +kernel
theorem dX0_ready_15 : decode cX0_ready 15 = .ok (.iload_n 1, 1) := by decide +kernel
theorem dX0_ready_16 : decode cX0_ready 16 = .ok (.iaload, 1) := by decide +kernel
theorem dX0_ready_17 : decode cX0_ready 17 = .ok (.ireturn, 1) := by decide +kernel
theorem dX0_peek_0 : decode cX0_peek 0 = .ok (.iload_n 1, 1) := by decide +kernel
theorem dX0_peek_1 : decode cX0_peek 1 = .ok (.invokestatic 105, 3) := by decide +kernel
theorem dX0_peek_4 : decode cX0_peek 4 = .ok (.ifCond .eq 5, 3) := by decide +kernel
theorem dX0_peek_7 : decode cX0_peek 7 = .ok (.iconst (-1), 1) := by decide +kernel
theorem dX0_peek_8 : decode cX0_peek 8 = .ok (.ireturn, 1) := by decide +kernel
theorem dX0_peek_9 : decode cX0_peek 9 = .ok (.iload_n 2, 1) := by decide +kernel
theorem dX0_peek_10 : decode cX0_peek 10 = .ok (.ifCond .lt 13, 3) := by decide +kernel
theorem dX0_peek_13 : decode cX0_peek 13 = .ok (.iload_n 2, 1) := by decide +kernel
theorem dX0_peek_14 : decode cX0_peek 14 = .ok (.aload_n 0, 1) := by decide +kernel
theorem dX0_peek_15 : decode cX0_peek 15 = .ok (.getfield 34, 3) := by decide +kernel
theorem dX0_peek_18 : decode cX0_peek 18 = .ok (.iload_n 1, 1) := by decide +kernel
theorem dX0_peek_19 : decode cX0_peek 19 = .ok (.iaload, 1) := by decide +kernel
theorem dX0_peek_20 : decode cX0_peek 20 = .ok (.if_icmp .lt 6, 3) := by decide +kernel
theorem dX0_peek_23 : decode cX0_peek 23 = .ok (.bipush (-5), 2) := by decide +kernel
theorem dX0_peek_25 : decode cX0_peek 25 = .ok (.ireturn, 1) := by decide +kernel
theorem dX0_peek_26 : decode cX0_peek 26 = .ok (.iconst 0, 1) := by decide +kernel
theorem dX0_peek_27 : decode cX0_peek 27 = .ok (.istore_n 3, 1) := by decide +kernel
theorem dX0_peek_28 : decode cX0_peek 28 = .ok (.iload_n 3, 1) := by decide +kernel
theorem dX0_peek_29 : decode cX0_peek 29 = .ok (.aload_n 0, 1) := by decide +kernel
theorem dX0_peek_30 : decode cX0_peek 30 = .ok (.getfield 34, 3) := by decide +kernel
theorem dX0_peek_33 : decode cX0_peek 33 = .ok (.iload_n 1, 1) := by decide +kernel
theorem dX0_peek_34 : decode cX0_peek 34 = .ok (.iaload, 1) := by decide +kernel
theorem dX0_peek_35 : decode cX0_peek 35 = .ok (.if_icmp .ge 79, 3) := by decide +kernel
theorem dX0_peek_38 : decode cX0_peek 38 = .ok (.aload_n 0, 1) := by decide +kernel
theorem dX0_peek_39 : decode cX0_peek 39 = .ok (.getfield 37, 3) := by decide +kernel
theorem dX0_peek_42 : decode cX0_peek 42 = .ok (.iload_n 1, 1) := by decide +kernel
theorem dX0_peek_43 : decode cX0_peek 43 = .ok (.bipush 40, 2) := by decide +kernel
theorem dX0_peek_45 : decode cX0_peek 45 = .ok (.imul, 1) := by decide +kernel
theorem dX0_peek_46 : decode cX0_peek 46 = .ok (.iload_n 3, 1) := by decide +kernel
theorem dX0_peek_47 : decode cX0_peek 47 = .ok (.iadd, 1) := by decide +kernel
theorem dX0_peek_48 : decode cX0_peek 48 = .ok (.iaload, 1) := by decide +kernel
theorem dX0_peek_49 : decode cX0_peek 49 = .ok (.istore 4, 2) := by decide +kernel
theorem dX0_peek_51 : decode cX0_peek 51 = .ok (.iload_n 3, 1) := by decide +kernel
theorem dX0_peek_52 : decode cX0_peek 52 = .ok (.istore 5, 2) := by decide +kernel
theorem dX0_peek_54 : decode cX0_peek 54 = .ok (.iload 5, 2) := by decide +kernel
theorem dX0_peek_56 : decode cX0_peek 56 = .ok (.ifCond .le 43, 3) := by decide +kernel
theorem dX0_peek_59 : decode cX0_peek 59 = .ok (.aload_n 0, 1) := by decide +kernel
theorem dX0_peek_60 : decode cX0_peek 60 = .ok (.iload 4, 2) := by decide +kernel
theorem dX0_peek_62 : decode cX0_peek 62 = .ok (.aload_n 0, 1) := by decide +kernel
theorem dX0_peek_63 : decode cX0_peek 63 = .ok (.getfield 58, 3) := by decide +kernel
theorem dX0_peek_66 : decode cX0_peek 66 = .ok (.iload 5, 2) := by decide +kernel
theorem dX0_peek_68 : decode cX0_peek 68 = .ok (.iconst 1, 1) := by decide +kernel
theorem dX0_peek_69 : decode cX0_peek 69 = .ok (.isub, 1) := by decide +kernel
theorem dX0_peek_70 : decode cX0_peek 70 = .ok (.iaload, 1) := by decide +kernel
theorem dX0_peek_71 : decode cX0_peek 71 = .ok (.invokevirtual 61, 3) := by decide +kernel
theorem dX0_peek_74 : decode cX0_peek 74 = .ok (.ifCond .eq 25, 3) := by decide +kernel
theorem dX0_peek_77 : decode cX0_peek 77 = .ok (.aload_n 0, 1) := by decide +kernel
theorem dX0_peek_78 : decode cX0_peek 78 = .ok (.getfield 58, 3) := by decide +kernel
theorem dX0_peek_81 : decode cX0_peek 81 = .ok (.iload 5, 2) := by decide +kernel
theorem dX0_peek_83 : decode cX0_peek 83 = .ok (.aload_n 0, 1) := by decide +kernel
theorem dX0_peek_84 : decode cX0_peek 84 = .ok (.getfield 58, 3) := by decide +kernel
theorem dX0_peek_87 : decode cX0_peek 87 = .ok (.iload 5, 2) := by decide +kernel
theorem dX0_peek_89 : decode cX0_peek 89 = .ok (.iconst 1, 1) := by decide +kernel
theorem dX0_peek_90 : decode cX0_peek 90 = .ok (.isub, 1) := by decide +kernel
theorem dX0_peek_91 : decode cX0_peek 91 = .ok (.iaload, 1) := by decide +kernel
theorem dX0_peek_92 : decode cX0_peek 92 = .ok (.iastore, 1) := by decide +kernel
theorem dX0_peek_93 : decode cX0_peek 93 = .ok (.iinc 5 (-1), 3) := by decide +kernel
theorem dX0_peek_96 : decode cX0_peek 96 = .ok (.goto (-42), 3) := by decide +kernel
theorem dX0_peek_99 : decode cX0_peek 99 = .ok (.aload_n 0, 1) := by decide +kernel
theorem dX0_peek_100 : decode cX0_peek 100 = .ok (.getfield 58, 3) := by decide +kernel
theorem dX0_peek_103 : decode cX0_peek 103 = .ok (.iload 5, 2) := by decide +kernel
theorem dX0_peek_105 : decode cX0_peek 105 = .ok (.iload 4, 2) := by decide +kernel
theorem dX0_peek_107 : decode cX0_peek 107 = .ok (.iastore, 1) := by decide +kernel
theorem dX0_peek_108 : decode cX0_peek 108 = .ok (.iinc 3 1, 3) := by decide +kernel
theorem dX0_peek_111 : decode cX0_peek 111 = .ok (.goto (-83), 3) := by decide +kernel
theorem dX0_peek_114 : decode cX0_peek 114 = .ok (.aload_n 0, 1) := by decide +kernel
theorem dX0_peek_115 : decode cX0_peek 115 = .ok (.getfield 58, 3) := by decide +kernel
theorem dX0_peek_118 : decode cX0_peek 118 = .ok (.iload_n 2, 1) := by decide +kernel
theorem dX0_peek_119 : decode cX0_peek 119 = .ok (.iaload, 1) := by decide +kernel
theorem dX0_peek_120 : decode cX0_peek 120 = .ok (.ireturn, 1) := by decide +kernel
theorem dX0_nextDeadline_0 : decode cX0_nextDeadline 0 = .ok (.aload_n 0, 1) := by decide +kernel
theorem dX0_nextDeadline_1 : decode cX0_nextDeadline 1 = .ok (.getfield 93, 3) := by decide +kernel
theorem dX0_nextDeadline_4 : decode cX0_nextDeadline 4 = .ok (.ifCond .ne 8, 3) := by decide +kernel
theorem dX0_nextDeadline_7 : decode cX0_nextDeadline 7 = .ok (.bipush (-5), 2) := by decide +kernel
theorem dX0_nextDeadline_9 : decode cX0_nextDeadline 9 = .ok (.goto 14, 3) := by decide +kernel
theorem dX0_nextDeadline_12 : decode cX0_nextDeadline 12 = .ok (.aload_n 0, 1) := by decide +kernel
theorem dX0_nextDeadline_13 : decode cX0_nextDeadline 13 = .ok (.getfield 28, 3) := by decide +kernel
theorem dX0_nextDeadline_16 : decode cX0_nextDeadline 16 = .ok (.aload_n 0, 1) := by decide +kernel
theorem dX0_nextDeadline_17 : decode cX0_nextDeadline 17 = .ok (.getfield 49, 3) := by decide +kernel
theorem dX0_nextDeadline_20 : decode cX0_nextDeadline 20 = .ok (.iconst 0, 1) := by decide +kernel
theorem dX0_nextDeadline_21 : decode cX0_nextDeadline 21 = .ok (.iaload, 1) := by decide +kernel
theorem dX0_nextDeadline_22 : decode cX0_nextDeadline 22 = .ok (.iaload, 1) := by decide +kernel
theorem dX0_nextDeadline_23 : decode cX0_nextDeadline 23 = .ok (.ireturn, 1) := by decide +kernel
theorem dX0_sum_0 : decode cX0_sum 0 = .ok (.iconst 0, 1) := by decide +kernel
theorem dX0_sum_1 : decode cX0_sum 1 = .ok (.istore_n 2, 1) := by decide +kernel
theorem dX0_sum_2 : decode cX0_sum 2 = .ok (.iconst 0, 1) := by decide +kernel
theorem dX0_sum_3 : decode cX0_sum 3 = .ok (.istore_n 3, 1) := by decide +kernel
theorem dX0_sum_4 : decode cX0_sum 4 = .ok (.iload_n 3, 1) := by decide +kernel
theorem dX0_sum_5 : decode cX0_sum 5 = .ok (.aload_n 0, 1) := by decide +kernel
theorem dX0_sum_6 : decode cX0_sum 6 = .ok (.getfield 102, 3) := by decide +kernel
theorem dX0_sum_9 : decode cX0_sum 9 = .ok (.if_icmp .ge 28, 3) := by decide +kernel
theorem dX0_sum_12 : decode cX0_sum 12 = .ok (.aload_n 0, 1) := by decide +kernel
theorem dX0_sum_13 : decode cX0_sum 13 = .ok (.getfield 22, 3) := by decide +kernel
theorem dX0_sum_16 : decode cX0_sum 16 = .ok (.iload_n 3, 1) := by decide +kernel
theorem dX0_sum_17 : decode cX0_sum 17 = .ok (.iaload, 1) := by decide +kernel
theorem dX0_sum_18 : decode cX0_sum 18 = .ok (.iload_n 1, 1) := by decide +kernel
theorem dX0_sum_19 : decode cX0_sum 19 = .ok (.if_icmp .ne 12, 3) := by decide +kernel
theorem dX0_sum_22 : decode cX0_sum 22 = .ok (.iload_n 2, 1) := by decide +kernel
theorem dX0_sum_23 : decode cX0_sum 23 = .ok (.aload_n 0, 1) := by decide +kernel
theorem dX0_sum_24 : decode cX0_sum 24 = .ok (.getfield 13, 3) := by decide +kernel
theorem dX0_sum_27 : decode cX0_sum 27 = .ok (.iload_n 3, 1) := by decide +kernel
theorem dX0_sum_28 : decode cX0_sum 28 = .ok (.iaload, 1) := by decide +kernel
theorem dX0_sum_29 : decode cX0_sum 29 = .ok (.iadd, 1) := by decide +kernel
theorem dX0_sum_30 : decode cX0_sum 30 = .ok (.istore_n 2, 1) := by decide +kernel
theorem dX0_sum_31 : decode cX0_sum 31 = .ok (.iinc 3 1, 3) := by decide +kernel
theorem dX0_sum_34 : decode cX0_sum 34 = .ok (.goto (-30), 3) := by decide +kernel
theorem dX0_sum_37 : decode cX0_sum 37 = .ok (.iload_n 2, 1) := by decide +kernel
theorem dX0_sum_38 : decode cX0_sum 38 = .ok (.ireturn, 1) := by decide +kernel
end
section
/-! LeasedMessagesModel -/
set_option maxRecDepth 100000
def RX1 : String := "LeasedMessagesModel"
def TX1 : u_T := fun k => match k with
  | 0 => ("LeasedMessagesModel", "messages", "I", false)
  | 1 => ("LeasedMessagesModel", "queues", "[I", true)
  | 2 => ("LeasedMessagesModel", "bodies", "[I", true)
  | 3 => ("LeasedMessagesModel", "priorities", "[I", true)
  | 4 => ("LeasedMessagesModel", "states", "[I", true)
  | 5 => ("LeasedMessagesModel", "deliveries", "[I", true)
  | 6 => ("LeasedMessagesModel", "holders", "[I", true)
  | 7 => ("LeasedMessagesModel", "deadlines", "[I", true)
  | 8 => ("LeasedMessagesModel", "ends", "[I", true)
  | 9 => ("LeasedMessagesModel", "patience", "[I", true)
  | 10 => ("LeasedMessagesModel", "limits", "[I", true)
  | _ => ("LeasedMessagesModel", "time", "I", false)
def tyX1 : Nat → FieldType := fun k => match k with
  | 0 => .int
  | 1 => .array .int
  | 2 => .array .int
  | 3 => .array .int
  | 4 => .array .int
  | 5 => .array .int
  | 6 => .array .int
  | 7 => .array .int
  | 8 => .array .int
  | 9 => .array .int
  | 10 => .array .int
  | _ => .int
abbrev wsX10 : List Cond := u_ws RX1 TX1 12
theorem nmX1 : ∀ a, a < 12 → ∀ b, b < 12 → a ≠ b → (TX1 a).2.1 ≠ (TX1 b).2.1 := by decide +kernel
theorem tyX1_ok : ∀ k, k < 12 → parseFieldDescriptor (TX1 k).2.2.1 = some (tyX1 k) := by decide +kernel
abbrev cX1_init : ByteArray := prog_3_method_1_code
def yX1_init : MethodName := ⟨RX1, "<init>", "()V"⟩
abbrev cX1_publish : ByteArray := prog_3_method_3_code
def yX1_publish : MethodName := ⟨RX1, "publish", "(IIII)I"⟩
abbrev cX1_three : ByteArray := prog_3_method_2_code
def yX1_three : MethodName := ⟨RX1, "three", "(I)Z"⟩
abbrev cX1_take : ByteArray := prog_3_method_5_code
def yX1_take : MethodName := ⟨RX1, "take", "(II)I"⟩
abbrev cX1_out : ByteArray := prog_3_method_4_code
def yX1_out : MethodName := ⟨RX1, "out", "(I)I"⟩
abbrev cX1_peek : ByteArray := prog_3_method_20_code
def yX1_peek : MethodName := ⟨RX1, "peek", "(II)I"⟩
abbrev cX1_isReady : ByteArray := prog_3_method_17_code
def yX1_isReady : MethodName := ⟨RX1, "isReady", "(II)Z"⟩
abbrev cX1_before : ByteArray := prog_3_method_19_code
def yX1_before : MethodName := ⟨RX1, "before", "(II)I"⟩
abbrev cX1_acknowledge : ByteArray := prog_3_method_7_code
def yX1_acknowledge : MethodName := ⟨RX1, "acknowledge", "(II)I"⟩
abbrev cX1_refusal : ByteArray := prog_3_method_6_code
def yX1_refusal : MethodName := ⟨RX1, "refusal", "(II)I"⟩
abbrev cX1_refuse : ByteArray := prog_3_method_9_code
def yX1_refuse : MethodName := ⟨RX1, "refuse", "(II)I"⟩
abbrev cX1_comeBack : ByteArray := prog_3_method_8_code
def yX1_comeBack : MethodName := ⟨RX1, "comeBack", "(I)V"⟩
abbrev cX1_lose : ByteArray := prog_3_method_10_code
def yX1_lose : MethodName := ⟨RX1, "lose", "(I)I"⟩
abbrev cX1_renew : ByteArray := prog_3_method_11_code
def yX1_renew : MethodName := ⟨RX1, "renew", "(II)I"⟩
abbrev cX1_pass : ByteArray := prog_3_method_12_code
def yX1_pass : MethodName := ⟨RX1, "pass", "(I)I"⟩
abbrev cX1_tune : ByteArray := prog_3_method_13_code
def yX1_tune : MethodName := ⟨RX1, "tune", "(III)I"⟩
abbrev cX1_revive : ByteArray := prog_3_method_14_code
def yX1_revive : MethodName := ⟨RX1, "revive", "(I)I"⟩
abbrev cX1_clear : ByteArray := prog_3_method_15_code
def yX1_clear : MethodName := ⟨RX1, "clear", "()V"⟩
abbrev cX1_state : ByteArray := prog_3_method_16_code
def yX1_state : MethodName := ⟨RX1, "state", "(I)I"⟩
abbrev cX1_ready : ByteArray := prog_3_method_18_code
def yX1_ready : MethodName := ⟨RX1, "ready", "(I)I"⟩
abbrev cX1_nextDeadline : ByteArray := prog_3_method_21_code
def yX1_nextDeadline : MethodName := ⟨RX1, "nextDeadline", "()I"⟩
abbrev cX1_sum : ByteArray := prog_3_method_22_code
def yX1_sum : MethodName := ⟨RX1, "sum", "(I)I"⟩
theorem q23 : (Jvm.Cond.initialized "LeasedMessagesModel") ∈ lw_all := lw_g (lw_at lw_m1 2 rfl) rfl
theorem q224 : (Jvm.Cond.instantiable "LeasedMessagesModel" (12 : Nat)) ∈ lw_all := lw_g (lw_at lw_m1 203 rfl) rfl
theorem q226 : (Jvm.Cond.instanceMethod ({ cls := "LeasedMessagesModel", name := "<init>", desc := "()V" } : Jvm.MethodName)) ∈ lw_all := lw_g (lw_at lw_m1 205 rfl) rfl
theorem q227 : (Jvm.Cond.code ({ cls := "LeasedMessagesModel", name := "<init>", desc := "()V" } : Jvm.MethodName) prog_3_method_1_code (2 : Nat) (Option.none : Option Jvm.ClassFile.FieldType)) ∈ lw_all := lw_g (lw_at lw_m1 206 rfl) rfl
theorem q228 : (Jvm.Cond.methodLink "LeasedMessagesModel" (1 : Nat) ({ cls := "java/lang/Object", name := "<init>", desc := "()V" } : Jvm.MethodName)) ∈ lw_all := lw_g (lw_at lw_m1 207 rfl) rfl
theorem q229 : (Jvm.Cond.fieldLink "LeasedMessagesModel" (44 : Nat) "LeasedMessagesModel" "messages" "I") ∈ lw_all := lw_g (lw_at lw_m1 208 rfl) rfl
theorem q230 : (Jvm.Cond.fieldLink "LeasedMessagesModel" (7 : Nat) "LeasedMessagesModel" "queues" "[I") ∈ lw_all := lw_g (lw_at lw_m1 209 rfl) rfl
theorem q231 : (Jvm.Cond.fieldLink "LeasedMessagesModel" (13 : Nat) "LeasedMessagesModel" "bodies" "[I") ∈ lw_all := lw_g (lw_at lw_m1 210 rfl) rfl
theorem q232 : (Jvm.Cond.fieldLink "LeasedMessagesModel" (16 : Nat) "LeasedMessagesModel" "priorities" "[I") ∈ lw_all := lw_g (lw_at lw_m1 211 rfl) rfl
theorem q233 : (Jvm.Cond.fieldLink "LeasedMessagesModel" (19 : Nat) "LeasedMessagesModel" "states" "[I") ∈ lw_all := lw_g (lw_at lw_m1 212 rfl) rfl
theorem q234 : (Jvm.Cond.fieldLink "LeasedMessagesModel" (22 : Nat) "LeasedMessagesModel" "deliveries" "[I") ∈ lw_all := lw_g (lw_at lw_m1 213 rfl) rfl
theorem q235 : (Jvm.Cond.fieldLink "LeasedMessagesModel" (25 : Nat) "LeasedMessagesModel" "holders" "[I") ∈ lw_all := lw_g (lw_at lw_m1 214 rfl) rfl
theorem q236 : (Jvm.Cond.fieldLink "LeasedMessagesModel" (28 : Nat) "LeasedMessagesModel" "deadlines" "[I") ∈ lw_all := lw_g (lw_at lw_m1 215 rfl) rfl
theorem q237 : (Jvm.Cond.fieldLink "LeasedMessagesModel" (31 : Nat) "LeasedMessagesModel" "ends" "[I") ∈ lw_all := lw_g (lw_at lw_m1 216 rfl) rfl
theorem q238 : (Jvm.Cond.fieldLink "LeasedMessagesModel" (34 : Nat) "LeasedMessagesModel" "patience" "[I") ∈ lw_all := lw_g (lw_at lw_m1 217 rfl) rfl
theorem q239 : (Jvm.Cond.fieldLink "LeasedMessagesModel" (37 : Nat) "LeasedMessagesModel" "limits" "[I") ∈ lw_all := lw_g (lw_at lw_m1 218 rfl) rfl
theorem q240 : (Jvm.Cond.fieldLink "LeasedMessagesModel" (48 : Nat) "LeasedMessagesModel" "time" "I") ∈ lw_all := lw_g (lw_at lw_m1 219 rfl) rfl
theorem q241 : (Jvm.Cond.lays "LeasedMessagesModel" "LeasedMessagesModel" "messages" "I") ∈ lw_all := lw_g (lw_at lw_m1 220 rfl) rfl
theorem q242 : (Jvm.Cond.soleField "LeasedMessagesModel" "messages") ∈ lw_all := lw_g (lw_at lw_m1 221 rfl) rfl
theorem q243 : (Jvm.Cond.laysFinal "LeasedMessagesModel" "LeasedMessagesModel" "queues" "[I") ∈ lw_all := lw_g (lw_at lw_m1 222 rfl) rfl
theorem q244 : (Jvm.Cond.soleField "LeasedMessagesModel" "queues") ∈ lw_all := lw_g (lw_at lw_m1 223 rfl) rfl
theorem q245 : (Jvm.Cond.laysFinal "LeasedMessagesModel" "LeasedMessagesModel" "bodies" "[I") ∈ lw_all := lw_g (lw_at lw_m1 224 rfl) rfl
theorem q246 : (Jvm.Cond.soleField "LeasedMessagesModel" "bodies") ∈ lw_all := lw_g (lw_at lw_m1 225 rfl) rfl
theorem q247 : (Jvm.Cond.laysFinal "LeasedMessagesModel" "LeasedMessagesModel" "priorities" "[I") ∈ lw_all := lw_g (lw_at lw_m1 226 rfl) rfl
theorem q248 : (Jvm.Cond.soleField "LeasedMessagesModel" "priorities") ∈ lw_all := lw_g (lw_at lw_m1 227 rfl) rfl
theorem q249 : (Jvm.Cond.laysFinal "LeasedMessagesModel" "LeasedMessagesModel" "states" "[I") ∈ lw_all := lw_g (lw_at lw_m1 228 rfl) rfl
theorem q250 : (Jvm.Cond.soleField "LeasedMessagesModel" "states") ∈ lw_all := lw_g (lw_at lw_m1 229 rfl) rfl
theorem q251 : (Jvm.Cond.laysFinal "LeasedMessagesModel" "LeasedMessagesModel" "deliveries" "[I") ∈ lw_all := lw_g (lw_at lw_m1 230 rfl) rfl
theorem q252 : (Jvm.Cond.soleField "LeasedMessagesModel" "deliveries") ∈ lw_all := lw_g (lw_at lw_m1 231 rfl) rfl
theorem q253 : (Jvm.Cond.laysFinal "LeasedMessagesModel" "LeasedMessagesModel" "holders" "[I") ∈ lw_all := lw_g (lw_at lw_m1 232 rfl) rfl
theorem q254 : (Jvm.Cond.soleField "LeasedMessagesModel" "holders") ∈ lw_all := lw_g (lw_at lw_m1 233 rfl) rfl
theorem q255 : (Jvm.Cond.laysFinal "LeasedMessagesModel" "LeasedMessagesModel" "deadlines" "[I") ∈ lw_all := lw_g (lw_at lw_m1 234 rfl) rfl
theorem q256 : (Jvm.Cond.soleField "LeasedMessagesModel" "deadlines") ∈ lw_all := lw_g (lw_at lw_m1 235 rfl) rfl
theorem q257 : (Jvm.Cond.laysFinal "LeasedMessagesModel" "LeasedMessagesModel" "ends" "[I") ∈ lw_all := lw_g (lw_at lw_m1 236 rfl) rfl
theorem q258 : (Jvm.Cond.soleField "LeasedMessagesModel" "ends") ∈ lw_all := lw_g (lw_at lw_m1 237 rfl) rfl
theorem q259 : (Jvm.Cond.laysFinal "LeasedMessagesModel" "LeasedMessagesModel" "patience" "[I") ∈ lw_all := lw_g (lw_at lw_m1 238 rfl) rfl
theorem q260 : (Jvm.Cond.soleField "LeasedMessagesModel" "patience") ∈ lw_all := lw_g (lw_at lw_m1 239 rfl) rfl
theorem q261 : (Jvm.Cond.laysFinal "LeasedMessagesModel" "LeasedMessagesModel" "limits" "[I") ∈ lw_all := lw_g (lw_at lw_m2 0 rfl) rfl
theorem q262 : (Jvm.Cond.soleField "LeasedMessagesModel" "limits") ∈ lw_all := lw_g (lw_at lw_m2 1 rfl) rfl
theorem q263 : (Jvm.Cond.lays "LeasedMessagesModel" "LeasedMessagesModel" "time" "I") ∈ lw_all := lw_g (lw_at lw_m2 2 rfl) rfl
theorem q264 : (Jvm.Cond.soleField "LeasedMessagesModel" "time") ∈ lw_all := lw_g (lw_at lw_m2 3 rfl) rfl
theorem q265 : (Jvm.Cond.superclass "LeasedMessagesModel" "java/lang/Object") ∈ lw_all := lw_g (lw_at lw_m2 4 rfl) rfl
theorem q267 : (Jvm.Cond.instanceMethod ({ cls := "LeasedMessagesModel", name := "publish", desc := "(IIII)I" } : Jvm.MethodName)) ∈ lw_all := lw_g (lw_at lw_m2 6 rfl) rfl
theorem q268 : (Jvm.Cond.selects "LeasedMessagesModel" ({ cls := "LeasedMessagesModel", name := "publish", desc := "(IIII)I" } : Jvm.MethodName) ({ cls := "LeasedMessagesModel", name := "publish", desc := "(IIII)I" } : Jvm.MethodName)) ∈ lw_all := lw_g (lw_at lw_m2 7 rfl) rfl
theorem q269 : (Jvm.Cond.code ({ cls := "LeasedMessagesModel", name := "publish", desc := "(IIII)I" } : Jvm.MethodName) prog_3_method_3_code (5 : Nat) (Option.some Jvm.ClassFile.FieldType.int)) ∈ lw_all := lw_g (lw_at lw_m2 8 rfl) rfl
theorem q270 : (Jvm.Cond.methodLink "LeasedMessagesModel" (40 : Nat) ({ cls := "LeasedMessagesModel", name := "three", desc := "(I)Z" } : Jvm.MethodName)) ∈ lw_all := lw_g (lw_at lw_m2 9 rfl) rfl
theorem q271 : (Jvm.Cond.privateMethod ({ cls := "LeasedMessagesModel", name := "three", desc := "(I)Z" } : Jvm.MethodName)) ∈ lw_tbl := lw_at lw_m2 10 rfl
theorem q272 : (Jvm.Cond.instanceMethod ({ cls := "LeasedMessagesModel", name := "three", desc := "(I)Z" } : Jvm.MethodName)) ∈ lw_all := lw_g (lw_at lw_m2 11 rfl) rfl
theorem q273 : (Jvm.Cond.code ({ cls := "LeasedMessagesModel", name := "three", desc := "(I)Z" } : Jvm.MethodName) prog_3_method_2_code (2 : Nat) (Option.some Jvm.ClassFile.FieldType.boolean)) ∈ lw_all := lw_g (lw_at lw_m2 12 rfl) rfl
theorem q275 : (Jvm.Cond.instanceMethod ({ cls := "LeasedMessagesModel", name := "take", desc := "(II)I" } : Jvm.MethodName)) ∈ lw_all := lw_g (lw_at lw_m2 14 rfl) rfl
theorem q276 : (Jvm.Cond.selects "LeasedMessagesModel" ({ cls := "LeasedMessagesModel", name := "take", desc := "(II)I" } : Jvm.MethodName) ({ cls := "LeasedMessagesModel", name := "take", desc := "(II)I" } : Jvm.MethodName)) ∈ lw_all := lw_g (lw_at lw_m2 15 rfl) rfl
theorem q277 : (Jvm.Cond.code ({ cls := "LeasedMessagesModel", name := "take", desc := "(II)I" } : Jvm.MethodName) prog_3_method_5_code (4 : Nat) (Option.some Jvm.ClassFile.FieldType.int)) ∈ lw_all := lw_g (lw_at lw_m2 16 rfl) rfl
theorem q278 : (Jvm.Cond.methodLink "LeasedMessagesModel" (51 : Nat) ({ cls := "LeasedMessagesModel", name := "out", desc := "(I)I" } : Jvm.MethodName)) ∈ lw_all := lw_g (lw_at lw_m2 17 rfl) rfl
theorem q279 : (Jvm.Cond.privateMethod ({ cls := "LeasedMessagesModel", name := "out", desc := "(I)I" } : Jvm.MethodName)) ∈ lw_tbl := lw_at lw_m2 18 rfl
theorem q280 : (Jvm.Cond.instanceMethod ({ cls := "LeasedMessagesModel", name := "out", desc := "(I)I" } : Jvm.MethodName)) ∈ lw_all := lw_g (lw_at lw_m2 19 rfl) rfl
theorem q281 : (Jvm.Cond.code ({ cls := "LeasedMessagesModel", name := "out", desc := "(I)I" } : Jvm.MethodName) prog_3_method_4_code (4 : Nat) (Option.some Jvm.ClassFile.FieldType.int)) ∈ lw_all := lw_g (lw_at lw_m2 20 rfl) rfl
theorem q282 : (Jvm.Cond.methodLink "LeasedMessagesModel" (55 : Nat) ({ cls := "LeasedMessagesModel", name := "peek", desc := "(II)I" } : Jvm.MethodName)) ∈ lw_all := lw_g (lw_at lw_m2 21 rfl) rfl
theorem q283 : (Jvm.Cond.instanceMethod ({ cls := "LeasedMessagesModel", name := "peek", desc := "(II)I" } : Jvm.MethodName)) ∈ lw_all := lw_g (lw_at lw_m2 22 rfl) rfl
theorem q284 : (Jvm.Cond.selects "LeasedMessagesModel" ({ cls := "LeasedMessagesModel", name := "peek", desc := "(II)I" } : Jvm.MethodName) ({ cls := "LeasedMessagesModel", name := "peek", desc := "(II)I" } : Jvm.MethodName)) ∈ lw_all := lw_g (lw_at lw_m2 23 rfl) rfl
theorem q285 : (Jvm.Cond.code ({ cls := "LeasedMessagesModel", name := "peek", desc := "(II)I" } : Jvm.MethodName) prog_3_method_20_code (4 : Nat) (Option.some Jvm.ClassFile.FieldType.int)) ∈ lw_all := lw_g (lw_at lw_m2 24 rfl) rfl
theorem q286 : (Jvm.Cond.methodLink "LeasedMessagesModel" (66 : Nat) ({ cls := "LeasedMessagesModel", name := "isReady", desc := "(II)Z" } : Jvm.MethodName)) ∈ lw_all := lw_g (lw_at lw_m2 25 rfl) rfl
theorem q287 : (Jvm.Cond.privateMethod ({ cls := "LeasedMessagesModel", name := "isReady", desc := "(II)Z" } : Jvm.MethodName)) ∈ lw_tbl := lw_at lw_m2 26 rfl
theorem q288 : (Jvm.Cond.instanceMethod ({ cls := "LeasedMessagesModel", name := "isReady", desc := "(II)Z" } : Jvm.MethodName)) ∈ lw_all := lw_g (lw_at lw_m2 27 rfl) rfl
theorem q289 : (Jvm.Cond.code ({ cls := "LeasedMessagesModel", name := "isReady", desc := "(II)Z" } : Jvm.MethodName) prog_3_method_17_code (3 : Nat) (Option.some Jvm.ClassFile.FieldType.boolean)) ∈ lw_all := lw_g (lw_at lw_m2 28 rfl) rfl
theorem q290 : (Jvm.Cond.methodLink "LeasedMessagesModel" (70 : Nat) ({ cls := "LeasedMessagesModel", name := "before", desc := "(II)I" } : Jvm.MethodName)) ∈ lw_all := lw_g (lw_at lw_m2 29 rfl) rfl
theorem q291 : (Jvm.Cond.privateMethod ({ cls := "LeasedMessagesModel", name := "before", desc := "(II)I" } : Jvm.MethodName)) ∈ lw_tbl := lw_at lw_m2 30 rfl
theorem q292 : (Jvm.Cond.instanceMethod ({ cls := "LeasedMessagesModel", name := "before", desc := "(II)I" } : Jvm.MethodName)) ∈ lw_all := lw_g (lw_at lw_m2 31 rfl) rfl
theorem q293 : (Jvm.Cond.code ({ cls := "LeasedMessagesModel", name := "before", desc := "(II)I" } : Jvm.MethodName) prog_3_method_19_code (6 : Nat) (Option.some Jvm.ClassFile.FieldType.int)) ∈ lw_all := lw_g (lw_at lw_m2 32 rfl) rfl
theorem q295 : (Jvm.Cond.instanceMethod ({ cls := "LeasedMessagesModel", name := "acknowledge", desc := "(II)I" } : Jvm.MethodName)) ∈ lw_all := lw_g (lw_at lw_m2 34 rfl) rfl
theorem q296 : (Jvm.Cond.selects "LeasedMessagesModel" ({ cls := "LeasedMessagesModel", name := "acknowledge", desc := "(II)I" } : Jvm.MethodName) ({ cls := "LeasedMessagesModel", name := "acknowledge", desc := "(II)I" } : Jvm.MethodName)) ∈ lw_all := lw_g (lw_at lw_m2 35 rfl) rfl
theorem q297 : (Jvm.Cond.code ({ cls := "LeasedMessagesModel", name := "acknowledge", desc := "(II)I" } : Jvm.MethodName) prog_3_method_7_code (4 : Nat) (Option.some Jvm.ClassFile.FieldType.int)) ∈ lw_all := lw_g (lw_at lw_m2 36 rfl) rfl
theorem q298 : (Jvm.Cond.methodLink "LeasedMessagesModel" (59 : Nat) ({ cls := "LeasedMessagesModel", name := "refusal", desc := "(II)I" } : Jvm.MethodName)) ∈ lw_all := lw_g (lw_at lw_m2 37 rfl) rfl
theorem q299 : (Jvm.Cond.privateMethod ({ cls := "LeasedMessagesModel", name := "refusal", desc := "(II)I" } : Jvm.MethodName)) ∈ lw_tbl := lw_at lw_m2 38 rfl
theorem q300 : (Jvm.Cond.instanceMethod ({ cls := "LeasedMessagesModel", name := "refusal", desc := "(II)I" } : Jvm.MethodName)) ∈ lw_all := lw_g (lw_at lw_m2 39 rfl) rfl
theorem q301 : (Jvm.Cond.code ({ cls := "LeasedMessagesModel", name := "refusal", desc := "(II)I" } : Jvm.MethodName) prog_3_method_6_code (4 : Nat) (Option.some Jvm.ClassFile.FieldType.int)) ∈ lw_all := lw_g (lw_at lw_m2 40 rfl) rfl
theorem q303 : (Jvm.Cond.instanceMethod ({ cls := "LeasedMessagesModel", name := "refuse", desc := "(II)I" } : Jvm.MethodName)) ∈ lw_all := lw_g (lw_at lw_m2 42 rfl) rfl
theorem q304 : (Jvm.Cond.selects "LeasedMessagesModel" ({ cls := "LeasedMessagesModel", name := "refuse", desc := "(II)I" } : Jvm.MethodName) ({ cls := "LeasedMessagesModel", name := "refuse", desc := "(II)I" } : Jvm.MethodName)) ∈ lw_all := lw_g (lw_at lw_m2 43 rfl) rfl
theorem q305 : (Jvm.Cond.code ({ cls := "LeasedMessagesModel", name := "refuse", desc := "(II)I" } : Jvm.MethodName) prog_3_method_9_code (4 : Nat) (Option.some Jvm.ClassFile.FieldType.int)) ∈ lw_all := lw_g (lw_at lw_m2 44 rfl) rfl
theorem q306 : (Jvm.Cond.methodLink "LeasedMessagesModel" (62 : Nat) ({ cls := "LeasedMessagesModel", name := "comeBack", desc := "(I)V" } : Jvm.MethodName)) ∈ lw_all := lw_g (lw_at lw_m2 45 rfl) rfl
theorem q307 : (Jvm.Cond.privateMethod ({ cls := "LeasedMessagesModel", name := "comeBack", desc := "(I)V" } : Jvm.MethodName)) ∈ lw_tbl := lw_at lw_m2 46 rfl
theorem q308 : (Jvm.Cond.instanceMethod ({ cls := "LeasedMessagesModel", name := "comeBack", desc := "(I)V" } : Jvm.MethodName)) ∈ lw_all := lw_g (lw_at lw_m2 47 rfl) rfl
theorem q309 : (Jvm.Cond.code ({ cls := "LeasedMessagesModel", name := "comeBack", desc := "(I)V" } : Jvm.MethodName) prog_3_method_8_code (2 : Nat) (Option.none : Option Jvm.ClassFile.FieldType)) ∈ lw_all := lw_g (lw_at lw_m2 48 rfl) rfl
theorem q311 : (Jvm.Cond.instanceMethod ({ cls := "LeasedMessagesModel", name := "lose", desc := "(I)I" } : Jvm.MethodName)) ∈ lw_all := lw_g (lw_at lw_m2 50 rfl) rfl
theorem q312 : (Jvm.Cond.selects "LeasedMessagesModel" ({ cls := "LeasedMessagesModel", name := "lose", desc := "(I)I" } : Jvm.MethodName) ({ cls := "LeasedMessagesModel", name := "lose", desc := "(I)I" } : Jvm.MethodName)) ∈ lw_all := lw_g (lw_at lw_m2 51 rfl) rfl
theorem q313 : (Jvm.Cond.code ({ cls := "LeasedMessagesModel", name := "lose", desc := "(I)I" } : Jvm.MethodName) prog_3_method_10_code (4 : Nat) (Option.some Jvm.ClassFile.FieldType.int)) ∈ lw_all := lw_g (lw_at lw_m2 52 rfl) rfl
theorem q315 : (Jvm.Cond.instanceMethod ({ cls := "LeasedMessagesModel", name := "renew", desc := "(II)I" } : Jvm.MethodName)) ∈ lw_all := lw_g (lw_at lw_m2 54 rfl) rfl
theorem q316 : (Jvm.Cond.selects "LeasedMessagesModel" ({ cls := "LeasedMessagesModel", name := "renew", desc := "(II)I" } : Jvm.MethodName) ({ cls := "LeasedMessagesModel", name := "renew", desc := "(II)I" } : Jvm.MethodName)) ∈ lw_all := lw_g (lw_at lw_m2 55 rfl) rfl
theorem q317 : (Jvm.Cond.code ({ cls := "LeasedMessagesModel", name := "renew", desc := "(II)I" } : Jvm.MethodName) prog_3_method_11_code (4 : Nat) (Option.some Jvm.ClassFile.FieldType.int)) ∈ lw_all := lw_g (lw_at lw_m2 56 rfl) rfl
theorem q319 : (Jvm.Cond.instanceMethod ({ cls := "LeasedMessagesModel", name := "pass", desc := "(I)I" } : Jvm.MethodName)) ∈ lw_all := lw_g (lw_at lw_m2 58 rfl) rfl
theorem q320 : (Jvm.Cond.selects "LeasedMessagesModel" ({ cls := "LeasedMessagesModel", name := "pass", desc := "(I)I" } : Jvm.MethodName) ({ cls := "LeasedMessagesModel", name := "pass", desc := "(I)I" } : Jvm.MethodName)) ∈ lw_all := lw_g (lw_at lw_m2 59 rfl) rfl
theorem q321 : (Jvm.Cond.code ({ cls := "LeasedMessagesModel", name := "pass", desc := "(I)I" } : Jvm.MethodName) prog_3_method_12_code (4 : Nat) (Option.some Jvm.ClassFile.FieldType.int)) ∈ lw_all := lw_g (lw_at lw_m2 60 rfl) rfl
theorem q323 : (Jvm.Cond.instanceMethod ({ cls := "LeasedMessagesModel", name := "tune", desc := "(III)I" } : Jvm.MethodName)) ∈ lw_all := lw_g (lw_at lw_m2 62 rfl) rfl
theorem q324 : (Jvm.Cond.selects "LeasedMessagesModel" ({ cls := "LeasedMessagesModel", name := "tune", desc := "(III)I" } : Jvm.MethodName) ({ cls := "LeasedMessagesModel", name := "tune", desc := "(III)I" } : Jvm.MethodName)) ∈ lw_all := lw_g (lw_at lw_m2 63 rfl) rfl
theorem q325 : (Jvm.Cond.code ({ cls := "LeasedMessagesModel", name := "tune", desc := "(III)I" } : Jvm.MethodName) prog_3_method_13_code (4 : Nat) (Option.some Jvm.ClassFile.FieldType.int)) ∈ lw_all := lw_g (lw_at lw_m2 64 rfl) rfl
theorem q327 : (Jvm.Cond.instanceMethod ({ cls := "LeasedMessagesModel", name := "revive", desc := "(I)I" } : Jvm.MethodName)) ∈ lw_all := lw_g (lw_at lw_m2 66 rfl) rfl
theorem q328 : (Jvm.Cond.selects "LeasedMessagesModel" ({ cls := "LeasedMessagesModel", name := "revive", desc := "(I)I" } : Jvm.MethodName) ({ cls := "LeasedMessagesModel", name := "revive", desc := "(I)I" } : Jvm.MethodName)) ∈ lw_all := lw_g (lw_at lw_m2 67 rfl) rfl
theorem q329 : (Jvm.Cond.code ({ cls := "LeasedMessagesModel", name := "revive", desc := "(I)I" } : Jvm.MethodName) prog_3_method_14_code (4 : Nat) (Option.some Jvm.ClassFile.FieldType.int)) ∈ lw_all := lw_g (lw_at lw_m2 68 rfl) rfl
theorem q331 : (Jvm.Cond.instanceMethod ({ cls := "LeasedMessagesModel", name := "clear", desc := "()V" } : Jvm.MethodName)) ∈ lw_all := lw_g (lw_at lw_m2 70 rfl) rfl
theorem q332 : (Jvm.Cond.selects "LeasedMessagesModel" ({ cls := "LeasedMessagesModel", name := "clear", desc := "()V" } : Jvm.MethodName) ({ cls := "LeasedMessagesModel", name := "clear", desc := "()V" } : Jvm.MethodName)) ∈ lw_all := lw_g (lw_at lw_m2 71 rfl) rfl
theorem q333 : (Jvm.Cond.code ({ cls := "LeasedMessagesModel", name := "clear", desc := "()V" } : Jvm.MethodName) prog_3_method_15_code (1 : Nat) (Option.none : Option Jvm.ClassFile.FieldType)) ∈ lw_all := lw_g (lw_at lw_m2 72 rfl) rfl
theorem q335 : (Jvm.Cond.instanceMethod ({ cls := "LeasedMessagesModel", name := "state", desc := "(I)I" } : Jvm.MethodName)) ∈ lw_all := lw_g (lw_at lw_m2 74 rfl) rfl
theorem q336 : (Jvm.Cond.selects "LeasedMessagesModel" ({ cls := "LeasedMessagesModel", name := "state", desc := "(I)I" } : Jvm.MethodName) ({ cls := "LeasedMessagesModel", name := "state", desc := "(I)I" } : Jvm.MethodName)) ∈ lw_all := lw_g (lw_at lw_m2 75 rfl) rfl
theorem q337 : (Jvm.Cond.code ({ cls := "LeasedMessagesModel", name := "state", desc := "(I)I" } : Jvm.MethodName) prog_3_method_16_code (2 : Nat) (Option.some Jvm.ClassFile.FieldType.int)) ∈ lw_all := lw_g (lw_at lw_m2 76 rfl) rfl
theorem q339 : (Jvm.Cond.instanceMethod ({ cls := "LeasedMessagesModel", name := "ready", desc := "(I)I" } : Jvm.MethodName)) ∈ lw_all := lw_g (lw_at lw_m2 78 rfl) rfl
theorem q340 : (Jvm.Cond.selects "LeasedMessagesModel" ({ cls := "LeasedMessagesModel", name := "ready", desc := "(I)I" } : Jvm.MethodName) ({ cls := "LeasedMessagesModel", name := "ready", desc := "(I)I" } : Jvm.MethodName)) ∈ lw_all := lw_g (lw_at lw_m2 79 rfl) rfl
theorem q341 : (Jvm.Cond.code ({ cls := "LeasedMessagesModel", name := "ready", desc := "(I)I" } : Jvm.MethodName) prog_3_method_18_code (4 : Nat) (Option.some Jvm.ClassFile.FieldType.int)) ∈ lw_all := lw_g (lw_at lw_m2 80 rfl) rfl
theorem q344 : (Jvm.Cond.instanceMethod ({ cls := "LeasedMessagesModel", name := "nextDeadline", desc := "()I" } : Jvm.MethodName)) ∈ lw_all := lw_g (lw_at lw_m2 83 rfl) rfl
theorem q345 : (Jvm.Cond.selects "LeasedMessagesModel" ({ cls := "LeasedMessagesModel", name := "nextDeadline", desc := "()I" } : Jvm.MethodName) ({ cls := "LeasedMessagesModel", name := "nextDeadline", desc := "()I" } : Jvm.MethodName)) ∈ lw_all := lw_g (lw_at lw_m2 84 rfl) rfl
theorem q346 : (Jvm.Cond.code ({ cls := "LeasedMessagesModel", name := "nextDeadline", desc := "()I" } : Jvm.MethodName) prog_3_method_21_code (3 : Nat) (Option.some Jvm.ClassFile.FieldType.int)) ∈ lw_all := lw_g (lw_at lw_m2 85 rfl) rfl
theorem q348 : (Jvm.Cond.instanceMethod ({ cls := "LeasedMessagesModel", name := "sum", desc := "(I)I" } : Jvm.MethodName)) ∈ lw_all := lw_g (lw_at lw_m2 87 rfl) rfl
theorem q349 : (Jvm.Cond.selects "LeasedMessagesModel" ({ cls := "LeasedMessagesModel", name := "sum", desc := "(I)I" } : Jvm.MethodName) ({ cls := "LeasedMessagesModel", name := "sum", desc := "(I)I" } : Jvm.MethodName)) ∈ lw_all := lw_g (lw_at lw_m2 88 rfl) rfl
theorem q350 : (Jvm.Cond.code ({ cls := "LeasedMessagesModel", name := "sum", desc := "(I)I" } : Jvm.MethodName) prog_3_method_22_code (4 : Nat) (Option.some Jvm.ClassFile.FieldType.int)) ∈ lw_all := lw_g (lw_at lw_m2 89 rfl) rfl
theorem in_X1 : ∀ w ∈ wsX10, w ∈ lw_all := lw_in wsX10 [241, 243, 245, 247, 249, 251, 253, 255, 257, 259, 261, 263] (by decide +kernel) (by decide +kernel)
end
section
set_option maxRecDepth 100000
theorem dX1_init_0 : decode cX1_init 0 = .ok (.aload_n 0, 1) := by decide +kernel
theorem dX1_init_1 : decode cX1_init 1 = .ok (.invokespecial 1, 3) := by decide +kernel
theorem dX1_init_4 : decode cX1_init 4 = .ok (.aload_n 0, 1) := by decide +kernel
theorem dX1_init_5 : decode cX1_init 5 = .ok (.bipush 40, 2) := by decide +kernel
theorem dX1_init_7 : decode cX1_init 7 = .ok (.newarray .int, 2) := by decide +kernel
theorem dX1_init_9 : decode cX1_init 9 = .ok (.putfield 7, 3) := by decide +kernel
theorem dX1_init_12 : decode cX1_init 12 = .ok (.aload_n 0, 1) := by decide +kernel
theorem dX1_init_13 : decode cX1_init 13 = .ok (.bipush 40, 2) := by decide +kernel
theorem dX1_init_15 : decode cX1_init 15 = .ok (.newarray .int, 2) := by decide +kernel
theorem dX1_init_17 : decode cX1_init 17 = .ok (.putfield 13, 3) := by decide +kernel
theorem dX1_init_20 : decode cX1_init 20 = .ok (.aload_n 0, 1) := by decide +kernel
theorem dX1_init_21 : decode cX1_init 21 = .ok (.bipush 40, 2) := by decide +kernel
theorem dX1_init_23 : decode cX1_init 23 = .ok (.newarray .int, 2) := by decide +kernel
theorem dX1_init_25 : decode cX1_init 25 = .ok (.putfield 16, 3) := by decide +kernel
theorem dX1_init_28 : decode cX1_init 28 = .ok (.aload_n 0, 1) := by decide +kernel
theorem dX1_init_29 : decode cX1_init 29 = .ok (.bipush 40, 2) := by decide +kernel
theorem dX1_init_31 : decode cX1_init 31 = .ok (.newarray .int, 2) := by decide +kernel
theorem dX1_init_33 : decode cX1_init 33 = .ok (.putfield 19, 3) := by decide +kernel
theorem dX1_init_36 : decode cX1_init 36 = .ok (.aload_n 0, 1) := by decide +kernel
theorem dX1_init_37 : decode cX1_init 37 = .ok (.bipush 40, 2) := by decide +kernel
theorem dX1_init_39 : decode cX1_init 39 = .ok (.newarray .int, 2) := by decide +kernel
theorem dX1_init_41 : decode cX1_init 41 = .ok (.putfield 22, 3) := by decide +kernel
theorem dX1_init_44 : decode cX1_init 44 = .ok (.aload_n 0, 1) := by decide +kernel
theorem dX1_init_45 : decode cX1_init 45 = .ok (.bipush 40, 2) := by decide +kernel
theorem dX1_init_47 : decode cX1_init 47 = .ok (.newarray .int, 2) := by decide +kernel
theorem dX1_init_49 : decode cX1_init 49 = .ok (.putfield 25, 3) := by decide +kernel
theorem dX1_init_52 : decode cX1_init 52 = .ok (.aload_n 0, 1) := by decide +kernel
theorem dX1_init_53 : decode cX1_init 53 = .ok (.bipush 40, 2) := by decide +kernel
theorem dX1_init_55 : decode cX1_init 55 = .ok (.newarray .int, 2) := by decide +kernel
theorem dX1_init_57 : decode cX1_init 57 = .ok (.putfield 28, 3) := by decide +kernel
theorem dX1_init_60 : decode cX1_init 60 = .ok (.aload_n 0, 1) := by decide +kernel
theorem dX1_init_61 : decode cX1_init 61 = .ok (.bipush 40, 2) := by decide +kernel
theorem dX1_init_63 : decode cX1_init 63 = .ok (.newarray .int, 2) := by decide +kernel
theorem dX1_init_65 : decode cX1_init 65 = .ok (.putfield 31, 3) := by decide +kernel
theorem dX1_init_68 : decode cX1_init 68 = .ok (.aload_n 0, 1) := by decide +kernel
theorem dX1_init_69 : decode cX1_init 69 = .ok (.iconst 3, 1) := by decide +kernel
theorem dX1_init_70 : decode cX1_init 70 = .ok (.newarray .int, 2) := by decide +kernel
theorem dX1_init_72 : decode cX1_init 72 = .ok (.putfield 34, 3) := by decide +kernel
theorem dX1_init_75 : decode cX1_init 75 = .ok (.aload_n 0, 1) := by decide +kernel
theorem dX1_init_76 : decode cX1_init 76 = .ok (.iconst 3, 1) := by decide +kernel
theorem dX1_init_77 : decode cX1_init 77 = .ok (.newarray .int, 2) := by decide +kernel
theorem dX1_init_79 : decode cX1_init 79 = .ok (.putfield 37, 3) := by decide +kernel
theorem dX1_init_82 : decode cX1_init 82 = .ok (.iconst 0, 1) := by decide +kernel
theorem dX1_init_83 : decode cX1_init 83 = .ok (.istore_n 1, 1) := by decide +kernel
theorem dX1_init_84 : decode cX1_init 84 = .ok (.iload_n 1, 1) := by decide +kernel
theorem dX1_init_85 : decode cX1_init 85 = .ok (.iconst 3, 1) := by decide +kernel
theorem dX1_init_86 : decode cX1_init 86 = .ok (.if_icmp .ge 23, 3) := by decide +kernel
theorem dX1_init_89 : decode cX1_init 89 = .ok (.aload_n 0, 1) := by decide +kernel
theorem dX1_init_90 : decode cX1_init 90 = .ok (.getfield 34, 3) := by decide +kernel
theorem dX1_init_93 : decode cX1_init 93 = .ok (.iload_n 1, 1) := by decide +kernel
theorem dX1_init_94 : decode cX1_init 94 = .ok (.iconst 5, 1) := by decide +kernel
theorem dX1_init_95 : decode cX1_init 95 = .ok (.iastore, 1) := by decide +kernel
theorem dX1_init_96 : decode cX1_init 96 = .ok (.aload_n 0, 1) := by decide +kernel
theorem dX1_init_97 : decode cX1_init 97 = .ok (.getfield 37, 3) := by decide +kernel
theorem dX1_init_100 : decode cX1_init 100 = .ok (.iload_n 1, 1) := by decide +kernel
theorem dX1_init_101 : decode cX1_init 101 = .ok (.iconst 3, 1) := by decide +kernel
theorem dX1_init_102 : decode cX1_init 102 = .ok (.iastore, 1) := by decide +kernel
theorem dX1_init_103 : decode cX1_init 103 = .ok (.iinc 1 1, 3) := by decide +kernel
theorem dX1_init_106 : decode cX1_init 106 = .ok (.goto (-22), 3) := by decide +kernel
theorem dX1_init_109 : decode cX1_init 109 = .ok (.return_, 1) := by decide +kernel
theorem dX1_publish_0 : decode cX1_publish 0 = .ok (.aload_n 0, 1) := by decide +kernel
theorem dX1_publish_1 : decode cX1_publish 1 = .ok (.iload_n 1, 1) := by decide +kernel
theorem dX1_publish_2 : decode cX1_publish 2 = .ok (.invokevirtual 40, 3) := by decide +kernel
theorem dX1_publish_5 : decode cX1_publish 5 = .ok (.ifCond .ne 5, 3) := by decide +kernel
theorem dX1_publish_8 : decode cX1_publish 8 = .ok (.iconst (-1), 1) := by decide +kernel
theorem dX1_publish_9 : decode cX1_publish 9 = .ok (.ireturn, 1) := by decide +kernel
theorem dX1_publish_10 : decode cX1_publish 10 = .ok (.iload_n 3, 1) := by decide +kernel
theorem dX1_publish_11 : decode cX1_publish 11 = .ok (.ifCond .lt 20, 3) := by decide +kernel
theorem dX1_publish_14 : decode cX1_publish 14 = .ok (.iload_n 3, 1) := by decide +kernel
theorem dX1_publish_15 : decode cX1_publish 15 = .ok (.iconst 3, 1) := by decide +kernel
theorem dX1_publish_16 : decode cX1_publish 16 = .ok (.if_icmp .gt 15, 3) := by decide +kernel
theorem dX1_publish_19 : decode cX1_publish 19 = .ok (.iload 4, 2) := by decide +kernel
theorem dX1_publish_21 : decode cX1_publish 21 = .ok (.ifCond .lt 10, 3) := by decide +kernel
theorem dX1_publish_24 : decode cX1_publish 24 = .ok (.iload 4, 2) := by decide +kernel
theorem dX1_publish_26 : decode cX1_publish 26 = .ok (.bipush 50, 2) := by decide +kernel
theorem dX1_publish_28 : decode cX1_publish 28 = .ok (.if_icmp .le 6, 3) := by decide +kernel
theorem dX1_publish_31 : decode cX1_publish 31 = .ok (.bipush (-3), 2) := by decide +kernel
theorem dX1_publish_33 : decode cX1_publish 33 = .ok (.ireturn, 1) := by decide +kernel
theorem dX1_publish_34 : decode cX1_publish 34 = .ok (.aload_n 0, 1) := by decide +kernel
theorem dX1_publish_35 : decode cX1_publish 35 = .ok (.getfield 44, 3) := by decide +kernel
theorem dX1_publish_38 : decode cX1_publish 38 = .ok (.bipush 40, 2) := by decide +kernel
theorem dX1_publish_40 : decode cX1_publish 40 = .ok (.if_icmp .ne 6, 3) := by decide +kernel
theorem dX1_publish_43 : decode cX1_publish 43 = .ok (.bipush (-4), 2) := by decide +kernel
theorem dX1_publish_45 : decode cX1_publish 45 = .ok (.ireturn, 1) := by decide +kernel
theorem dX1_publish_46 : decode cX1_publish 46 = .ok (.aload_n 0, 1) := by decide +kernel
theorem dX1_publish_47 : decode cX1_publish 47 = .ok (.getfield 7, 3) := by decide +kernel
theorem dX1_publish_50 : decode cX1_publish 50 = .ok (.aload_n 0, 1) := by decide +kernel
theorem dX1_publish_51 : decode cX1_publish 51 = .ok (.getfield 44, 3) := by decide +kernel
theorem dX1_publish_54 : decode cX1_publish 54 = .ok (.iload_n 1, 1) := by decide +kernel
theorem dX1_publish_55 : decode cX1_publish 55 = .ok (.iastore, 1) := by decide +kernel
theorem dX1_publish_56 : decode cX1_publish 56 = .ok (.aload_n 0, 1) := by decide +kernel
theorem dX1_publish_57 : decode cX1_publish 57 = .ok (.getfield 13, 3) := by decide +kernel
theorem dX1_publish_60 : decode cX1_publish 60 = .ok (.aload_n 0, 1) := by decide +kernel
theorem dX1_publish_61 : decode cX1_publish 61 = .ok (.getfield 44, 3) := by decide +kernel
theorem dX1_publish_64 : decode cX1_publish 64 = .ok (.iload_n 2, 1) := by decide +kernel
theorem dX1_publish_65 : decode cX1_publish 65 = .ok (.iastore, 1) := by decide +kernel
theorem dX1_publish_66 : decode cX1_publish 66 = .ok (.aload_n 0, 1) := by decide +kernel
theorem dX1_publish_67 : decode cX1_publish 67 = .ok (.getfield 16, 3) := by decide +kernel
theorem dX1_publish_70 : decode cX1_publish 70 = .ok (.aload_n 0, 1) := by decide +kernel
theorem dX1_publish_71 : decode cX1_publish 71 = .ok (.getfield 44, 3) := by decide +kernel
theorem dX1_publish_74 : decode cX1_publish 74 = .ok (.iload_n 3, 1) := by decide +kernel
theorem dX1_publish_75 : decode cX1_publish 75 = .ok (.iastore, 1) := by decide +kernel
theorem dX1_publish_76 : decode cX1_publish 76 = .ok (.aload_n 0, 1) := by decide +kernel
theorem dX1_publish_77 : decode cX1_publish 77 = .ok (.getfield 19, 3) := by decide +kernel
theorem dX1_publish_80 : decode cX1_publish 80 = .ok (.aload_n 0, 1) := by decide +kernel
theorem dX1_publish_81 : decode cX1_publish 81 = .ok (.getfield 44, 3) := by decide +kernel
theorem dX1_publish_84 : decode cX1_publish 84 = .ok (.iconst 0, 1) := by decide +kernel
theorem dX1_publish_85 : decode cX1_publish 85 = .ok (.iastore, 1) := by decide +kernel
theorem dX1_publish_86 : decode cX1_publish 86 = .ok (.aload_n 0, 1) := by decide +kernel
theorem dX1_publish_87 : decode cX1_publish 87 = .ok (.getfield 22, 3) := by decide +kernel
theorem dX1_publish_90 : decode cX1_publish 90 = .ok (.aload_n 0, 1) := by decide +kernel
theorem dX1_publish_91 : decode cX1_publish 91 = .ok (.getfield 44, 3) := by decide +kernel
theorem dX1_publish_94 : decode cX1_publish 94 = .ok (.iconst 0, 1) := by decide +kernel
theorem dX1_publish_95 : decode cX1_publish 95 = .ok (.iastore, 1) := by decide +kernel
theorem dX1_publish_96 : decode cX1_publish 96 = .ok (.aload_n 0, 1) := by decide +kernel
theorem dX1_publish_97 : decode cX1_publish 97 = .ok (.getfield 31, 3) := by decide +kernel
theorem dX1_publish_100 : decode cX1_publish 100 = .ok (.aload_n 0, 1) := by decide +kernel
theorem dX1_publish_101 : decode cX1_publish 101 = .ok (.getfield 44, 3) := by decide +kernel
theorem dX1_publish_104 : decode cX1_publish 104 = .ok (.iload 4, 2) := by decide +kernel
theorem dX1_publish_106 : decode cX1_publish 106 = .ok (.ifCond .le 13, 3) := by decide +kernel
theorem dX1_publish_109 : decode cX1_publish 109 = .ok (.aload_n 0, 1) := by decide +kernel
theorem dX1_publish_110 : decode cX1_publish 110 = .ok (.getfield 48, 3) := by decide +kernel
theorem dX1_publish_113 : decode cX1_publish 113 = .ok (.iload 4, 2) := by decide +kernel
theorem dX1_publish_115 : decode cX1_publish 115 = .ok (.iadd, 1) := by decide +kernel
theorem dX1_publish_116 : decode cX1_publish 116 = .ok (.goto 4, 3) := by decide +kernel
theorem dX1_publish_119 : decode cX1_publish 119 = .ok (.iconst (-1), 1) := by decide +kernel
theorem dX1_publish_120 : decode cX1_publish 120 = .ok (.iastore, 1) := by decide +kernel
theorem dX1_publish_121 : decode cX1_publish 121 = .ok (.aload_n 0, 1) := by decide +kernel
theorem dX1_publish_122 : decode cX1_publish 122 = .ok (.dup, 1) := by decide +kernel
theorem dX1_publish_123 : decode cX1_publish 123 = .ok (.getfield 44, 3) := by decide +kernel
theorem dX1_publish_126 : decode cX1_publish 126 = .ok (.iconst 1, 1) := by decide +kernel
theorem dX1_publish_127 : decode cX1_publish 127 = .ok (.iadd, 1) := by decide +kernel
theorem dX1_publish_128 : decode cX1_publish 128 = .ok (.putfield 44, 3) := by decide +kernel
theorem dX1_publish_131 : decode cX1_publish 131 = .ok (.aload_n 0, 1) := by decide +kernel
theorem dX1_publish_132 : decode cX1_publish 132 = .ok (.getfield 44, 3) := by decide +kernel
theorem dX1_publish_135 : decode cX1_publish 135 = .ok (.iconst 1, 1) := by decide +kernel
theorem dX1_publish_136 : decode cX1_publish 136 = .ok (.isub, 1) := by decide +kernel
theorem dX1_publish_137 : decode cX1_publish 137 = .ok (.ireturn, 1) := by decide +kernel
theorem dX1_three_0 : decode cX1_three 0 = .ok (.iload_n 1, 1) := by decide +kernel
theorem dX1_three_1 : decode cX1_three 1 = .ok (.ifCond .lt 12, 3) := by decide +kernel
theorem dX1_three_4 : decode cX1_three 4 = .ok (.iload_n 1, 1) := by decide +kernel
theorem dX1_three_5 : decode cX1_three 5 = .ok (.iconst 3, 1) := by decide +kernel
theorem dX1_three_6 : decode cX1_three 6 = .ok (.if_icmp .ge 7, 3) := by decide +kernel
theorem dX1_three_9 : decode cX1_three 9 = .ok (.iconst 1, 1) := by decide +kernel
theorem dX1_three_10 : decode cX1_three 10 = .ok (.goto 4, 3) := by decide +kernel
theorem dX1_three_13 : decode cX1_three 13 = .ok (.iconst 0, 1) := by decide +kernel
theorem dX1_three_14 : decode cX1_three 14 = .ok (.ireturn, 1) := by decide +kernel
theorem dX1_take_0 : decode cX1_take 0 = .ok (.aload_n 0, 1) := by decide +kernel
theorem dX1_take_1 : decode cX1_take 1 = .ok (.iload_n 1, 1) := by decide +kernel
theorem dX1_take_2 : decode cX1_take 2 = .ok (.invokevirtual 40, 3) := by decide +kernel
theorem dX1_take_5 : decode cX1_take 5 = .ok (.ifCond .ne 5, 3) := by decide +kernel
theorem dX1_take_8 : decode cX1_take 8 = .ok (.iconst (-1), 1) := by decide +kernel
theorem dX1_take_9 : decode cX1_take 9 = .ok (.ireturn, 1) := by decide +kernel
theorem dX1_take_10 : decode cX1_take 10 = .ok (.aload_n 0, 1) := by decide +kernel
theorem dX1_take_11 : decode cX1_take 11 = .ok (.iload_n 2, 1) := by decide +kernel
theorem dX1_take_12 : decode cX1_take 12 = .ok (.invokevirtual 40, 3) := by decide +kernel
theorem dX1_take_15 : decode cX1_take 15 = .ok (.ifCond .ne 6, 3) := by decide +kernel
theorem dX1_take_18 : decode cX1_take 18 = .ok (.bipush (-2), 2) := by decide +kernel
theorem dX1_take_20 : decode cX1_take 20 = .ok (.ireturn, 1) := by decide +kernel
theorem dX1_take_21 : decode cX1_take 21 = .ok (.aload_n 0, 1) := by decide +kernel
theorem dX1_take_22 : decode cX1_take 22 = .ok (.iload_n 2, 1) := by decide +kernel
theorem dX1_take_23 : decode cX1_take 23 = .ok (.invokevirtual 51, 3) := by decide +kernel
theorem dX1_take_26 : decode cX1_take 26 = .ok (.iconst 2, 1) := by decide +kernel
theorem dX1_take_27 : decode cX1_take 27 = .ok (.if_icmp .ne 6, 3) := by decide +kernel
theorem dX1_take_30 : decode cX1_take 30 = .ok (.bipush (-7), 2) := by decide +kernel
theorem dX1_take_32 : decode cX1_take 32 = .ok (.ireturn, 1) := by decide +kernel
theorem dX1_take_33 : decode cX1_take 33 = .ok (.aload_n 0, 1) := by decide +kernel
theorem dX1_take_34 : decode cX1_take 34 = .ok (.iload_n 1, 1) := by decide +kernel
theorem dX1_take_35 : decode cX1_take 35 = .ok (.iconst 0, 1) := by decide +kernel
theorem dX1_take_36 : decode cX1_take 36 = .ok (.invokevirtual 55, 3) := by decide +kernel
theorem dX1_take_39 : decode cX1_take 39 = .ok (.istore_n 3, 1) := by decide +kernel
theorem dX1_take_40 : decode cX1_take 40 = .ok (.iload_n 3, 1) := by decide +kernel
theorem dX1_take_41 : decode cX1_take 41 = .ok (.ifCond .ge 6, 3) := by decide +kernel
theorem dX1_take_44 : decode cX1_take 44 = .ok (.bipush (-5), 2) := by decide +kernel
theorem dX1_take_46 : decode cX1_take 46 = .ok (.ireturn, 1) := by decide +kernel
theorem dX1_take_47 : decode cX1_take 47 = .ok (.aload_n 0, 1) := by decide +kernel
theorem dX1_take_48 : decode cX1_take 48 = .ok (.getfield 19, 3) := by decide +kernel
theorem dX1_take_51 : decode cX1_take 51 = .ok (.iload_n 3, 1) := by decide +kernel
theorem dX1_take_52 : decode cX1_take 52 = .ok (.iconst 1, 1) := by decide +kernel
theorem dX1_take_53 : decode cX1_take 53 = .ok (.iastore, 1) := by decide +kernel
theorem dX1_take_54 : decode cX1_take 54 = .ok (.aload_n 0, 1) := by decide +kernel
theorem dX1_take_55 : decode cX1_take 55 = .ok (.getfield 22, 3) := by decide +kernel
theorem dX1_take_58 : decode cX1_take 58 = .ok (.iload_n 3, 1) := by decide +kernel
theorem dX1_take_59 : decode cX1_take 59 = .ok (.dup2, 1) := by decide +kernel
theorem dX1_take_60 : decode cX1_take 60 = .ok (.iaload, 1) := by decide +kernel
theorem dX1_take_61 : decode cX1_take 61 = .ok (.iconst 1, 1) := by decide +kernel
theorem dX1_take_62 : decode cX1_take 62 = .ok (.iadd, 1) := by decide +kernel
theorem dX1_take_63 : decode cX1_take 63 = .ok (.iastore, 1) := by decide +kernel
theorem dX1_take_64 : decode cX1_take 64 = .ok (.aload_n 0, 1) := by decide +kernel
theorem dX1_take_65 : decode cX1_take 65 = .ok (.getfield 25, 3) := by decide +kernel
theorem dX1_take_68 : decode cX1_take 68 = .ok (.iload_n 3, 1) := by decide +kernel
theorem dX1_take_69 : decode cX1_take 69 = .ok (.iload_n 2, 1) := by decide +kernel
theorem dX1_take_70 : decode cX1_take 70 = .ok (.iastore, 1) := by decide +kernel
theorem dX1_take_71 : decode cX1_take 71 = .ok (.aload_n 0, 1) := by decide +kernel
theorem dX1_take_72 : decode cX1_take 72 = .ok (.getfield 28, 3) := by decide +kernel
theorem dX1_take_75 : decode cX1_take 75 = .ok (.iload_n 3, 1) := by decide +kernel
theorem dX1_take_76 : decode cX1_take 76 = .ok (.aload_n 0, 1) := by decide +kernel
theorem dX1_take_77 : decode cX1_take 77 = .ok (.getfield 48, 3) := by decide +kernel
theorem dX1_take_80 : decode cX1_take 80 = .ok (.aload_n 0, 1) := by decide +kernel
theorem dX1_take_81 : decode cX1_take 81 = .ok (.getfield 34, 3) := by decide +kernel
theorem dX1_take_84 : decode cX1_take 84 = .ok (.iload_n 1, 1) := by decide +kernel
theorem dX1_take_85 : decode cX1_take 85 = .ok (.iaload, 1) := by decide +kernel
theorem dX1_take_86 : decode cX1_take 86 = .ok (.iadd, 1) := by decide +kernel
theorem dX1_take_87 : decode cX1_take 87 = .ok (.iastore, 1) := by decide +kernel
theorem dX1_take_88 : decode cX1_take 88 = .ok (.iload_n 3, 1) := by decide +kernel
theorem dX1_take_89 : decode cX1_take 89 = .ok (.ireturn, 1) := by decide +kernel
theorem dX1_out_0 : decode cX1_out 0 = .ok (.iconst 0, 1) := by decide +kernel
theorem dX1_out_1 : decode cX1_out 1 = .ok (.istore_n 2, 1) := by decide +kernel
theorem dX1_out_2 : decode cX1_out 2 = .ok (.iconst 0, 1) := by decide +kernel
theorem dX1_out_3 : decode cX1_out 3 = .ok (.istore_n 3, 1) := by decide +kernel
theorem dX1_out_4 : decode cX1_out 4 = .ok (.iload_n 3, 1) := by decide +kernel
theorem dX1_out_5 : decode cX1_out 5 = .ok (.aload_n 0, 1) := by decide +kernel
theorem dX1_out_6 : decode cX1_out 6 = .ok (.getfield 44, 3) := by decide +kernel
theorem dX1_out_9 : decode cX1_out 9 = .ok (.if_icmp .ge 32, 3) := by decide +kernel
theorem dX1_out_12 : decode cX1_out 12 = .ok (.aload_n 0, 1) := by decide +kernel
theorem dX1_out_13 : decode cX1_out 13 = .ok (.getfield 19, 3) := by decide +kernel
theorem dX1_out_16 : decode cX1_out 16 = .ok (.iload_n 3, 1) := by decide +kernel
theorem dX1_out_17 : decode cX1_out 17 = .ok (.iaload, 1) := by decide +kernel
theorem dX1_out_18 : decode cX1_out 18 = .ok (.iconst 1, 1) := by decide +kernel
theorem dX1_out_19 : decode cX1_out 19 = .ok (.if_icmp .ne 16, 3) := by decide +kernel
theorem dX1_out_22 : decode cX1_out 22 = .ok (.aload_n 0, 1) := by decide +kernel
theorem dX1_out_23 : decode cX1_out 23 = .ok (.getfield 25, 3) := by decide +kernel
theorem dX1_out_26 : decode cX1_out 26 = .ok (.iload_n 3, 1) := by decide +kernel
theorem dX1_out_27 : decode cX1_out 27 = .ok (.iaload, 1) := by decide +kernel
theorem dX1_out_28 : decode cX1_out 28 = .ok (.iload_n 1, 1) := by decide +kernel
theorem dX1_out_29 : decode cX1_out 29 = .ok (.if_icmp .ne 6, 3) := by decide +kernel
theorem dX1_out_32 : decode cX1_out 32 = .ok (.iinc 2 1, 3) := by decide +kernel
theorem dX1_out_35 : decode cX1_out 35 = .ok (.iinc 3 1, 3) := by decide +kernel
theorem dX1_out_38 : decode cX1_out 38 = .ok (.goto (-34), 3) := by decide +kernel
theorem dX1_out_41 : decode cX1_out 41 = .ok (.iload_n 2, 1) := by decide +kernel
theorem dX1_out_42 : decode cX1_out 42 = .ok (.ireturn, 1) := by decide +kernel
theorem dX1_peek_0 : decode cX1_peek 0 = .ok (.aload_n 0, 1) := by decide +kernel
theorem dX1_peek_1 : decode cX1_peek 1 = .ok (.iload_n 1, 1) := by decide +kernel
theorem dX1_peek_2 : decode cX1_peek 2 = .ok (.invokevirtual 40, 3) := by decide +kernel
theorem dX1_peek_5 : decode cX1_peek 5 = .ok (.ifCond .ne 5, 3) := by decide +kernel
theorem dX1_peek_8 : decode cX1_peek 8 = .ok (.iconst (-1), 1) := by decide +kernel
theorem dX1_peek_9 : decode cX1_peek 9 = .ok (.ireturn, 1) := by decide +kernel
theorem dX1_peek_10 : decode cX1_peek 10 = .ok (.iconst 0, 1) := by decide +kernel
theorem dX1_peek_11 : decode cX1_peek 11 = .ok (.istore_n 3, 1) := by decide +kernel
theorem dX1_peek_12 : decode cX1_peek 12 = .ok (.iload_n 3, 1) := by decide +kernel
theorem dX1_peek_13 : decode cX1_peek 13 = .ok (.aload_n 0, 1) := by decide +kernel
theorem dX1_peek_14 : decode cX1_peek 14 = .ok (.getfield 44, 3) := by decide +kernel
theorem dX1_peek_17 : decode cX1_peek 17 = .ok (.if_icmp .ge 30, 3) := by decide +kernel
theorem dX1_peek_20 : decode cX1_peek 20 = .ok (.aload_n 0, 1) := by decide +kernel
theorem dX1_peek_21 : decode cX1_peek 21 = .ok (.iload_n 3, 1) := by decide +kernel
theorem dX1_peek_22 : decode cX1_peek 22 = .ok (.iload_n 1, 1) := by decide +kernel
theorem dX1_peek_23 : decode cX1_peek 23 = .ok (.invokevirtual 66, 3) := by decide +kernel
theorem dX1_peek_26 : decode cX1_peek 26 = .ok (.ifCond .eq 15, 3) := by decide +kernel
theorem dX1_peek_29 : decode cX1_peek 29 = .ok (.aload_n 0, 1) := by decide +kernel
theorem dX1_peek_30 : decode cX1_peek 30 = .ok (.iload_n 1, 1) := by decide +kernel
theorem dX1_peek_31 : decode cX1_peek 31 = .ok (.iload_n 3, 1) := by decide +kernel
theorem dX1_peek_32 : decode cX1_peek 32 = .ok (.invokevirtual 70, 3) := by decide +kernel
theorem dX1_peek_35 : decode cX1_peek 35 = .ok (.iload_n 2, 1) := by decide +kernel
theorem dX1_peek_36 : decode cX1_peek 36 = .ok (.if_icmp .ne 5, 3) := by decide +kernel
theorem dX1_peek_39 : decode cX1_peek 39 = .ok (.iload_n 3, 1) := by decide +kernel
theorem dX1_peek_40 : decode cX1_peek 40 = .ok (.ireturn, 1) := by decide +kernel
theorem dX1_peek_41 : decode cX1_peek 41 = .ok (.iinc 3 1, 3) := by decide +kernel
theorem dX1_peek_44 : decode cX1_peek 44 = .ok (.goto (-32), 3) := by decide +kernel
theorem dX1_peek_47 : decode cX1_peek 47 = .ok (.bipush (-5), 2) := by decide +kernel
theorem dX1_peek_49 : decode cX1_peek 49 = .ok (.ireturn, 1) := by decide +kernel
theorem dX1_isReady_0 : decode cX1_isReady 0 = .ok (.aload_n 0, 1) := by decide +kernel
theorem dX1_isReady_1 : decode cX1_isReady 1 = .ok (.getfield 7, 3) := by decide +kernel
theorem dX1_isReady_4 : decode cX1_isReady 4 = .ok (.iload_n 1, 1) := by decide +kernel
theorem dX1_isReady_5 : decode cX1_isReady 5 = .ok (.iaload, 1) := by decide +kernel
theorem dX1_isReady_6 : decode cX1_isReady 6 = .ok (.iload_n 2, 1) := by decide +kernel
theorem dX1_isReady_7 : decode cX1_isReady 7 = .ok (.if_icmp .ne 16, 3) := by decide +kernel
theorem dX1_isReady_10 : decode cX1_isReady 10 = .ok (.aload_n 0, 1) := by decide +kernel
theorem dX1_isReady_11 : decode cX1_isReady 11 = .ok (.getfield 19, 3) := by decide +kernel
theorem dX1_isReady_14 : decode cX1_isReady 14 = .ok (.iload_n 1, 1) := by decide +kernel
theorem dX1_isReady_15 : decode cX1_isReady 15 = .ok (.iaload, 1) := by decide +kernel
theorem dX1_isReady_16 : decode cX1_isReady 16 = .ok (.ifCond .ne 7, 3) := by decide +kernel
theorem dX1_isReady_19 : decode cX1_isReady 19 = .ok (.iconst 1, 1) := by decide +kernel
theorem dX1_isReady_20 : decode cX1_isReady 20 = .ok (.goto 4, 3) := by decide +kernel
theorem dX1_isReady_23 : decode cX1_isReady 23 = .ok (.iconst 0, 1) := by decide +kernel
theorem dX1_isReady_24 : decode cX1_isReady 24 = .ok (.ireturn, 1) := by decide +kernel
theorem dX1_before_0 : decode cX1_before 0 = .ok (.iconst 0, 1) := by decide +kernel
theorem dX1_before_1 : decode cX1_before 1 = .ok (.istore_n 3, 1) := by decide +kernel
theorem dX1_before_2 : decode cX1_before 2 = .ok (.iconst 0, 1) := by decide +kernel
theorem dX1_before_3 : decode cX1_before 3 = .ok (.istore 4, 2) := by decide +kernel
theorem dX1_before_5 : decode cX1_before 5 = .ok (.iload 4, 2) := by decide +kernel
theorem dX1_before_7 : decode cX1_before 7 = .ok (.aload_n 0, 1) := by decide +kernel
theorem dX1_before_8 : decode cX1_before 8 = .ok (.getfield 44, 3) := by decide +kernel
theorem dX1_before_11 : decode cX1_before 11 = .ok (.if_icmp .ge 72, 3) := by decide +kernel
theorem dX1_before_14 : decode cX1_before 14 = .ok (.aload_n 0, 1) := by decide +kernel
theorem dX1_before_15 : decode cX1_before 15 = .ok (.getfield 16, 3) := by decide +kernel
theorem dX1_before_18 : decode cX1_before 18 = .ok (.iload 4, 2) := by decide +kernel
theorem dX1_before_20 : decode cX1_before 20 = .ok (.iaload, 1) := by decide +kernel
theorem dX1_before_21 : decode cX1_before 21 = .ok (.aload_n 0, 1) := by decide +kernel
theorem dX1_before_22 : decode cX1_before 22 = .ok (.getfield 16, 3) := by decide +kernel
theorem dX1_before_25 : decode cX1_before 25 = .ok (.iload_n 2, 1) := by decide +kernel
theorem dX1_before_26 : decode cX1_before 26 = .ok (.iaload, 1) := by decide +kernel
theorem dX1_before_27 : decode cX1_before 27 = .ok (.if_icmp .gt 25, 3) := by decide +kernel
theorem dX1_before_30 : decode cX1_before 30 = .ok (.aload_n 0, 1) := by decide +kernel
theorem dX1_before_31 : decode cX1_before 31 = .ok (.getfield 16, 3) := by decide +kernel
theorem dX1_before_34 : decode cX1_before 34 = .ok (.iload 4, 2) := by decide +kernel
theorem dX1_before_36 : decode cX1_before 36 = .ok (.iaload, 1) := by decide +kernel
theorem dX1_before_37 : decode cX1_before 37 = .ok (.aload_n 0, 1) := by decide +kernel
theorem dX1_before_38 : decode cX1_before 38 = .ok (.getfield 16, 3) := by decide +kernel
theorem dX1_before_41 : decode cX1_before 41 = .ok (.iload_n 2, 1) := by decide +kernel
theorem dX1_before_42 : decode cX1_before 42 = .ok (.iaload, 1) := by decide +kernel
theorem dX1_before_43 : decode cX1_before 43 = .ok (.if_icmp .ne 13, 3) := by decide +kernel
theorem dX1_before_46 : decode cX1_before 46 = .ok (.iload 4, 2) := by decide +kernel
theorem dX1_before_48 : decode cX1_before 48 = .ok (.iload_n 2, 1) := by decide +kernel
theorem dX1_before_49 : decode cX1_before 49 = .ok (.if_icmp .ge 7, 3) := by decide +kernel
theorem dX1_before_52 : decode cX1_before 52 = .ok (.iconst 1, 1) := by decide +kernel
theorem dX1_before_53 : decode cX1_before 53 = .ok (.goto 4, 3) := by decide +kernel
theorem dX1_before_56 : decode cX1_before 56 = .ok (.iconst 0, 1) := by decide +kernel
theorem dX1_before_57 : decode cX1_before 57 = .ok (.istore 5, 2) := by decide +kernel
theorem dX1_before_59 : decode cX1_before 59 = .ok (.aload_n 0, 1) := by decide +kernel
theorem dX1_before_60 : decode cX1_before 60 = .ok (.iload 4, 2) := by decide +kernel
theorem dX1_before_62 : decode cX1_before 62 = .ok (.iload_n 1, 1) := by decide +kernel
theorem dX1_before_63 : decode cX1_before 63 = .ok (.invokevirtual 66, 3) := by decide +kernel
theorem dX1_before_66 : decode cX1_before 66 = .ok (.ifCond .eq 11, 3) := by decide +kernel
theorem dX1_before_69 : decode cX1_before 69 = .ok (.iload 5, 2) := by decide +kernel
theorem dX1_before_71 : decode cX1_before 71 = .ok (.ifCond .eq 6, 3) := by decide +kernel
theorem dX1_before_74 : decode cX1_before 74 = .ok (.iinc 3 1, 3) := by decide +kernel
theorem dX1_before_77 : decode cX1_before 77 = .ok (.iinc 4 1, 3) := by decide +kernel
theorem dX1_before_80 : decode cX1_before 80 = .ok (.goto (-75), 3) := by decide +kernel
theorem dX1_before_83 : decode cX1_before 83 = .ok (.iload_n 3, 1) := by decide +kernel
theorem dX1_before_84 : decode cX1_before 84 = .ok (.ireturn, 1) := by decide +kernel
theorem dX1_acknowledge_0 : decode cX1_acknowledge 0 = .ok (.aload_n 0, 1) := by decide +kernel
theorem dX1_acknowledge_1 : decode cX1_acknowledge 1 = .ok (.iload_n 1, 1) := by decide +kernel
theorem dX1_acknowledge_2 : decode cX1_acknowledge 2 = .ok (.iload_n 2, 1) := by decide +kernel
theorem dX1_acknowledge_3 : decode cX1_acknowledge 3 = .ok (.invokevirtual 59, 3) := by decide +kernel
theorem dX1_acknowledge_6 : decode cX1_acknowledge 6 = .ok (.istore_n 3, 1) := by decide +kernel
theorem dX1_acknowledge_7 : decode cX1_acknowledge 7 = .ok (.iload_n 3, 1) := by decide +kernel
theorem dX1_acknowledge_8 : decode cX1_acknowledge 8 = .ok (.ifCond .ge 5, 3) := by decide +kernel
theorem dX1_acknowledge_11 : decode cX1_acknowledge 11 = .ok (.iload_n 3, 1) := by decide +kernel
theorem dX1_acknowledge_12 : decode cX1_acknowledge 12 = .ok (.ireturn, 1) := by decide +kernel
theorem dX1_acknowledge_13 : decode cX1_acknowledge 13 = .ok (.aload_n 0, 1) := by decide +kernel
theorem dX1_acknowledge_14 : decode cX1_acknowledge 14 = .ok (.getfield 19, 3) := by decide +kernel
theorem dX1_acknowledge_17 : decode cX1_acknowledge 17 = .ok (.iload_n 2, 1) := by decide +kernel
theorem dX1_acknowledge_18 : decode cX1_acknowledge 18 = .ok (.iconst 2, 1) := by decide +kernel
theorem dX1_acknowledge_19 : decode cX1_acknowledge 19 = .ok (.iastore, 1) := by decide +kernel
theorem dX1_acknowledge_20 : decode cX1_acknowledge 20 = .ok (.aload_n 0, 1) := by decide +kernel
theorem dX1_acknowledge_21 : decode cX1_acknowledge 21 = .ok (.iload_n 1, 1) := by decide +kernel
theorem dX1_acknowledge_22 : decode cX1_acknowledge 22 = .ok (.invokevirtual 51, 3) := by decide +kernel
theorem dX1_acknowledge_25 : decode cX1_acknowledge 25 = .ok (.ireturn, 1) := by decide +kernel
theorem dX1_refusal_0 : decode cX1_refusal 0 = .ok (.aload_n 0, 1) := by decide +kernel
theorem dX1_refusal_1 : decode cX1_refusal 1 = .ok (.iload_n 1, 1) := by decide +kernel
theorem dX1_refusal_2 : decode cX1_refusal 2 = .ok (.invokevirtual 40, 3) := by decide +kernel
theorem dX1_refusal_5 : decode cX1_refusal 5 = .ok (.ifCond .ne 6, 3) := by decide +kernel
theorem dX1_refusal_8 : decode cX1_refusal 8 = .ok (.bipush (-2), 2) := by decide +kernel
theorem dX1_refusal_10 : decode cX1_refusal 10 = .ok (.ireturn, 1) := by decide +kernel
theorem dX1_refusal_11 : decode cX1_refusal 11 = .ok (.iload_n 2, 1) := by decide +kernel
theorem dX1_refusal_12 : decode cX1_refusal 12 = .ok (.ifCond .lt 35, 3) := by decide +kernel
theorem dX1_refusal_15 : decode cX1_refusal 15 = .ok (.iload_n 2, 1) := by decide +kernel
theorem dX1_refusal_16 : decode cX1_refusal 16 = .ok (.aload_n 0, 1) := by decide +kernel
theorem dX1_refusal_17 : decode cX1_refusal 17 = .ok (.getfield 44, 3) := by decide +kernel
theorem dX1_refusal_20 : decode cX1_refusal 20 = .ok (.if_icmp .ge 27, 3) := by decide +kernel
theorem dX1_refusal_23 : decode cX1_refusal 23 = .ok (.aload_n 0, 1) := by decide +kernel
theorem dX1_refusal_24 : decode cX1_refusal 24 = .ok (.getfield 19, 3) := by decide +kernel
theorem dX1_refusal_27 : decode cX1_refusal 27 = .ok (.iload_n 2, 1) := by decide +kernel
theorem dX1_refusal_28 : decode cX1_refusal 28 = .ok (.iaload, 1) := by decide +kernel
theorem dX1_refusal_29 : decode cX1_refusal 29 = .ok (.iconst 1, 1) := by decide +kernel
theorem dX1_refusal_30 : decode cX1_refusal 30 = .ok (.if_icmp .ne 17, 3) := by decide +kernel
theorem dX1_refusal_33 : decode cX1_refusal 33 = .ok (.aload_n 0, 1) := by decide +kernel
theorem dX1_refusal_34 : decode cX1_refusal 34 = .ok (.getfield 25, 3) := by decide +kernel
theorem dX1_refusal_37 : decode cX1_refusal 37 = .ok (.iload_n 2, 1) := by decide +kernel
theorem dX1_refusal_38 : decode cX1_refusal 38 = .ok (.iaload, 1) := by decide +kernel
theorem dX1_refusal_39 : decode cX1_refusal 39 = .ok (.iload_n 1, 1) := by decide +kernel
theorem dX1_refusal_40 : decode cX1_refusal 40 = .ok (.if_icmp .ne 7, 3) := by decide +kernel
theorem dX1_refusal_43 : decode cX1_refusal 43 = .ok (.iconst 1, 1) := by decide +kernel
theorem dX1_refusal_44 : decode cX1_refusal 44 = .ok (.goto 4, 3) := by decide +kernel
theorem dX1_refusal_47 : decode cX1_refusal 47 = .ok (.iconst 0, 1) := by decide +kernel
theorem dX1_refusal_48 : decode cX1_refusal 48 = .ok (.istore_n 3, 1) := by decide +kernel
theorem dX1_refusal_49 : decode cX1_refusal 49 = .ok (.iload_n 3, 1) := by decide +kernel
theorem dX1_refusal_50 : decode cX1_refusal 50 = .ok (.ifCond .eq 7, 3) := by decide +kernel
theorem dX1_refusal_53 : decode cX1_refusal 53 = .ok (.iconst 0, 1) := by decide +kernel
theorem dX1_refusal_54 : decode cX1_refusal 54 = .ok (.goto 5, 3) := by decide +kernel
theorem dX1_refusal_57 : decode cX1_refusal 57 = .ok (.bipush (-6), 2) := by decide +kernel
theorem dX1_refusal_59 : decode cX1_refusal 59 = .ok (.ireturn, 1) := by decide +kernel
end
section
set_option maxRecDepth 100000
theorem dX1_refuse_0 : decode cX1_refuse 0 = .ok (.aload_n 0, 1) := by decide +kernel
theorem dX1_refuse_1 : decode cX1_refuse 1 = .ok (.iload_n 1, 1) := by decide +kernel
theorem dX1_refuse_2 : decode cX1_refuse 2 = .ok (.iload_n 2, 1) := by decide +kernel
theorem dX1_refuse_3 : decode cX1_refuse 3 = .ok (.invokevirtual 59, 3) := by decide +kernel
theorem dX1_refuse_6 : decode cX1_refuse 6 = .ok (.istore_n 3, 1) := by decide +kernel
theorem dX1_refuse_7 : decode cX1_refuse 7 = .ok (.iload_n 3, 1) := by decide +kernel
theorem dX1_refuse_8 : decode cX1_refuse 8 = .ok (.ifCond .ge 5, 3) := by decide +kernel
theorem dX1_refuse_11 : decode cX1_refuse 11 = .ok (.iload_n 3, 1) := by decide +kernel
theorem dX1_refuse_12 : decode cX1_refuse 12 = .ok (.ireturn, 1) := by decide +kernel
theorem dX1_refuse_13 : decode cX1_refuse 13 = .ok (.aload_n 0, 1) := by decide +kernel
theorem dX1_refuse_14 : decode cX1_refuse 14 = .ok (.iload_n 2, 1) := by decide +kernel
theorem dX1_refuse_15 : decode cX1_refuse 15 = .ok (.invokevirtual 62, 3) := by decide +kernel
theorem dX1_refuse_18 : decode cX1_refuse 18 = .ok (.aload_n 0, 1) := by decide +kernel
theorem dX1_refuse_19 : decode cX1_refuse 19 = .ok (.getfield 19, 3) := by decide +kernel
theorem dX1_refuse_22 : decode cX1_refuse 22 = .ok (.iload_n 2, 1) := by decide +kernel
theorem dX1_refuse_23 : decode cX1_refuse 23 = .ok (.iaload, 1) := by decide +kernel
theorem dX1_refuse_24 : decode cX1_refuse 24 = .ok (.ireturn, 1) := by decide +kernel
theorem dX1_comeBack_0 : decode cX1_comeBack 0 = .ok (.aload_n 0, 1) := by decide +kernel
theorem dX1_comeBack_1 : decode cX1_comeBack 1 = .ok (.getfield 19, 3) := by decide +kernel
theorem dX1_comeBack_4 : decode cX1_comeBack 4 = .ok (.iload_n 1, 1) := by decide +kernel
theorem dX1_comeBack_5 : decode cX1_comeBack 5 = .ok (.aload_n 0, 1) := by decide +kernel
theorem dX1_comeBack_6 : decode cX1_comeBack 6 = .ok (.getfield 22, 3) := by decide +kernel
theorem dX1_comeBack_9 : decode cX1_comeBack 9 = .ok (.iload_n 1, 1) := by decide +kernel
theorem dX1_comeBack_10 : decode cX1_comeBack 10 = .ok (.iaload, 1) := by decide +kernel
theorem dX1_comeBack_11 : decode cX1_comeBack 11 = .ok (.aload_n 0, 1) := by decide +kernel
theorem dX1_comeBack_12 : decode cX1_comeBack 12 = .ok (.getfield 37, 3) := by decide +kernel
theorem dX1_comeBack_15 : decode cX1_comeBack 15 = .ok (.aload_n 0, 1) := by decide +kernel
theorem dX1_comeBack_16 : decode cX1_comeBack 16 = .ok (.getfield 7, 3) := by decide +kernel
theorem dX1_comeBack_19 : decode cX1_comeBack 19 = .ok (.iload_n 1, 1) := by decide +kernel
theorem dX1_comeBack_20 : decode cX1_comeBack 20 = .ok (.iaload, 1) := by decide +kernel
theorem dX1_comeBack_21 : decode cX1_comeBack 21 = .ok (.iaload, 1) := by decide +kernel
theorem dX1_comeBack_22 : decode cX1_comeBack 22 = .ok (.if_icmp .lt 7, 3) := by decide +kernel
theorem dX1_comeBack_25 : decode cX1_comeBack 25 = .ok (.iconst 3, 1) := by decide +kernel
theorem dX1_comeBack_26 : decode cX1_comeBack 26 = .ok (.goto 4, 3) := by decide +kernel
theorem dX1_comeBack_29 : decode cX1_comeBack 29 = .ok (.iconst 0, 1) := by decide +kernel
theorem dX1_comeBack_30 : decode cX1_comeBack 30 = .ok (.iastore, 1) := by decide +kernel
theorem dX1_comeBack_31 : decode cX1_comeBack 31 = .ok (.return_, 1) := by decide +kernel
theorem dX1_lose_0 : decode cX1_lose 0 = .ok (.aload_n 0, 1) := by decide +kernel
theorem dX1_lose_1 : decode cX1_lose 1 = .ok (.iload_n 1, 1) := by decide +kernel
theorem dX1_lose_2 : decode cX1_lose 2 = .ok (.invokevirtual 40, 3) := by decide +kernel
theorem dX1_lose_5 : decode cX1_lose 5 = .ok (.ifCond .ne 6, 3) := by decide +kernel
theorem dX1_lose_8 : decode cX1_lose 8 = .ok (.bipush (-2), 2) := by decide +kernel
theorem dX1_lose_10 : decode cX1_lose 10 = .ok (.ireturn, 1) := by decide +kernel
theorem dX1_lose_11 : decode cX1_lose 11 = .ok (.aload_n 0, 1) := by decide +kernel
theorem dX1_lose_12 : decode cX1_lose 12 = .ok (.iload_n 1, 1) := by decide +kernel
theorem dX1_lose_13 : decode cX1_lose 13 = .ok (.invokevirtual 51, 3) := by decide +kernel
theorem dX1_lose_16 : decode cX1_lose 16 = .ok (.istore_n 2, 1) := by decide +kernel
theorem dX1_lose_17 : decode cX1_lose 17 = .ok (.iconst 0, 1) := by decide +kernel
theorem dX1_lose_18 : decode cX1_lose 18 = .ok (.istore_n 3, 1) := by decide +kernel
theorem dX1_lose_19 : decode cX1_lose 19 = .ok (.iload_n 3, 1) := by decide +kernel
theorem dX1_lose_20 : decode cX1_lose 20 = .ok (.aload_n 0, 1) := by decide +kernel
theorem dX1_lose_21 : decode cX1_lose 21 = .ok (.getfield 44, 3) := by decide +kernel
theorem dX1_lose_24 : decode cX1_lose 24 = .ok (.if_icmp .ge 34, 3) := by decide +kernel
theorem dX1_lose_27 : decode cX1_lose 27 = .ok (.aload_n 0, 1) := by decide +kernel
theorem dX1_lose_28 : decode cX1_lose 28 = .ok (.getfield 19, 3) := by decide +kernel
theorem dX1_lose_31 : decode cX1_lose 31 = .ok (.iload_n 3, 1) := by decide +kernel
theorem dX1_lose_32 : decode cX1_lose 32 = .ok (.iaload, 1) := by decide +kernel
theorem dX1_lose_33 : decode cX1_lose 33 = .ok (.iconst 1, 1) := by decide +kernel
theorem dX1_lose_34 : decode cX1_lose 34 = .ok (.if_icmp .ne 18, 3) := by decide +kernel
theorem dX1_lose_37 : decode cX1_lose 37 = .ok (.aload_n 0, 1) := by decide +kernel
theorem dX1_lose_38 : decode cX1_lose 38 = .ok (.getfield 25, 3) := by decide +kernel
theorem dX1_lose_41 : decode cX1_lose 41 = .ok (.iload_n 3, 1) := by decide +kernel
theorem dX1_lose_42 : decode cX1_lose 42 = .ok (.iaload, 1) := by decide +kernel
theorem dX1_lose_43 : decode cX1_lose 43 = .ok (.iload_n 1, 1) := by decide +kernel
theorem dX1_lose_44 : decode cX1_lose 44 = .ok (.if_icmp .ne 8, 3) := by decide +kernel
theorem dX1_lose_47 : decode cX1_lose 47 = .ok (.aload_n 0, 1) := by decide +kernel
theorem dX1_lose_48 : decode cX1_lose 48 = .ok (.iload_n 3, 1) := by decide +kernel
theorem dX1_lose_49 : decode cX1_lose 49 = .ok (.invokevirtual 62, 3) := by decide +kernel
theorem dX1_lose_52 : decode cX1_lose 52 = .ok (.iinc 3 1, 3) := by decide +kernel
theorem dX1_lose_55 : decode cX1_lose 55 = .ok (.goto (-36), 3) := by decide +kernel
theorem dX1_lose_58 : decode cX1_lose 58 = .ok (.iload_n 2, 1) := by decide +kernel
theorem dX1_lose_59 : decode cX1_lose 59 = .ok (.ireturn, 1) := by decide +kernel
theorem dX1_renew_0 : decode cX1_renew 0 = .ok (.aload_n 0, 1) := by decide +kernel
theorem dX1_renew_1 : decode cX1_renew 1 = .ok (.iload_n 1, 1) := by decide +kernel
theorem dX1_renew_2 : decode cX1_renew 2 = .ok (.iload_n 2, 1) := by decide +kernel
theorem dX1_renew_3 : decode cX1_renew 3 = .ok (.invokevirtual 59, 3) := by decide +kernel
theorem dX1_renew_6 : decode cX1_renew 6 = .ok (.istore_n 3, 1) := by decide +kernel
theorem dX1_renew_7 : decode cX1_renew 7 = .ok (.iload_n 3, 1) := by decide +kernel
theorem dX1_renew_8 : decode cX1_renew 8 = .ok (.ifCond .ge 5, 3) := by decide +kernel
theorem dX1_renew_11 : decode cX1_renew 11 = .ok (.iload_n 3, 1) := by decide +kernel
theorem dX1_renew_12 : decode cX1_renew 12 = .ok (.ireturn, 1) := by decide +kernel
theorem dX1_renew_13 : decode cX1_renew 13 = .ok (.aload_n 0, 1) := by decide +kernel
theorem dX1_renew_14 : decode cX1_renew 14 = .ok (.getfield 28, 3) := by decide +kernel
theorem dX1_renew_17 : decode cX1_renew 17 = .ok (.iload_n 2, 1) := by decide +kernel
theorem dX1_renew_18 : decode cX1_renew 18 = .ok (.aload_n 0, 1) := by decide +kernel
theorem dX1_renew_19 : decode cX1_renew 19 = .ok (.getfield 48, 3) := by decide +kernel
theorem dX1_renew_22 : decode cX1_renew 22 = .ok (.aload_n 0, 1) := by decide +kernel
theorem dX1_renew_23 : decode cX1_renew 23 = .ok (.getfield 34, 3) := by decide +kernel
theorem dX1_renew_26 : decode cX1_renew 26 = .ok (.aload_n 0, 1) := by decide +kernel
theorem dX1_renew_27 : decode cX1_renew 27 = .ok (.getfield 7, 3) := by decide +kernel
theorem dX1_renew_30 : decode cX1_renew 30 = .ok (.iload_n 2, 1) := by decide +kernel
theorem dX1_renew_31 : decode cX1_renew 31 = .ok (.iaload, 1) := by decide +kernel
theorem dX1_renew_32 : decode cX1_renew 32 = .ok (.iaload, 1) := by decide +kernel
theorem dX1_renew_33 : decode cX1_renew 33 = .ok (.iadd, 1) := by decide +kernel
theorem dX1_renew_34 : decode cX1_renew 34 = .ok (.iastore, 1) := by decide +kernel
theorem dX1_renew_35 : decode cX1_renew 35 = .ok (.aload_n 0, 1) := by decide +kernel
theorem dX1_renew_36 : decode cX1_renew 36 = .ok (.getfield 28, 3) := by decide +kernel
theorem dX1_renew_39 : decode cX1_renew 39 = .ok (.iload_n 2, 1) := by decide +kernel
theorem dX1_renew_40 : decode cX1_renew 40 = .ok (.iaload, 1) := by decide +kernel
theorem dX1_renew_41 : decode cX1_renew 41 = .ok (.ireturn, 1) := by decide +kernel
theorem dX1_pass_0 : decode cX1_pass 0 = .ok (.iload_n 1, 1) := by decide +kernel
theorem dX1_pass_1 : decode cX1_pass 1 = .ok (.ifCond .lt 9, 3) := by decide +kernel
theorem dX1_pass_4 : decode cX1_pass 4 = .ok (.iload_n 1, 1) := by decide +kernel
theorem dX1_pass_5 : decode cX1_pass 5 = .ok (.bipush 100, 2) := by decide +kernel
theorem dX1_pass_7 : decode cX1_pass 7 = .ok (.if_icmp .le 6, 3) := by decide +kernel
theorem dX1_pass_10 : decode cX1_pass 10 = .ok (.bipush (-3), 2) := by decide +kernel
theorem dX1_pass_12 : decode cX1_pass 12 = .ok (.ireturn, 1) := by decide +kernel
theorem dX1_pass_13 : decode cX1_pass 13 = .ok (.aload_n 0, 1) := by decide +kernel
theorem dX1_pass_14 : decode cX1_pass 14 = .ok (.dup, 1) := by decide +kernel
theorem dX1_pass_15 : decode cX1_pass 15 = .ok (.getfield 48, 3) := by decide +kernel
theorem dX1_pass_18 : decode cX1_pass 18 = .ok (.iload_n 1, 1) := by decide +kernel
theorem dX1_pass_19 : decode cX1_pass 19 = .ok (.iadd, 1) := by decide +kernel
theorem dX1_pass_20 : decode cX1_pass 20 = .ok (.putfield 48, 3) := by decide +kernel
theorem dX1_pass_23 : decode cX1_pass 23 = .ok (.iconst 0, 1) := by decide +kernel
theorem dX1_pass_24 : decode cX1_pass 24 = .ok (.istore_n 2, 1) := by decide +kernel
theorem dX1_pass_25 : decode cX1_pass 25 = .ok (.iconst 0, 1) := by decide +kernel
theorem dX1_pass_26 : decode cX1_pass 26 = .ok (.istore_n 3, 1) := by decide +kernel
theorem dX1_pass_27 : decode cX1_pass 27 = .ok (.iload_n 3, 1) := by decide +kernel
theorem dX1_pass_28 : decode cX1_pass 28 = .ok (.aload_n 0, 1) := by decide +kernel
theorem dX1_pass_29 : decode cX1_pass 29 = .ok (.getfield 44, 3) := by decide +kernel
theorem dX1_pass_32 : decode cX1_pass 32 = .ok (.if_icmp .ge 40, 3) := by decide +kernel
theorem dX1_pass_35 : decode cX1_pass 35 = .ok (.aload_n 0, 1) := by decide +kernel
theorem dX1_pass_36 : decode cX1_pass 36 = .ok (.getfield 19, 3) := by decide +kernel
theorem dX1_pass_39 : decode cX1_pass 39 = .ok (.iload_n 3, 1) := by decide +kernel
theorem dX1_pass_40 : decode cX1_pass 40 = .ok (.iaload, 1) := by decide +kernel
theorem dX1_pass_41 : decode cX1_pass 41 = .ok (.iconst 1, 1) := by decide +kernel
theorem dX1_pass_42 : decode cX1_pass 42 = .ok (.if_icmp .ne 24, 3) := by decide +kernel
theorem dX1_pass_45 : decode cX1_pass 45 = .ok (.aload_n 0, 1) := by decide +kernel
theorem dX1_pass_46 : decode cX1_pass 46 = .ok (.getfield 28, 3) := by decide +kernel
theorem dX1_pass_49 : decode cX1_pass 49 = .ok (.iload_n 3, 1) := by decide +kernel
theorem dX1_pass_50 : decode cX1_pass 50 = .ok (.iaload, 1) := by decide +kernel
theorem dX1_pass_51 : decode cX1_pass 51 = .ok (.aload_n 0, 1) := by decide +kernel
theorem dX1_pass_52 : decode cX1_pass 52 = .ok (.getfield 48, 3) := by decide +kernel
theorem dX1_pass_55 : decode cX1_pass 55 = .ok (.if_icmp .gt 11, 3) := by decide +kernel
theorem dX1_pass_58 : decode cX1_pass 58 = .ok (.aload_n 0, 1) := by decide +kernel
theorem dX1_pass_59 : decode cX1_pass 59 = .ok (.iload_n 3, 1) := by decide +kernel
theorem dX1_pass_60 : decode cX1_pass 60 = .ok (.invokevirtual 62, 3) := by decide +kernel
theorem dX1_pass_63 : decode cX1_pass 63 = .ok (.iinc 2 1, 3) := by decide +kernel
theorem dX1_pass_66 : decode cX1_pass 66 = .ok (.iinc 3 1, 3) := by decide +kernel
theorem dX1_pass_69 : decode cX1_pass 69 = .ok (.goto (-42), 3) := by decide +kernel
theorem dX1_pass_72 : decode cX1_pass 72 = .ok (.iconst 0, 1) := by decide +kernel
theorem dX1_pass_73 : decode cX1_pass 73 = .ok (.istore_n 3, 1) := by decide +kernel
theorem dX1_pass_74 : decode cX1_pass 74 = .ok (.iload_n 3, 1) := by decide +kernel
theorem dX1_pass_75 : decode cX1_pass 75 = .ok (.aload_n 0, 1) := by decide +kernel
theorem dX1_pass_76 : decode cX1_pass 76 = .ok (.getfield 44, 3) := by decide +kernel
theorem dX1_pass_79 : decode cX1_pass 79 = .ok (.if_icmp .ge 47, 3) := by decide +kernel
theorem dX1_pass_82 : decode cX1_pass 82 = .ok (.aload_n 0, 1) := by decide +kernel
theorem dX1_pass_83 : decode cX1_pass 83 = .ok (.getfield 19, 3) := by decide +kernel
theorem dX1_pass_86 : decode cX1_pass 86 = .ok (.iload_n 3, 1) := by decide +kernel
theorem dX1_pass_87 : decode cX1_pass 87 = .ok (.iaload, 1) := by decide +kernel
theorem dX1_pass_88 : decode cX1_pass 88 = .ok (.ifCond .ne 32, 3) := by decide +kernel
theorem dX1_pass_91 : decode cX1_pass 91 = .ok (.aload_n 0, 1) := by decide +kernel
theorem dX1_pass_92 : decode cX1_pass 92 = .ok (.getfield 31, 3) := by decide +kernel
theorem dX1_pass_95 : decode cX1_pass 95 = .ok (.iload_n 3, 1) := by decide +kernel
theorem dX1_pass_96 : decode cX1_pass 96 = .ok (.iaload, 1) := by decide +kernel
theorem dX1_pass_97 : decode cX1_pass 97 = .ok (.ifCond .lt 23, 3) := by decide +kernel
theorem dX1_pass_100 : decode cX1_pass 100 = .ok (.aload_n 0, 1) := by decide +kernel
theorem dX1_pass_101 : decode cX1_pass 101 = .ok (.getfield 31, 3) := by decide +kernel
theorem dX1_pass_104 : decode cX1_pass 104 = .ok (.iload_n 3, 1) := by decide +kernel
theorem dX1_pass_105 : decode cX1_pass 105 = .ok (.iaload, 1) := by decide +kernel
theorem dX1_pass_106 : decode cX1_pass 106 = .ok (.aload_n 0, 1) := by decide +kernel
theorem dX1_pass_107 : decode cX1_pass 107 = .ok (.getfield 48, 3) := by decide +kernel
theorem dX1_pass_110 : decode cX1_pass 110 = .ok (.if_icmp .gt 10, 3) := by decide +kernel
theorem dX1_pass_113 : decode cX1_pass 113 = .ok (.aload_n 0, 1) := by decide +kernel
theorem dX1_pass_114 : decode cX1_pass 114 = .ok (.getfield 19, 3) := by decide +kernel
theorem dX1_pass_117 : decode cX1_pass 117 = .ok (.iload_n 3, 1) := by decide +kernel
theorem dX1_pass_118 : decode cX1_pass 118 = .ok (.iconst 2, 1) := by decide +kernel
theorem dX1_pass_119 : decode cX1_pass 119 = .ok (.iastore, 1) := by decide +kernel
theorem dX1_pass_120 : decode cX1_pass 120 = .ok (.iinc 3 1, 3) := by decide +kernel
theorem dX1_pass_123 : decode cX1_pass 123 = .ok (.goto (-49), 3) := by decide +kernel
theorem dX1_pass_126 : decode cX1_pass 126 = .ok (.iload_n 2, 1) := by decide +kernel
theorem dX1_pass_127 : decode cX1_pass 127 = .ok (.ireturn, 1) := by decide +kernel
theorem dX1_tune_0 : decode cX1_tune 0 = .ok (.aload_n 0, 1) := by decide +kernel
theorem dX1_tune_1 : decode cX1_tune 1 = .ok (.iload_n 1, 1) := by decide +kernel
theorem dX1_tune_2 : decode cX1_tune 2 = .ok (.invokevirtual 40, 3) := by decide +kernel
theorem dX1_tune_5 : decode cX1_tune 5 = .ok (.ifCond .ne 5, 3) := by decide +kernel
theorem dX1_tune_8 : decode cX1_tune 8 = .ok (.iconst (-1), 1) := by decide +kernel
theorem dX1_tune_9 : decode cX1_tune 9 = .ok (.ireturn, 1) := by decide +kernel
theorem dX1_tune_10 : decode cX1_tune 10 = .ok (.iload_n 2, 1) := by decide +kernel
theorem dX1_tune_11 : decode cX1_tune 11 = .ok (.iconst 1, 1) := by decide +kernel
theorem dX1_tune_12 : decode cX1_tune 12 = .ok (.if_icmp .lt 19, 3) := by decide +kernel
theorem dX1_tune_15 : decode cX1_tune 15 = .ok (.iload_n 2, 1) := by decide +kernel
theorem dX1_tune_16 : decode cX1_tune 16 = .ok (.bipush 20, 2) := by decide +kernel
theorem dX1_tune_18 : decode cX1_tune 18 = .ok (.if_icmp .gt 13, 3) := by decide +kernel
theorem dX1_tune_21 : decode cX1_tune 21 = .ok (.iload_n 3, 1) := by decide +kernel
theorem dX1_tune_22 : decode cX1_tune 22 = .ok (.iconst 1, 1) := by decide +kernel
theorem dX1_tune_23 : decode cX1_tune 23 = .ok (.if_icmp .lt 8, 3) := by decide +kernel
theorem dX1_tune_26 : decode cX1_tune 26 = .ok (.iload_n 3, 1) := by decide +kernel
theorem dX1_tune_27 : decode cX1_tune 27 = .ok (.iconst 5, 1) := by decide +kernel
theorem dX1_tune_28 : decode cX1_tune 28 = .ok (.if_icmp .le 6, 3) := by decide +kernel
theorem dX1_tune_31 : decode cX1_tune 31 = .ok (.bipush (-3), 2) := by decide +kernel
theorem dX1_tune_33 : decode cX1_tune 33 = .ok (.ireturn, 1) := by decide +kernel
theorem dX1_tune_34 : decode cX1_tune 34 = .ok (.aload_n 0, 1) := by decide +kernel
theorem dX1_tune_35 : decode cX1_tune 35 = .ok (.getfield 34, 3) := by decide +kernel
theorem dX1_tune_38 : decode cX1_tune 38 = .ok (.iload_n 1, 1) := by decide +kernel
theorem dX1_tune_39 : decode cX1_tune 39 = .ok (.iload_n 2, 1) := by decide +kernel
theorem dX1_tune_40 : decode cX1_tune 40 = .ok (.iastore, 1) := by decide +kernel
theorem dX1_tune_41 : decode cX1_tune 41 = .ok (.aload_n 0, 1) := by decide +kernel
theorem dX1_tune_42 : decode cX1_tune 42 = .ok (.getfield 37, 3) := by decide +kernel
theorem dX1_tune_45 : decode cX1_tune 45 = .ok (.iload_n 1, 1) := by decide +kernel
theorem dX1_tune_46 : decode cX1_tune 46 = .ok (.iload_n 3, 1) := by decide +kernel
theorem dX1_tune_47 : decode cX1_tune 47 = .ok (.iastore, 1) := by decide +kernel
theorem dX1_tune_48 : decode cX1_tune 48 = .ok (.iconst 0, 1) := by decide +kernel
theorem dX1_tune_49 : decode cX1_tune 49 = .ok (.ireturn, 1) := by decide +kernel
theorem dX1_revive_0 : decode cX1_revive 0 = .ok (.aload_n 0, 1) := by decide +kernel
theorem dX1_revive_1 : decode cX1_revive 1 = .ok (.iload_n 1, 1) := by decide +kernel
theorem dX1_revive_2 : decode cX1_revive 2 = .ok (.invokevirtual 40, 3) := by decide +kernel
theorem dX1_revive_5 : decode cX1_revive 5 = .ok (.ifCond .ne 5, 3) := by decide +kernel
theorem dX1_revive_8 : decode cX1_revive 8 = .ok (.iconst (-1), 1) := by decide +kernel
theorem dX1_revive_9 : decode cX1_revive 9 = .ok (.ireturn, 1) := by decide +kernel
theorem dX1_revive_10 : decode cX1_revive 10 = .ok (.iconst 0, 1) := by decide +kernel
theorem dX1_revive_11 : decode cX1_revive 11 = .ok (.istore_n 2, 1) := by decide +kernel
theorem dX1_revive_12 : decode cX1_revive 12 = .ok (.iconst 0, 1) := by decide +kernel
theorem dX1_revive_13 : decode cX1_revive 13 = .ok (.istore_n 3, 1) := by decide +kernel
theorem dX1_revive_14 : decode cX1_revive 14 = .ok (.iload_n 3, 1) := by decide +kernel
theorem dX1_revive_15 : decode cX1_revive 15 = .ok (.aload_n 0, 1) := by decide +kernel
theorem dX1_revive_16 : decode cX1_revive 16 = .ok (.getfield 44, 3) := by decide +kernel
theorem dX1_revive_19 : decode cX1_revive 19 = .ok (.if_icmp .ge 46, 3) := by decide +kernel
theorem dX1_revive_22 : decode cX1_revive 22 = .ok (.aload_n 0, 1) := by decide +kernel
theorem dX1_revive_23 : decode cX1_revive 23 = .ok (.getfield 7, 3) := by decide +kernel
theorem dX1_revive_26 : decode cX1_revive 26 = .ok (.iload_n 3, 1) := by decide +kernel
theorem dX1_revive_27 : decode cX1_revive 27 = .ok (.iaload, 1) := by decide +kernel
theorem dX1_revive_28 : decode cX1_revive 28 = .ok (.iload_n 1, 1) := by decide +kernel
theorem dX1_revive_29 : decode cX1_revive 29 = .ok (.if_icmp .ne 30, 3) := by decide +kernel
theorem dX1_revive_32 : decode cX1_revive 32 = .ok (.aload_n 0, 1) := by decide +kernel
theorem dX1_revive_33 : decode cX1_revive 33 = .ok (.getfield 19, 3) := by decide +kernel
theorem dX1_revive_36 : decode cX1_revive 36 = .ok (.iload_n 3, 1) := by decide +kernel
theorem dX1_revive_37 : decode cX1_revive 37 = .ok (.iaload, 1) := by decide +kernel
theorem dX1_revive_38 : decode cX1_revive 38 = .ok (.iconst 3, 1) := by decide +kernel
theorem dX1_revive_39 : decode cX1_revive 39 = .ok (.if_icmp .ne 20, 3) := by decide +kernel
theorem dX1_revive_42 : decode cX1_revive 42 = .ok (.aload_n 0, 1) := by decide +kernel
theorem dX1_revive_43 : decode cX1_revive 43 = .ok (.getfield 19, 3) := by decide +kernel
theorem dX1_revive_46 : decode cX1_revive 46 = .ok (.iload_n 3, 1) := by decide +kernel
theorem dX1_revive_47 : decode cX1_revive 47 = .ok (.iconst 0, 1) := by decide +kernel
theorem dX1_revive_48 : decode cX1_revive 48 = .ok (.iastore, 1) := by decide +kernel
theorem dX1_revive_49 : decode cX1_revive 49 = .ok (.aload_n 0, 1) := by decide +kernel
theorem dX1_revive_50 : decode cX1_revive 50 = .ok (.getfield 22, 3) := by decide +kernel
theorem dX1_revive_53 : decode cX1_revive 53 = .ok (.iload_n 3, 1) := by decide +kernel
theorem dX1_revive_54 : decode cX1_revive 54 = .ok (.iconst 0, 1) := by decide +kernel
theorem dX1_revive_55 : decode cX1_revive 55 = .ok (.iastore, 1) := by decide +kernel
theorem dX1_revive_56 : decode cX1_revive 56 = .ok (.iinc 2 1, 3) := by decide +kernel
theorem dX1_revive_59 : decode cX1_revive 59 = .ok (.iinc 3 1, 3) := by decide +kernel
theorem dX1_revive_62 : decode cX1_revive 62 = .ok (.goto (-48), 3) := by decide +kernel
theorem dX1_revive_65 : decode cX1_revive 65 = .ok (.iload_n 2, 1) := by decide +kernel
theorem dX1_revive_66 : decode cX1_revive 66 = .ok (.ireturn, 1) := by decide +kernel
theorem dX1_clear_0 : decode cX1_clear 0 = .ok (.aload_n 0, 1) := by decide +kernel
theorem dX1_clear_1 : decode cX1_clear 1 = .ok (.iconst 0, 1) := by decide +kernel
theorem dX1_clear_2 : decode cX1_clear 2 = .ok (.putfield 44, 3) := by decide +kernel
theorem dX1_clear_5 : decode cX1_clear 5 = .ok (.return_, 1) := by decide +kernel
theorem dX1_state_0 : decode cX1_state 0 = .ok (.iload_n 1, 1) := by decide +kernel
theorem dX1_state_1 : decode cX1_state 1 = .ok (.ifCond .lt 20, 3) := by decide +kernel
theorem dX1_state_4 : decode cX1_state 4 = .ok (.iload_n 1, 1) := by decide +kernel
theorem dX1_state_5 : decode cX1_state 5 = .ok (.aload_n 0, 1) := by decide +kernel
theorem dX1_state_6 : decode cX1_state 6 = .ok (.getfield 44, 3) := by decide +kernel
theorem dX1_state_9 : decode cX1_state 9 = .ok (.if_icmp .ge 12, 3) := by decide +kernel
theorem dX1_state_12 : decode cX1_state 12 = .ok (.aload_n 0, 1) := by decide +kernel
theorem dX1_state_13 : decode cX1_state 13 = .ok (.getfield 19, 3) := by decide +kernel
theorem dX1_state_16 : decode cX1_state 16 = .ok (.iload_n 1, 1) := by decide +kernel
theorem dX1_state_17 : decode cX1_state 17 = .ok (.iaload, 1) := by decide +kernel
theorem dX1_state_18 : decode cX1_state 18 = .ok (.goto 5, 3) := by decide +kernel
theorem dX1_state_21 : decode cX1_state 21 = .ok (.bipush (-3), 2) := by decide +kernel
theorem dX1_state_23 : decode cX1_state 23 = .ok (.ireturn, 1) := by decide +kernel
theorem dX1_ready_0 : decode cX1_ready 0 = .ok (.aload_n 0, 1) := by decide +kernel
theorem dX1_ready_1 : decode cX1_ready 1 = .ok (.iload_n 1, 1) := by decide +kernel
theorem dX1_ready_2 : decode cX1_ready 2 = .ok (.invokevirtual 40, 3) := by decide +kernel
theorem dX1_ready_5 : decode cX1_ready 5 = .ok (.ifCond .ne 5, 3) := by decide +kernel
theorem dX1_ready_8 : decode cX1_ready 8 = .ok (.iconst (-1), 1) := by decide +kernel
theorem dX1_ready_9 : decode cX1_ready 9 = .ok (.ireturn, 1) := by decide +kernel
theorem dX1_ready_10 : decode cX1_ready 10 = .ok (.iconst 0, 1) := by decide +kernel
theorem dX1_ready_11 : decode cX1_ready 11 = .ok (.istore_n 2, 1) := by decide +kernel
theorem dX1_ready_12 : decode cX1_ready 12 = .ok (.iconst 0, 1) := by decide +kernel
theorem dX1_ready_13 : decode cX1_ready 13 = .ok (.istore_n 3, 1) := by decide +kernel
theorem dX1_ready_14 : decode cX1_ready 14 = .ok (.iload_n 3, 1) := by decide +kernel
theorem dX1_ready_15 : decode cX1_ready 15 = .ok (.aload_n 0, 1) := by decide +kernel
theorem dX1_ready_16 : decode cX1_ready 16 = .ok (.getfield 44, 3) := by decide +kernel
theorem dX1_ready_19 : decode cX1_ready 19 = .ok (.if_icmp .ge 21, 3) := by decide +kernel
theorem dX1_ready_22 : decode cX1_ready 22 = .ok (.aload_n 0, 1) := by decide +kernel
theorem dX1_ready_23 : decode cX1_ready 23 = .ok (.iload_n 3, 1) := by decide +kernel
theorem dX1_ready_24 : decode cX1_ready 24 = .ok (.iload_n 1, 1) := by decide +kernel
theorem dX1_ready_25 : decode cX1_ready 25 = .ok (.invokevirtual 66, 3) := by decide +kernel
theorem dX1_ready_28 : decode cX1_ready 28 = .ok (.ifCond .eq 6, 3) := by decide +kernel
theorem dX1_ready_31 : decode cX1_ready 31 = .ok (.iinc 2 1, 3) := by decide +kernel
theorem dX1_ready_34 : decode cX1_ready 34 = .ok (.iinc 3 1, 3) := by decide +kernel
theorem dX1_ready_37 : decode cX1_ready 37 = .ok (.goto (-23), 3) := by decide +kernel
theorem dX1_ready_40 : decode cX1_ready 40 = .ok (.iload_n 2, 1) := by decide +kernel
theorem dX1_ready_41 : decode cX1_ready 41 = .ok (.ireturn, 1) := by decide +kernel
theorem dX1_nextDeadline_0 : decode cX1_nextDeadline 0 = .ok (.bipush (-5), 2) := by decide +kernel
theorem dX1_nextDeadline_2 : decode cX1_nextDeadline 2 = .ok (.istore_n 1, 1) := by decide +kernel
theorem dX1_nextDeadline_3 : decode cX1_nextDeadline 3 = .ok (.iconst 0, 1) := by decide +kernel
theorem dX1_nextDeadline_4 : decode cX1_nextDeadline 4 = .ok (.istore_n 2, 1) := by decide +kernel
theorem dX1_nextDeadline_5 : decode cX1_nextDeadline 5 = .ok (.iload_n 2, 1) := by decide +kernel
theorem dX1_nextDeadline_6 : decode cX1_nextDeadline 6 = .ok (.aload_n 0, 1) := by decide +kernel
theorem dX1_nextDeadline_7 : decode cX1_nextDeadline 7 = .ok (.getfield 44, 3) := by decide +kernel
theorem dX1_nextDeadline_10 : decode cX1_nextDeadline 10 = .ok (.if_icmp .ge 42, 3) := by decide +kernel
theorem dX1_nextDeadline_13 : decode cX1_nextDeadline 13 = .ok (.aload_n 0, 1) := by decide +kernel
theorem dX1_nextDeadline_14 : decode cX1_nextDeadline 14 = .ok (.getfield 19, 3) := by decide +kernel
theorem dX1_nextDeadline_17 : decode cX1_nextDeadline 17 = .ok (.iload_n 2, 1) := by decide +kernel
theorem dX1_nextDeadline_18 : decode cX1_nextDeadline 18 = .ok (.iaload, 1) := by decide +kernel
theorem dX1_nextDeadline_19 : decode cX1_nextDeadline 19 = .ok (.iconst 1, 1) := by decide +kernel
theorem dX1_nextDeadline_20 : decode cX1_nextDeadline 20 = .ok (.if_icmp .ne 26, 3) := by decide +kernel
theorem dX1_nextDeadline_23 : decode cX1_nextDeadline 23 = .ok (.iload_n 1, 1) := by decide +kernel
theorem dX1_nextDeadline_24 : decode cX1_nextDeadline 24 = .ok (.bipush (-5), 2) := by decide +kernel
theorem dX1_nextDeadline_26 : decode cX1_nextDeadline 26 = .ok (.if_icmp .eq 13, 3) := by decide +kernel
theorem dX1_nextDeadline_29 : decode cX1_nextDeadline 29 = .ok (.aload_n 0, 1) := by decide +kernel
theorem dX1_nextDeadline_30 : decode cX1_nextDeadline 30 = .ok (.getfield 28, 3) := by decide +kernel
theorem dX1_nextDeadline_33 : decode cX1_nextDeadline 33 = .ok (.iload_n 2, 1) := by decide +kernel
theorem dX1_nextDeadline_34 : decode cX1_nextDeadline 34 = .ok (.iaload, 1) := by decide +kernel
theorem dX1_nextDeadline_35 : decode cX1_nextDeadline 35 = .ok (.iload_n 1, 1) := by decide +kernel
theorem dX1_nextDeadline_36 : decode cX1_nextDeadline 36 = .ok (.if_icmp .ge 10, 3) := by decide +kernel
theorem dX1_nextDeadline_39 : decode cX1_nextDeadline 39 = .ok (.aload_n 0, 1) := by decide +kernel
theorem dX1_nextDeadline_40 : decode cX1_nextDeadline 40 = .ok (.getfield 28, 3) := by decide +kernel
theorem dX1_nextDeadline_43 : decode cX1_nextDeadline 43 = .ok (.iload_n 2, 1) := by decide +kernel
theorem dX1_nextDeadline_44 : decode cX1_nextDeadline 44 = .ok (.iaload, 1) := by decide +kernel
theorem dX1_nextDeadline_45 : decode cX1_nextDeadline 45 = .ok (.istore_n 1, 1) := by decide +kernel
theorem dX1_nextDeadline_46 : decode cX1_nextDeadline 46 = .ok (.iinc 2 1, 3) := by decide +kernel
theorem dX1_nextDeadline_49 : decode cX1_nextDeadline 49 = .ok (.goto (-44), 3) := by decide +kernel
theorem dX1_nextDeadline_52 : decode cX1_nextDeadline 52 = .ok (.iload_n 1, 1) := by decide +kernel
theorem dX1_nextDeadline_53 : decode cX1_nextDeadline 53 = .ok (.ireturn, 1) := by decide +kernel
theorem dX1_sum_0 : decode cX1_sum 0 = .ok (.iconst 0, 1) := by decide +kernel
theorem dX1_sum_1 : decode cX1_sum 1 = .ok (.istore_n 2, 1) := by decide +kernel
theorem dX1_sum_2 : decode cX1_sum 2 = .ok (.iconst 0, 1) := by decide +kernel
theorem dX1_sum_3 : decode cX1_sum 3 = .ok (.istore_n 3, 1) := by decide +kernel
theorem dX1_sum_4 : decode cX1_sum 4 = .ok (.iload_n 3, 1) := by decide +kernel
theorem dX1_sum_5 : decode cX1_sum 5 = .ok (.aload_n 0, 1) := by decide +kernel
theorem dX1_sum_6 : decode cX1_sum 6 = .ok (.getfield 44, 3) := by decide +kernel
theorem dX1_sum_9 : decode cX1_sum 9 = .ok (.if_icmp .ge 28, 3) := by decide +kernel
theorem dX1_sum_12 : decode cX1_sum 12 = .ok (.aload_n 0, 1) := by decide +kernel
theorem dX1_sum_13 : decode cX1_sum 13 = .ok (.getfield 19, 3) := by decide +kernel
theorem dX1_sum_16 : decode cX1_sum 16 = .ok (.iload_n 3, 1) := by decide +kernel
theorem dX1_sum_17 : decode cX1_sum 17 = .ok (.iaload, 1) := by decide +kernel
theorem dX1_sum_18 : decode cX1_sum 18 = .ok (.iload_n 1, 1) := by decide +kernel
theorem dX1_sum_19 : decode cX1_sum 19 = .ok (.if_icmp .ne 12, 3) := by decide +kernel
theorem dX1_sum_22 : decode cX1_sum 22 = .ok (.iload_n 2, 1) := by decide +kernel
theorem dX1_sum_23 : decode cX1_sum 23 = .ok (.aload_n 0, 1) := by decide +kernel
theorem dX1_sum_24 : decode cX1_sum 24 = .ok (.getfield 13, 3) := by decide +kernel
theorem dX1_sum_27 : decode cX1_sum 27 = .ok (.iload_n 3, 1) := by decide +kernel
theorem dX1_sum_28 : decode cX1_sum 28 = .ok (.iaload, 1) := by decide +kernel
theorem dX1_sum_29 : decode cX1_sum 29 = .ok (.iadd, 1) := by decide +kernel
theorem dX1_sum_30 : decode cX1_sum 30 = .ok (.istore_n 2, 1) := by decide +kernel
theorem dX1_sum_31 : decode cX1_sum 31 = .ok (.iinc 3 1, 3) := by decide +kernel
theorem dX1_sum_34 : decode cX1_sum 34 = .ok (.goto (-30), 3) := by decide +kernel
theorem dX1_sum_37 : decode cX1_sum 37 = .ok (.iload_n 2, 1) := by decide +kernel
theorem dX1_sum_38 : decode cX1_sum 38 = .ok (.ireturn, 1) := by decide +kernel
end
section
/-! the law's own entry -/
set_option maxRecDepth 100000
abbrev cL_law : ByteArray := code
theorem dL_law_0 : decode cL_law 0 = .ok (.new 7, 3) := by decide +kernel
theorem dL_law_3 : decode cL_law 3 = .ok (.dup, 1) := by decide +kernel
theorem dL_law_4 : decode cL_law 4 = .ok (.invokespecial 9, 3) := by decide +kernel
theorem dL_law_7 : decode cL_law 7 = .ok (.astore_n 1, 1) := by decide +kernel
theorem dL_law_8 : decode cL_law 8 = .ok (.new 10, 3) := by decide +kernel
theorem dL_law_11 : decode cL_law 11 = .ok (.dup, 1) := by decide +kernel
theorem dL_law_12 : decode cL_law 12 = .ok (.invokespecial 12, 3) := by decide +kernel
theorem dL_law_15 : decode cL_law 15 = .ok (.astore_n 2, 1) := by decide +kernel
theorem dL_law_16 : decode cL_law 16 = .ok (.iconst 0, 1) := by decide +kernel
theorem dL_law_17 : decode cL_law 17 = .ok (.istore_n 3, 1) := by decide +kernel
theorem dL_law_18 : decode cL_law 18 = .ok (.iload_n 3, 1) := by decide +kernel
theorem dL_law_19 : decode cL_law 19 = .ok (.aload_n 0, 1) := by decide +kernel
theorem dL_law_20 : decode cL_law 20 = .ok (.arraylength, 1) := by decide +kernel
theorem dL_law_21 : decode cL_law 21 = .ok (.iconst 5, 1) := by decide +kernel
theorem dL_law_22 : decode cL_law 22 = .ok (.isub, 1) := by decide +kernel
theorem dL_law_23 : decode cL_law 23 = .ok (.if_icmp .gt 514, 3) := by decide +kernel
theorem dL_law_26 : decode cL_law 26 = .ok (.aload_n 0, 1) := by decide +kernel
theorem dL_law_27 : decode cL_law 27 = .ok (.iload_n 3, 1) := by decide +kernel
theorem dL_law_28 : decode cL_law 28 = .ok (.iaload, 1) := by decide +kernel
theorem dL_law_29 : decode cL_law 29 = .ok (.bipush 15, 2) := by decide +kernel
theorem dL_law_31 : decode cL_law 31 = .ok (.iand, 1) := by decide +kernel
theorem dL_law_32 : decode cL_law 32 = .ok (.tableswitch 499 0 14 #[76, 129, 162, 195, 228, 251, 284, 307, 350, 373, 384, 407, 430, 463, 476], 76) := by decide +kernel
theorem dL_law_108 : decode cL_law 108 = .ok (.aload_n 1, 1) := by decide +kernel
theorem dL_law_109 : decode cL_law 109 = .ok (.aload_n 0, 1) := by decide +kernel
theorem dL_law_110 : decode cL_law 110 = .ok (.iload_n 3, 1) := by decide +kernel
theorem dL_law_111 : decode cL_law 111 = .ok (.iconst 1, 1) := by decide +kernel
theorem dL_law_112 : decode cL_law 112 = .ok (.iadd, 1) := by decide +kernel
theorem dL_law_113 : decode cL_law 113 = .ok (.iaload, 1) := by decide +kernel
theorem dL_law_114 : decode cL_law 114 = .ok (.aload_n 0, 1) := by decide +kernel
theorem dL_law_115 : decode cL_law 115 = .ok (.iload_n 3, 1) := by decide +kernel
theorem dL_law_116 : decode cL_law 116 = .ok (.iconst 2, 1) := by decide +kernel
theorem dL_law_117 : decode cL_law 117 = .ok (.iadd, 1) := by decide +kernel
theorem dL_law_118 : decode cL_law 118 = .ok (.iaload, 1) := by decide +kernel
theorem dL_law_119 : decode cL_law 119 = .ok (.aload_n 0, 1) := by decide +kernel
theorem dL_law_120 : decode cL_law 120 = .ok (.iload_n 3, 1) := by decide +kernel
theorem dL_law_121 : decode cL_law 121 = .ok (.iconst 3, 1) := by decide +kernel
theorem dL_law_122 : decode cL_law 122 = .ok (.iadd, 1) := by decide +kernel
theorem dL_law_123 : decode cL_law 123 = .ok (.iaload, 1) := by decide +kernel
theorem dL_law_124 : decode cL_law 124 = .ok (.aload_n 0, 1) := by decide +kernel
theorem dL_law_125 : decode cL_law 125 = .ok (.iload_n 3, 1) := by decide +kernel
theorem dL_law_126 : decode cL_law 126 = .ok (.iconst 4, 1) := by decide +kernel
theorem dL_law_127 : decode cL_law 127 = .ok (.iadd, 1) := by decide +kernel
theorem dL_law_128 : decode cL_law 128 = .ok (.iaload, 1) := by decide +kernel
theorem dL_law_129 : decode cL_law 129 = .ok (.invokevirtual 13, 3) := by decide +kernel
theorem dL_law_132 : decode cL_law 132 = .ok (.aload_n 2, 1) := by decide +kernel
theorem dL_law_133 : decode cL_law 133 = .ok (.aload_n 0, 1) := by decide +kernel
theorem dL_law_134 : decode cL_law 134 = .ok (.iload_n 3, 1) := by decide +kernel
theorem dL_law_135 : decode cL_law 135 = .ok (.iconst 1, 1) := by decide +kernel
theorem dL_law_136 : decode cL_law 136 = .ok (.iadd, 1) := by decide +kernel
theorem dL_law_137 : decode cL_law 137 = .ok (.iaload, 1) := by decide +kernel
theorem dL_law_138 : decode cL_law 138 = .ok (.aload_n 0, 1) := by decide +kernel
theorem dL_law_139 : decode cL_law 139 = .ok (.iload_n 3, 1) := by decide +kernel
theorem dL_law_140 : decode cL_law 140 = .ok (.iconst 2, 1) := by decide +kernel
theorem dL_law_141 : decode cL_law 141 = .ok (.iadd, 1) := by decide +kernel
theorem dL_law_142 : decode cL_law 142 = .ok (.iaload, 1) := by decide +kernel
theorem dL_law_143 : decode cL_law 143 = .ok (.aload_n 0, 1) := by decide +kernel
theorem dL_law_144 : decode cL_law 144 = .ok (.iload_n 3, 1) := by decide +kernel
theorem dL_law_145 : decode cL_law 145 = .ok (.iconst 3, 1) := by decide +kernel
theorem dL_law_146 : decode cL_law 146 = .ok (.iadd, 1) := by decide +kernel
theorem dL_law_147 : decode cL_law 147 = .ok (.iaload, 1) := by decide +kernel
theorem dL_law_148 : decode cL_law 148 = .ok (.aload_n 0, 1) := by decide +kernel
theorem dL_law_149 : decode cL_law 149 = .ok (.iload_n 3, 1) := by decide +kernel
theorem dL_law_150 : decode cL_law 150 = .ok (.iconst 4, 1) := by decide +kernel
theorem dL_law_151 : decode cL_law 151 = .ok (.iadd, 1) := by decide +kernel
theorem dL_law_152 : decode cL_law 152 = .ok (.iaload, 1) := by decide +kernel
theorem dL_law_153 : decode cL_law 153 = .ok (.invokevirtual 17, 3) := by decide +kernel
theorem dL_law_156 : decode cL_law 156 = .ok (.if_icmp .eq 375, 3) := by decide +kernel
theorem dL_law_159 : decode cL_law 159 = .ok (.iconst 0, 1) := by decide +kernel
theorem dL_law_160 : decode cL_law 160 = .ok (.ireturn, 1) := by decide +kernel
theorem dL_law_161 : decode cL_law 161 = .ok (.aload_n 1, 1) := by decide +kernel
theorem dL_law_162 : decode cL_law 162 = .ok (.aload_n 0, 1) := by decide +kernel
theorem dL_law_163 : decode cL_law 163 = .ok (.iload_n 3, 1) := by decide +kernel
theorem dL_law_164 : decode cL_law 164 = .ok (.iconst 1, 1) := by decide +kernel
theorem dL_law_165 : decode cL_law 165 = .ok (.iadd, 1) := by decide +kernel
theorem dL_law_166 : decode cL_law 166 = .ok (.iaload, 1) := by decide +kernel
theorem dL_law_167 : decode cL_law 167 = .ok (.aload_n 0, 1) := by decide +kernel
theorem dL_law_168 : decode cL_law 168 = .ok (.iload_n 3, 1) := by decide +kernel
theorem dL_law_169 : decode cL_law 169 = .ok (.iconst 2, 1) := by decide +kernel
theorem dL_law_170 : decode cL_law 170 = .ok (.iadd, 1) := by decide +kernel
theorem dL_law_171 : decode cL_law 171 = .ok (.iaload, 1) := by decide +kernel
theorem dL_law_172 : decode cL_law 172 = .ok (.invokevirtual 18, 3) := by decide +kernel
theorem dL_law_175 : decode cL_law 175 = .ok (.aload_n 2, 1) := by decide +kernel
theorem dL_law_176 : decode cL_law 176 = .ok (.aload_n 0, 1) := by decide +kernel
theorem dL_law_177 : decode cL_law 177 = .ok (.iload_n 3, 1) := by decide +kernel
theorem dL_law_178 : decode cL_law 178 = .ok (.iconst 1, 1) := by decide +kernel
theorem dL_law_179 : decode cL_law 179 = .ok (.iadd, 1) := by decide +kernel
theorem dL_law_180 : decode cL_law 180 = .ok (.iaload, 1) := by decide +kernel
theorem dL_law_181 : decode cL_law 181 = .ok (.aload_n 0, 1) := by decide +kernel
theorem dL_law_182 : decode cL_law 182 = .ok (.iload_n 3, 1) := by decide +kernel
theorem dL_law_183 : decode cL_law 183 = .ok (.iconst 2, 1) := by decide +kernel
theorem dL_law_184 : decode cL_law 184 = .ok (.iadd, 1) := by decide +kernel
theorem dL_law_185 : decode cL_law 185 = .ok (.iaload, 1) := by decide +kernel
theorem dL_law_186 : decode cL_law 186 = .ok (.invokevirtual 22, 3) := by decide +kernel
theorem dL_law_189 : decode cL_law 189 = .ok (.if_icmp .eq 342, 3) := by decide +kernel
theorem dL_law_192 : decode cL_law 192 = .ok (.iconst 0, 1) := by decide +kernel
theorem dL_law_193 : decode cL_law 193 = .ok (.ireturn, 1) := by decide +kernel
theorem dL_law_194 : decode cL_law 194 = .ok (.aload_n 1, 1) := by decide +kernel
theorem dL_law_195 : decode cL_law 195 = .ok (.aload_n 0, 1) := by decide +kernel
theorem dL_law_196 : decode cL_law 196 = .ok (.iload_n 3, 1) := by decide +kernel
theorem dL_law_197 : decode cL_law 197 = .ok (.iconst 1, 1) := by decide +kernel
theorem dL_law_198 : decode cL_law 198 = .ok (.iadd, 1) := by decide +kernel
theorem dL_law_199 : decode cL_law 199 = .ok (.iaload, 1) := by decide +kernel
theorem dL_law_200 : decode cL_law 200 = .ok (.aload_n 0, 1) := by decide +kernel
theorem dL_law_201 : decode cL_law 201 = .ok (.iload_n 3, 1) := by decide +kernel
theorem dL_law_202 : decode cL_law 202 = .ok (.iconst 2, 1) := by decide +kernel
theorem dL_law_203 : decode cL_law 203 = .ok (.iadd, 1) := by decide +kernel
theorem dL_law_204 : decode cL_law 204 = .ok (.iaload, 1) := by decide +kernel
theorem dL_law_205 : decode cL_law 205 = .ok (.invokevirtual 23, 3) := by decide +kernel
theorem dL_law_208 : decode cL_law 208 = .ok (.aload_n 2, 1) := by decide +kernel
theorem dL_law_209 : decode cL_law 209 = .ok (.aload_n 0, 1) := by decide +kernel
theorem dL_law_210 : decode cL_law 210 = .ok (.iload_n 3, 1) := by decide +kernel
theorem dL_law_211 : decode cL_law 211 = .ok (.iconst 1, 1) := by decide +kernel
theorem dL_law_212 : decode cL_law 212 = .ok (.iadd, 1) := by decide +kernel
theorem dL_law_213 : decode cL_law 213 = .ok (.iaload, 1) := by decide +kernel
theorem dL_law_214 : decode cL_law 214 = .ok (.aload_n 0, 1) := by decide +kernel
theorem dL_law_215 : decode cL_law 215 = .ok (.iload_n 3, 1) := by decide +kernel
theorem dL_law_216 : decode cL_law 216 = .ok (.iconst 2, 1) := by decide +kernel
theorem dL_law_217 : decode cL_law 217 = .ok (.iadd, 1) := by decide +kernel
theorem dL_law_218 : decode cL_law 218 = .ok (.iaload, 1) := by decide +kernel
theorem dL_law_219 : decode cL_law 219 = .ok (.invokevirtual 26, 3) := by decide +kernel
theorem dL_law_222 : decode cL_law 222 = .ok (.if_icmp .eq 309, 3) := by decide +kernel
theorem dL_law_225 : decode cL_law 225 = .ok (.iconst 0, 1) := by decide +kernel
theorem dL_law_226 : decode cL_law 226 = .ok (.ireturn, 1) := by decide +kernel
theorem dL_law_227 : decode cL_law 227 = .ok (.aload_n 1, 1) := by decide +kernel
theorem dL_law_228 : decode cL_law 228 = .ok (.aload_n 0, 1) := by decide +kernel
theorem dL_law_229 : decode cL_law 229 = .ok (.iload_n 3, 1) := by decide +kernel
theorem dL_law_230 : decode cL_law 230 = .ok (.iconst 1, 1) := by decide +kernel
theorem dL_law_231 : decode cL_law 231 = .ok (.iadd, 1) := by decide +kernel
theorem dL_law_232 : decode cL_law 232 = .ok (.iaload, 1) := by decide +kernel
theorem dL_law_233 : decode cL_law 233 = .ok (.aload_n 0, 1) := by decide +kernel
theorem dL_law_234 : decode cL_law 234 = .ok (.iload_n 3, 1) := by decide +kernel
theorem dL_law_235 : decode cL_law 235 = .ok (.iconst 2, 1) := by decide +kernel
theorem dL_law_236 : decode cL_law 236 = .ok (.iadd, 1) := by decide +kernel
theorem dL_law_237 : decode cL_law 237 = .ok (.iaload, 1) := by decide +kernel
theorem dL_law_238 : decode cL_law 238 = .ok (.invokevirtual 27, 3) := by decide +kernel
theorem dL_law_241 : decode cL_law 241 = .ok (.aload_n 2, 1) := by decide +kernel
theorem dL_law_242 : decode cL_law 242 = .ok (.aload_n 0, 1) := by decide +kernel
theorem dL_law_243 : decode cL_law 243 = .ok (.iload_n 3, 1) := by decide +kernel
theorem dL_law_244 : decode cL_law 244 = .ok (.iconst 1, 1) := by decide +kernel
theorem dL_law_245 : decode cL_law 245 = .ok (.iadd, 1) := by decide +kernel
theorem dL_law_246 : decode cL_law 246 = .ok (.iaload, 1) := by decide +kernel
theorem dL_law_247 : decode cL_law 247 = .ok (.aload_n 0, 1) := by decide +kernel
theorem dL_law_248 : decode cL_law 248 = .ok (.iload_n 3, 1) := by decide +kernel
theorem dL_law_249 : decode cL_law 249 = .ok (.iconst 2, 1) := by decide +kernel
theorem dL_law_250 : decode cL_law 250 = .ok (.iadd, 1) := by decide +kernel
theorem dL_law_251 : decode cL_law 251 = .ok (.iaload, 1) := by decide +kernel
theorem dL_law_252 : decode cL_law 252 = .ok (.invokevirtual 30, 3) := by decide +kernel
theorem dL_law_255 : decode cL_law 255 = .ok (.if_icmp .eq 276, 3) := by decide +kernel
theorem dL_law_258 : decode cL_law 258 = .ok (.iconst 0, 1) := by decide +kernel
theorem dL_law_259 : decode cL_law 259 = .ok (.ireturn, 1) := by decide +kernel
theorem dL_law_260 : decode cL_law 260 = .ok (.aload_n 1, 1) := by decide +kernel
theorem dL_law_261 : decode cL_law 261 = .ok (.aload_n 0, 1) := by decide +kernel
theorem dL_law_262 : decode cL_law 262 = .ok (.iload_n 3, 1) := by decide +kernel
theorem dL_law_263 : decode cL_law 263 = .ok (.iconst 1, 1) := by decide +kernel
theorem dL_law_264 : decode cL_law 264 = .ok (.iadd, 1) := by decide +kernel
theorem dL_law_265 : decode cL_law 265 = .ok (.iaload, 1) := by decide +kernel
theorem dL_law_266 : decode cL_law 266 = .ok (.invokevirtual 31, 3) := by decide +kernel
theorem dL_law_269 : decode cL_law 269 = .ok (.aload_n 2, 1) := by decide +kernel
theorem dL_law_270 : decode cL_law 270 = .ok (.aload_n 0, 1) := by decide +kernel
theorem dL_law_271 : decode cL_law 271 = .ok (.iload_n 3, 1) := by decide +kernel
theorem dL_law_272 : decode cL_law 272 = .ok (.iconst 1, 1) := by decide +kernel
theorem dL_law_273 : decode cL_law 273 = .ok (.iadd, 1) := by decide +kernel
theorem dL_law_274 : decode cL_law 274 = .ok (.iaload, 1) := by decide +kernel
theorem dL_law_275 : decode cL_law 275 = .ok (.invokevirtual 35, 3) := by decide +kernel
theorem dL_law_278 : decode cL_law 278 = .ok (.if_icmp .eq 253, 3) := by decide +kernel
theorem dL_law_281 : decode cL_law 281 = .ok (.iconst 0, 1) := by decide +kernel
theorem dL_law_282 : decode cL_law 282 = .ok (.ireturn, 1) := by decide +kernel
theorem dL_law_283 : decode cL_law 283 = .ok (.aload_n 1, 1) := by decide +kernel
theorem dL_law_284 : decode cL_law 284 = .ok (.aload_n 0, 1) := by decide +kernel
theorem dL_law_285 : decode cL_law 285 = .ok (.iload_n 3, 1) := by decide +kernel
theorem dL_law_286 : decode cL_law 286 = .ok (.iconst 1, 1) := by decide +kernel
theorem dL_law_287 : decode cL_law 287 = .ok (.iadd, 1) := by decide +kernel
theorem dL_law_288 : decode cL_law 288 = .ok (.iaload, 1) := by decide +kernel
theorem dL_law_289 : decode cL_law 289 = .ok (.aload_n 0, 1) := by decide +kernel
theorem dL_law_290 : decode cL_law 290 = .ok (.iload_n 3, 1) := by decide +kernel
theorem dL_law_291 : decode cL_law 291 = .ok (.iconst 2, 1) := by decide +kernel
theorem dL_law_292 : decode cL_law 292 = .ok (.iadd, 1) := by decide +kernel
theorem dL_law_293 : decode cL_law 293 = .ok (.iaload, 1) := by decide +kernel
theorem dL_law_294 : decode cL_law 294 = .ok (.invokevirtual 36, 3) := by decide +kernel
theorem dL_law_297 : decode cL_law 297 = .ok (.aload_n 2, 1) := by decide +kernel
theorem dL_law_298 : decode cL_law 298 = .ok (.aload_n 0, 1) := by decide +kernel
theorem dL_law_299 : decode cL_law 299 = .ok (.iload_n 3, 1) := by decide +kernel
theorem dL_law_300 : decode cL_law 300 = .ok (.iconst 1, 1) := by decide +kernel
theorem dL_law_301 : decode cL_law 301 = .ok (.iadd, 1) := by decide +kernel
theorem dL_law_302 : decode cL_law 302 = .ok (.iaload, 1) := by decide +kernel
theorem dL_law_303 : decode cL_law 303 = .ok (.aload_n 0, 1) := by decide +kernel
theorem dL_law_304 : decode cL_law 304 = .ok (.iload_n 3, 1) := by decide +kernel
theorem dL_law_305 : decode cL_law 305 = .ok (.iconst 2, 1) := by decide +kernel
theorem dL_law_306 : decode cL_law 306 = .ok (.iadd, 1) := by decide +kernel
theorem dL_law_307 : decode cL_law 307 = .ok (.iaload, 1) := by decide +kernel
theorem dL_law_308 : decode cL_law 308 = .ok (.invokevirtual 39, 3) := by decide +kernel
theorem dL_law_311 : decode cL_law 311 = .ok (.if_icmp .eq 220, 3) := by decide +kernel
theorem dL_law_314 : decode cL_law 314 = .ok (.iconst 0, 1) := by decide +kernel
theorem dL_law_315 : decode cL_law 315 = .ok (.ireturn, 1) := by decide +kernel
theorem dL_law_316 : decode cL_law 316 = .ok (.aload_n 1, 1) := by decide +kernel
theorem dL_law_317 : decode cL_law 317 = .ok (.aload_n 0, 1) := by decide +kernel
theorem dL_law_318 : decode cL_law 318 = .ok (.iload_n 3, 1) := by decide +kernel
theorem dL_law_319 : decode cL_law 319 = .ok (.iconst 1, 1) := by decide +kernel
theorem dL_law_320 : decode cL_law 320 = .ok (.iadd, 1) := by decide +kernel
theorem dL_law_321 : decode cL_law 321 = .ok (.iaload, 1) := by decide +kernel
theorem dL_law_322 : decode cL_law 322 = .ok (.invokevirtual 40, 3) := by decide +kernel
theorem dL_law_325 : decode cL_law 325 = .ok (.aload_n 2, 1) := by decide +kernel
theorem dL_law_326 : decode cL_law 326 = .ok (.aload_n 0, 1) := by decide +kernel
theorem dL_law_327 : decode cL_law 327 = .ok (.iload_n 3, 1) := by decide +kernel
theorem dL_law_328 : decode cL_law 328 = .ok (.iconst 1, 1) := by decide +kernel
theorem dL_law_329 : decode cL_law 329 = .ok (.iadd, 1) := by decide +kernel
theorem dL_law_330 : decode cL_law 330 = .ok (.iaload, 1) := by decide +kernel
theorem dL_law_331 : decode cL_law 331 = .ok (.invokevirtual 43, 3) := by decide +kernel
theorem dL_law_334 : decode cL_law 334 = .ok (.if_icmp .eq 197, 3) := by decide +kernel
theorem dL_law_337 : decode cL_law 337 = .ok (.iconst 0, 1) := by decide +kernel
theorem dL_law_338 : decode cL_law 338 = .ok (.ireturn, 1) := by decide +kernel
theorem dL_law_339 : decode cL_law 339 = .ok (.aload_n 1, 1) := by decide +kernel
theorem dL_law_340 : decode cL_law 340 = .ok (.aload_n 0, 1) := by decide +kernel
theorem dL_law_341 : decode cL_law 341 = .ok (.iload_n 3, 1) := by decide +kernel
theorem dL_law_342 : decode cL_law 342 = .ok (.iconst 1, 1) := by decide +kernel
theorem dL_law_343 : decode cL_law 343 = .ok (.iadd, 1) := by decide +kernel
theorem dL_law_344 : decode cL_law 344 = .ok (.iaload, 1) := by decide +kernel
theorem dL_law_345 : decode cL_law 345 = .ok (.aload_n 0, 1) := by decide +kernel
theorem dL_law_346 : decode cL_law 346 = .ok (.iload_n 3, 1) := by decide +kernel
theorem dL_law_347 : decode cL_law 347 = .ok (.iconst 2, 1) := by decide +kernel
theorem dL_law_348 : decode cL_law 348 = .ok (.iadd, 1) := by decide +kernel
theorem dL_law_349 : decode cL_law 349 = .ok (.iaload, 1) := by decide +kernel
theorem dL_law_350 : decode cL_law 350 = .ok (.aload_n 0, 1) := by decide +kernel
theorem dL_law_351 : decode cL_law 351 = .ok (.iload_n 3, 1) := by decide +kernel
theorem dL_law_352 : decode cL_law 352 = .ok (.iconst 3, 1) := by decide +kernel
theorem dL_law_353 : decode cL_law 353 = .ok (.iadd, 1) := by decide +kernel
theorem dL_law_354 : decode cL_law 354 = .ok (.iaload, 1) := by decide +kernel
theorem dL_law_355 : decode cL_law 355 = .ok (.invokevirtual 44, 3) := by decide +kernel
theorem dL_law_358 : decode cL_law 358 = .ok (.aload_n 2, 1) := by decide +kernel
theorem dL_law_359 : decode cL_law 359 = .ok (.aload_n 0, 1) := by decide +kernel
theorem dL_law_360 : decode cL_law 360 = .ok (.iload_n 3, 1) := by decide +kernel
theorem dL_law_361 : decode cL_law 361 = .ok (.iconst 1, 1) := by decide +kernel
theorem dL_law_362 : decode cL_law 362 = .ok (.iadd, 1) := by decide +kernel
theorem dL_law_363 : decode cL_law 363 = .ok (.iaload, 1) := by decide +kernel
theorem dL_law_364 : decode cL_law 364 = .ok (.aload_n 0, 1) := by decide +kernel
theorem dL_law_365 : decode cL_law 365 = .ok (.iload_n 3, 1) := by decide +kernel
theorem dL_law_366 : decode cL_law 366 = .ok (.iconst 2, 1) := by decide +kernel
theorem dL_law_367 : decode cL_law 367 = .ok (.iadd, 1) := by decide +kernel
theorem dL_law_368 : decode cL_law 368 = .ok (.iaload, 1) := by decide +kernel
theorem dL_law_369 : decode cL_law 369 = .ok (.aload_n 0, 1) := by decide +kernel
theorem dL_law_370 : decode cL_law 370 = .ok (.iload_n 3, 1) := by decide +kernel
theorem dL_law_371 : decode cL_law 371 = .ok (.iconst 3, 1) := by decide +kernel
theorem dL_law_372 : decode cL_law 372 = .ok (.iadd, 1) := by decide +kernel
theorem dL_law_373 : decode cL_law 373 = .ok (.iaload, 1) := by decide +kernel
theorem dL_law_374 : decode cL_law 374 = .ok (.invokevirtual 48, 3) := by decide +kernel
theorem dL_law_377 : decode cL_law 377 = .ok (.if_icmp .eq 154, 3) := by decide +kernel
theorem dL_law_380 : decode cL_law 380 = .ok (.iconst 0, 1) := by decide +kernel
theorem dL_law_381 : decode cL_law 381 = .ok (.ireturn, 1) := by decide +kernel
theorem dL_law_382 : decode cL_law 382 = .ok (.aload_n 1, 1) := by decide +kernel
theorem dL_law_383 : decode cL_law 383 = .ok (.aload_n 0, 1) := by decide +kernel
theorem dL_law_384 : decode cL_law 384 = .ok (.iload_n 3, 1) := by decide +kernel
theorem dL_law_385 : decode cL_law 385 = .ok (.iconst 1, 1) := by decide +kernel
theorem dL_law_386 : decode cL_law 386 = .ok (.iadd, 1) := by decide +kernel
theorem dL_law_387 : decode cL_law 387 = .ok (.iaload, 1) := by decide +kernel
theorem dL_law_388 : decode cL_law 388 = .ok (.invokevirtual 49, 3) := by decide +kernel
theorem dL_law_391 : decode cL_law 391 = .ok (.aload_n 2, 1) := by decide +kernel
theorem dL_law_392 : decode cL_law 392 = .ok (.aload_n 0, 1) := by decide +kernel
theorem dL_law_393 : decode cL_law 393 = .ok (.iload_n 3, 1) := by decide +kernel
theorem dL_law_394 : decode cL_law 394 = .ok (.iconst 1, 1) := by decide +kernel
theorem dL_law_395 : decode cL_law 395 = .ok (.iadd, 1) := by decide +kernel
theorem dL_law_396 : decode cL_law 396 = .ok (.iaload, 1) := by decide +kernel
theorem dL_law_397 : decode cL_law 397 = .ok (.invokevirtual 52, 3) := by decide +kernel
theorem dL_law_400 : decode cL_law 400 = .ok (.if_icmp .eq 131, 3) := by decide +kernel
theorem dL_law_403 : decode cL_law 403 = .ok (.iconst 0, 1) := by decide +kernel
theorem dL_law_404 : decode cL_law 404 = .ok (.ireturn, 1) := by decide +kernel
theorem dL_law_405 : decode cL_law 405 = .ok (.aload_n 1, 1) := by decide +kernel
theorem dL_law_406 : decode cL_law 406 = .ok (.invokevirtual 53, 3) := by decide +kernel
theorem dL_law_409 : decode cL_law 409 = .ok (.aload_n 2, 1) := by decide +kernel
theorem dL_law_410 : decode cL_law 410 = .ok (.invokevirtual 56, 3) := by decide +kernel
theorem dL_law_413 : decode cL_law 413 = .ok (.goto 118, 3) := by decide +kernel
theorem dL_law_416 : decode cL_law 416 = .ok (.aload_n 1, 1) := by decide +kernel
theorem dL_law_417 : decode cL_law 417 = .ok (.aload_n 0, 1) := by decide +kernel
theorem dL_law_418 : decode cL_law 418 = .ok (.iload_n 3, 1) := by decide +kernel
theorem dL_law_419 : decode cL_law 419 = .ok (.iconst 1, 1) := by decide +kernel
theorem dL_law_420 : decode cL_law 420 = .ok (.iadd, 1) := by decide +kernel
theorem dL_law_421 : decode cL_law 421 = .ok (.iaload, 1) := by decide +kernel
theorem dL_law_422 : decode cL_law 422 = .ok (.invokevirtual 57, 3) := by decide +kernel
theorem dL_law_425 : decode cL_law 425 = .ok (.aload_n 2, 1) := by decide +kernel
theorem dL_law_426 : decode cL_law 426 = .ok (.aload_n 0, 1) := by decide +kernel
theorem dL_law_427 : decode cL_law 427 = .ok (.iload_n 3, 1) := by decide +kernel
theorem dL_law_428 : decode cL_law 428 = .ok (.iconst 1, 1) := by decide +kernel
theorem dL_law_429 : decode cL_law 429 = .ok (.iadd, 1) := by decide +kernel
theorem dL_law_430 : decode cL_law 430 = .ok (.iaload, 1) := by decide +kernel
theorem dL_law_431 : decode cL_law 431 = .ok (.invokevirtual 60, 3) := by decide +kernel
theorem dL_law_434 : decode cL_law 434 = .ok (.if_icmp .eq 97, 3) := by decide +kernel
theorem dL_law_437 : decode cL_law 437 = .ok (.iconst 0, 1) := by decide +kernel
theorem dL_law_438 : decode cL_law 438 = .ok (.ireturn, 1) := by decide +kernel
theorem dL_law_439 : decode cL_law 439 = .ok (.aload_n 1, 1) := by decide +kernel
theorem dL_law_440 : decode cL_law 440 = .ok (.aload_n 0, 1) := by decide +kernel
theorem dL_law_441 : decode cL_law 441 = .ok (.iload_n 3, 1) := by decide +kernel
theorem dL_law_442 : decode cL_law 442 = .ok (.iconst 1, 1) := by decide +kernel
theorem dL_law_443 : decode cL_law 443 = .ok (.iadd, 1) := by decide +kernel
theorem dL_law_444 : decode cL_law 444 = .ok (.iaload, 1) := by decide +kernel
theorem dL_law_445 : decode cL_law 445 = .ok (.invokevirtual 61, 3) := by decide +kernel
theorem dL_law_448 : decode cL_law 448 = .ok (.aload_n 2, 1) := by decide +kernel
theorem dL_law_449 : decode cL_law 449 = .ok (.aload_n 0, 1) := by decide +kernel
theorem dL_law_450 : decode cL_law 450 = .ok (.iload_n 3, 1) := by decide +kernel
theorem dL_law_451 : decode cL_law 451 = .ok (.iconst 1, 1) := by decide +kernel
theorem dL_law_452 : decode cL_law 452 = .ok (.iadd, 1) := by decide +kernel
theorem dL_law_453 : decode cL_law 453 = .ok (.iaload, 1) := by decide +kernel
theorem dL_law_454 : decode cL_law 454 = .ok (.invokevirtual 64, 3) := by decide +kernel
theorem dL_law_457 : decode cL_law 457 = .ok (.if_icmp .eq 74, 3) := by decide +kernel
theorem dL_law_460 : decode cL_law 460 = .ok (.iconst 0, 1) := by decide +kernel
theorem dL_law_461 : decode cL_law 461 = .ok (.ireturn, 1) := by decide +kernel
theorem dL_law_462 : decode cL_law 462 = .ok (.aload_n 1, 1) := by decide +kernel
theorem dL_law_463 : decode cL_law 463 = .ok (.aload_n 0, 1) := by decide +kernel
theorem dL_law_464 : decode cL_law 464 = .ok (.iload_n 3, 1) := by decide +kernel
theorem dL_law_465 : decode cL_law 465 = .ok (.iconst 1, 1) := by decide +kernel
theorem dL_law_466 : decode cL_law 466 = .ok (.iadd, 1) := by decide +kernel
theorem dL_law_467 : decode cL_law 467 = .ok (.iaload, 1) := by decide +kernel
theorem dL_law_468 : decode cL_law 468 = .ok (.aload_n 0, 1) := by decide +kernel
theorem dL_law_469 : decode cL_law 469 = .ok (.iload_n 3, 1) := by decide +kernel
theorem dL_law_470 : decode cL_law 470 = .ok (.iconst 2, 1) := by decide +kernel
theorem dL_law_471 : decode cL_law 471 = .ok (.iadd, 1) := by decide +kernel
theorem dL_law_472 : decode cL_law 472 = .ok (.iaload, 1) := by decide +kernel
theorem dL_law_473 : decode cL_law 473 = .ok (.invokevirtual 65, 3) := by decide +kernel
theorem dL_law_476 : decode cL_law 476 = .ok (.aload_n 2, 1) := by decide +kernel
theorem dL_law_477 : decode cL_law 477 = .ok (.aload_n 0, 1) := by decide +kernel
theorem dL_law_478 : decode cL_law 478 = .ok (.iload_n 3, 1) := by decide +kernel
theorem dL_law_479 : decode cL_law 479 = .ok (.iconst 1, 1) := by decide +kernel
theorem dL_law_480 : decode cL_law 480 = .ok (.iadd, 1) := by decide +kernel
theorem dL_law_481 : decode cL_law 481 = .ok (.iaload, 1) := by decide +kernel
theorem dL_law_482 : decode cL_law 482 = .ok (.aload_n 0, 1) := by decide +kernel
theorem dL_law_483 : decode cL_law 483 = .ok (.iload_n 3, 1) := by decide +kernel
theorem dL_law_484 : decode cL_law 484 = .ok (.iconst 2, 1) := by decide +kernel
theorem dL_law_485 : decode cL_law 485 = .ok (.iadd, 1) := by decide +kernel
theorem dL_law_486 : decode cL_law 486 = .ok (.iaload, 1) := by decide +kernel
theorem dL_law_487 : decode cL_law 487 = .ok (.invokevirtual 68, 3) := by decide +kernel
theorem dL_law_490 : decode cL_law 490 = .ok (.if_icmp .eq 41, 3) := by decide +kernel
theorem dL_law_493 : decode cL_law 493 = .ok (.iconst 0, 1) := by decide +kernel
theorem dL_law_494 : decode cL_law 494 = .ok (.ireturn, 1) := by decide +kernel
theorem dL_law_495 : decode cL_law 495 = .ok (.aload_n 1, 1) := by decide +kernel
theorem dL_law_496 : decode cL_law 496 = .ok (.invokevirtual 69, 3) := by decide +kernel
theorem dL_law_499 : decode cL_law 499 = .ok (.aload_n 2, 1) := by decide +kernel
theorem dL_law_500 : decode cL_law 500 = .ok (.invokevirtual 73, 3) := by decide +kernel
theorem dL_law_503 : decode cL_law 503 = .ok (.if_icmp .eq 28, 3) := by decide +kernel
theorem dL_law_506 : decode cL_law 506 = .ok (.iconst 0, 1) := by decide +kernel
theorem dL_law_507 : decode cL_law 507 = .ok (.ireturn, 1) := by decide +kernel
theorem dL_law_508 : decode cL_law 508 = .ok (.aload_n 1, 1) := by decide +kernel
theorem dL_law_509 : decode cL_law 509 = .ok (.aload_n 0, 1) := by decide +kernel
theorem dL_law_510 : decode cL_law 510 = .ok (.iload_n 3, 1) := by decide +kernel
theorem dL_law_511 : decode cL_law 511 = .ok (.iconst 1, 1) := by decide +kernel
theorem dL_law_512 : decode cL_law 512 = .ok (.iadd, 1) := by decide +kernel
theorem dL_law_513 : decode cL_law 513 = .ok (.iaload, 1) := by decide +kernel
theorem dL_law_514 : decode cL_law 514 = .ok (.invokevirtual 74, 3) := by decide +kernel
theorem dL_law_517 : decode cL_law 517 = .ok (.aload_n 2, 1) := by decide +kernel
theorem dL_law_518 : decode cL_law 518 = .ok (.aload_n 0, 1) := by decide +kernel
theorem dL_law_519 : decode cL_law 519 = .ok (.iload_n 3, 1) := by decide +kernel
theorem dL_law_520 : decode cL_law 520 = .ok (.iconst 1, 1) := by decide +kernel
theorem dL_law_521 : decode cL_law 521 = .ok (.iadd, 1) := by decide +kernel
theorem dL_law_522 : decode cL_law 522 = .ok (.iaload, 1) := by decide +kernel
theorem dL_law_523 : decode cL_law 523 = .ok (.invokevirtual 77, 3) := by decide +kernel
theorem dL_law_526 : decode cL_law 526 = .ok (.if_icmp .eq 5, 3) := by decide +kernel
theorem dL_law_529 : decode cL_law 529 = .ok (.iconst 0, 1) := by decide +kernel
theorem dL_law_530 : decode cL_law 530 = .ok (.ireturn, 1) := by decide +kernel
theorem dL_law_531 : decode cL_law 531 = .ok (.iinc 3 5, 3) := by decide +kernel
theorem dL_law_534 : decode cL_law 534 = .ok (.goto (-516), 3) := by decide +kernel
theorem dL_law_537 : decode cL_law 537 = .ok (.iconst 1, 1) := by decide +kernel
theorem dL_law_538 : decode cL_law 538 = .ok (.ireturn, 1) := by decide +kernel

/-! java/lang/Object -/
set_option maxRecDepth 100000
def RJ0 : String := "java/lang/Object"
abbrev cJ0_init : ByteArray := object_method_1_code
def yJ0_init : MethodName := ⟨RJ0, "<init>", "()V"⟩
theorem dJ0_init_0 : decode cJ0_init 0 = .ok (.return_, 1) := by decide +kernel
theorem q30 : (Jvm.Cond.instanceMethod ({ cls := "java/lang/Object", name := "<init>", desc := "()V" } : Jvm.MethodName)) ∈ lw_all := lw_g (lw_at lw_m1 9 rfl) rfl
theorem q31 : (Jvm.Cond.code ({ cls := "java/lang/Object", name := "<init>", desc := "()V" } : Jvm.MethodName) object_method_1_code (1 : Nat) (Option.none : Option Jvm.ClassFile.FieldType)) ∈ lw_all := lw_g (lw_at lw_m1 10 rfl) rfl

theorem q21 : (Jvm.Cond.initialized "LeasedMessagesLaw") ∈ lw_all := lw_g (lw_at lw_m1 0 rfl) rfl
set_option maxRecDepth 100000
theorem q24 : (Jvm.Cond.classLink "LeasedMessagesLaw" (7 : Nat) "LeasedMessages") ∈ lw_all := lw_g (lw_at lw_m1 3 rfl) rfl
theorem q26 : (Jvm.Cond.methodLink "LeasedMessagesLaw" (9 : Nat) ({ cls := "LeasedMessages", name := "<init>", desc := "()V" } : Jvm.MethodName)) ∈ lw_all := lw_g (lw_at lw_m1 5 rfl) rfl
theorem q97 : (Jvm.Cond.methodLink "LeasedMessagesLaw" (13 : Nat) ({ cls := "LeasedMessages", name := "publish", desc := "(IIII)I" } : Jvm.MethodName)) ∈ lw_all := lw_g (lw_at lw_m1 76 rfl) rfl
theorem q128 : (Jvm.Cond.methodLink "LeasedMessagesLaw" (18 : Nat) ({ cls := "LeasedMessages", name := "take", desc := "(II)I" } : Jvm.MethodName)) ∈ lw_all := lw_g (lw_at lw_m1 107 rfl) rfl
theorem q147 : (Jvm.Cond.methodLink "LeasedMessagesLaw" (23 : Nat) ({ cls := "LeasedMessages", name := "acknowledge", desc := "(II)I" } : Jvm.MethodName)) ∈ lw_all := lw_g (lw_at lw_m1 126 rfl) rfl
theorem q159 : (Jvm.Cond.methodLink "LeasedMessagesLaw" (27 : Nat) ({ cls := "LeasedMessages", name := "refuse", desc := "(II)I" } : Jvm.MethodName)) ∈ lw_all := lw_g (lw_at lw_m1 138 rfl) rfl
theorem q175 : (Jvm.Cond.methodLink "LeasedMessagesLaw" (31 : Nat) ({ cls := "LeasedMessages", name := "lose", desc := "(I)I" } : Jvm.MethodName)) ∈ lw_all := lw_g (lw_at lw_m1 154 rfl) rfl
theorem q179 : (Jvm.Cond.methodLink "LeasedMessagesLaw" (36 : Nat) ({ cls := "LeasedMessages", name := "renew", desc := "(II)I" } : Jvm.MethodName)) ∈ lw_all := lw_g (lw_at lw_m1 158 rfl) rfl
theorem q183 : (Jvm.Cond.methodLink "LeasedMessagesLaw" (40 : Nat) ({ cls := "LeasedMessages", name := "pass", desc := "(I)I" } : Jvm.MethodName)) ∈ lw_all := lw_g (lw_at lw_m1 162 rfl) rfl
theorem q191 : (Jvm.Cond.methodLink "LeasedMessagesLaw" (44 : Nat) ({ cls := "LeasedMessages", name := "tune", desc := "(III)I" } : Jvm.MethodName)) ∈ lw_all := lw_g (lw_at lw_m1 170 rfl) rfl
theorem q195 : (Jvm.Cond.methodLink "LeasedMessagesLaw" (49 : Nat) ({ cls := "LeasedMessages", name := "revive", desc := "(I)I" } : Jvm.MethodName)) ∈ lw_all := lw_g (lw_at lw_m1 174 rfl) rfl
theorem q199 : (Jvm.Cond.methodLink "LeasedMessagesLaw" (53 : Nat) ({ cls := "LeasedMessages", name := "clear", desc := "()V" } : Jvm.MethodName)) ∈ lw_all := lw_g (lw_at lw_m1 178 rfl) rfl
theorem q203 : (Jvm.Cond.methodLink "LeasedMessagesLaw" (57 : Nat) ({ cls := "LeasedMessages", name := "state", desc := "(I)I" } : Jvm.MethodName)) ∈ lw_all := lw_g (lw_at lw_m1 182 rfl) rfl
theorem q207 : (Jvm.Cond.methodLink "LeasedMessagesLaw" (61 : Nat) ({ cls := "LeasedMessages", name := "ready", desc := "(I)I" } : Jvm.MethodName)) ∈ lw_all := lw_g (lw_at lw_m1 186 rfl) rfl
theorem q211 : (Jvm.Cond.methodLink "LeasedMessagesLaw" (65 : Nat) ({ cls := "LeasedMessages", name := "peek", desc := "(II)I" } : Jvm.MethodName)) ∈ lw_all := lw_g (lw_at lw_m1 190 rfl) rfl
theorem q215 : (Jvm.Cond.methodLink "LeasedMessagesLaw" (69 : Nat) ({ cls := "LeasedMessages", name := "nextDeadline", desc := "()I" } : Jvm.MethodName)) ∈ lw_all := lw_g (lw_at lw_m1 194 rfl) rfl
theorem q219 : (Jvm.Cond.methodLink "LeasedMessagesLaw" (74 : Nat) ({ cls := "LeasedMessages", name := "sum", desc := "(I)I" } : Jvm.MethodName)) ∈ lw_all := lw_g (lw_at lw_m1 198 rfl) rfl
theorem q223 : (Jvm.Cond.classLink "LeasedMessagesLaw" (10 : Nat) "LeasedMessagesModel") ∈ lw_all := lw_g (lw_at lw_m1 202 rfl) rfl
theorem q225 : (Jvm.Cond.methodLink "LeasedMessagesLaw" (12 : Nat) ({ cls := "LeasedMessagesModel", name := "<init>", desc := "()V" } : Jvm.MethodName)) ∈ lw_all := lw_g (lw_at lw_m1 204 rfl) rfl
theorem q266 : (Jvm.Cond.methodLink "LeasedMessagesLaw" (17 : Nat) ({ cls := "LeasedMessagesModel", name := "publish", desc := "(IIII)I" } : Jvm.MethodName)) ∈ lw_all := lw_g (lw_at lw_m2 5 rfl) rfl
theorem q274 : (Jvm.Cond.methodLink "LeasedMessagesLaw" (22 : Nat) ({ cls := "LeasedMessagesModel", name := "take", desc := "(II)I" } : Jvm.MethodName)) ∈ lw_all := lw_g (lw_at lw_m2 13 rfl) rfl
theorem q294 : (Jvm.Cond.methodLink "LeasedMessagesLaw" (26 : Nat) ({ cls := "LeasedMessagesModel", name := "acknowledge", desc := "(II)I" } : Jvm.MethodName)) ∈ lw_all := lw_g (lw_at lw_m2 33 rfl) rfl
theorem q302 : (Jvm.Cond.methodLink "LeasedMessagesLaw" (30 : Nat) ({ cls := "LeasedMessagesModel", name := "refuse", desc := "(II)I" } : Jvm.MethodName)) ∈ lw_all := lw_g (lw_at lw_m2 41 rfl) rfl
theorem q310 : (Jvm.Cond.methodLink "LeasedMessagesLaw" (35 : Nat) ({ cls := "LeasedMessagesModel", name := "lose", desc := "(I)I" } : Jvm.MethodName)) ∈ lw_all := lw_g (lw_at lw_m2 49 rfl) rfl
theorem q314 : (Jvm.Cond.methodLink "LeasedMessagesLaw" (39 : Nat) ({ cls := "LeasedMessagesModel", name := "renew", desc := "(II)I" } : Jvm.MethodName)) ∈ lw_all := lw_g (lw_at lw_m2 53 rfl) rfl
theorem q318 : (Jvm.Cond.methodLink "LeasedMessagesLaw" (43 : Nat) ({ cls := "LeasedMessagesModel", name := "pass", desc := "(I)I" } : Jvm.MethodName)) ∈ lw_all := lw_g (lw_at lw_m2 57 rfl) rfl
theorem q322 : (Jvm.Cond.methodLink "LeasedMessagesLaw" (48 : Nat) ({ cls := "LeasedMessagesModel", name := "tune", desc := "(III)I" } : Jvm.MethodName)) ∈ lw_all := lw_g (lw_at lw_m2 61 rfl) rfl
theorem q326 : (Jvm.Cond.methodLink "LeasedMessagesLaw" (52 : Nat) ({ cls := "LeasedMessagesModel", name := "revive", desc := "(I)I" } : Jvm.MethodName)) ∈ lw_all := lw_g (lw_at lw_m2 65 rfl) rfl
theorem q330 : (Jvm.Cond.methodLink "LeasedMessagesLaw" (56 : Nat) ({ cls := "LeasedMessagesModel", name := "clear", desc := "()V" } : Jvm.MethodName)) ∈ lw_all := lw_g (lw_at lw_m2 69 rfl) rfl
theorem q334 : (Jvm.Cond.methodLink "LeasedMessagesLaw" (60 : Nat) ({ cls := "LeasedMessagesModel", name := "state", desc := "(I)I" } : Jvm.MethodName)) ∈ lw_all := lw_g (lw_at lw_m2 73 rfl) rfl
theorem q338 : (Jvm.Cond.methodLink "LeasedMessagesLaw" (64 : Nat) ({ cls := "LeasedMessagesModel", name := "ready", desc := "(I)I" } : Jvm.MethodName)) ∈ lw_all := lw_g (lw_at lw_m2 77 rfl) rfl
theorem q342 : (Jvm.Cond.methodLink "LeasedMessagesLaw" (68 : Nat) ({ cls := "LeasedMessagesModel", name := "peek", desc := "(II)I" } : Jvm.MethodName)) ∈ lw_all := lw_g (lw_at lw_m2 81 rfl) rfl
theorem q343 : (Jvm.Cond.methodLink "LeasedMessagesLaw" (73 : Nat) ({ cls := "LeasedMessagesModel", name := "nextDeadline", desc := "()I" } : Jvm.MethodName)) ∈ lw_all := lw_g (lw_at lw_m2 82 rfl) rfl
theorem q347 : (Jvm.Cond.methodLink "LeasedMessagesLaw" (77 : Nat) ({ cls := "LeasedMessagesModel", name := "sum", desc := "(I)I" } : Jvm.MethodName)) ∈ lw_all := lw_g (lw_at lw_m2 86 rfl) rfl

theorem q96 : (Jvm.Cond.arrayClass Jvm.ClassFile.FieldType.int) ∈ lw_all := lw_g (lw_at lw_m1 75 rfl) rfl
set_option maxRecDepth 100000

abbrev vwCl : List vw_C := [(RX0, TX0, 21), (RX1, TX1, 12)]
end
section
/-! integers: an int is the wrap of an Int -/
def iI (z : Int) : Int32 := Int32.ofInt z
theorem iI_toInt {z : Int} (h : -2147483648 ≤ z ∧ z ≤ 2147483647) : (iI z).toInt = z := Int32.toInt_ofInt_of_le (by omega) (by omega)
theorem iI_of (x : Int32) : iI x.toInt = x := Int32.ofInt_toInt x
theorem iI_rng (x : Int32) : -2147483648 ≤ x.toInt ∧ x.toInt ≤ 2147483647 := ⟨by have := x.le_toInt; omega, by have := x.toInt_lt; omega⟩
theorem iI_add (a b : Int) : iI a + iI b = iI (a + b) := (Int32.ofInt_add a b).symm
theorem iI_sub (a b : Int) : iI a - iI b = iI (a - b) := (Int32.ofInt_sub a b).symm
theorem iI_mul (a b : Int) : iI a * iI b = iI (a * b) := (Int32.ofInt_mul a b).symm
theorem iI_lt {a b : Int} (h : -2147483648 ≤ a ∧ a ≤ 2147483647 ∧ -2147483648 ≤ b ∧ b ≤ 2147483647) : iI a < iI b ↔ a < b := by
  rw [Int32.lt_iff_toInt_lt, iI_toInt ⟨h.1, h.2.1⟩, iI_toInt h.2.2]
theorem iI_le {a b : Int} (h : -2147483648 ≤ a ∧ a ≤ 2147483647 ∧ -2147483648 ≤ b ∧ b ≤ 2147483647) : iI a ≤ iI b ↔ a ≤ b := by
  rw [Int32.le_iff_toInt_le, iI_toInt ⟨h.1, h.2.1⟩, iI_toInt h.2.2]
theorem iI_eq {a b : Int} (h : -2147483648 ≤ a ∧ a ≤ 2147483647 ∧ -2147483648 ≤ b ∧ b ≤ 2147483647) : iI a = iI b ↔ a = b := by
  rw [← Int32.toInt_inj, iI_toInt ⟨h.1, h.2.1⟩, iI_toInt h.2.2]
theorem iI_0 : iI 0 = 0 := rfl
theorem iI_cl {a : Int} (h : 0 ≤ a ∧ a ≤ 2147483647) : (iI a).toNatClampNeg = a.toNat := Int32.toNatClampNeg_ofInt_of_le (by omega) (by omega)
theorem iI_in {a : Int} {n : Nat} (h : 0 ≤ a ∧ a < (n : Int)) (hn : n ≤ 1000) : vp_in (iI a) n := by
  rw [vp_in_iff, iI_toInt (by omega)]
  exact h
theorem iI_div2 {a : Int} (h : 0 ≤ a ∧ a ≤ 2147483647) : iI a / iI 2 = iI (a / 2) := by
  apply Int32.toInt_inj.mp
  rw [Int32.toInt_div_of_ne_right _ _ (by decide), iI_toInt (by omega), iI_toInt (by omega), iI_toInt (by omega)]
  exact Int.tdiv_eq_ediv_of_nonneg h.1
/-! the state: field k at place i; one for the class and its reference -/
abbrev zS : Type := Nat → Int → Int
def sU (X : zS) (k : Nat) (i v : Int) : zS := fun k' j => if k' = k ∧ j = i then v else X k' j
def uI (f : Int → Int) (i v : Int) : Int → Int := fun j => if j = i then v else f j
theorem uI_s {f : Int → Int} {i v : Int} : uI f i v i = v := by simp [uI]
theorem uI_n {f : Int → Int} {i j v : Int} (h : j ≠ i) : uI f i v j = f j := by simp [uI, h]
theorem sU_s {X : zS} {k : Nat} {i v : Int} : sU X k i v k i = v := by simp [sU]
theorem sU_k {X : zS} {k k' : Nat} {i v : Int} (h : k' ≠ k) : sU X k i v k' = X k' := by funext j; simp [sU, h]
theorem sU_i {X : zS} {k : Nat} {i j v : Int} (h : j ≠ i) : sU X k i v k j = X k j := by simp [sU, h]
theorem sU_u {X : zS} {k : Nat} {i v : Int} : sU X k i v k = uI (X k) i v := by funext j; simp [sU, uI]
def okX (X : zS) : Prop := ∀ (k : Nat) (i : Int), -2147483648 ≤ X k i ∧ X k i ≤ 2147483647
theorem okX_set {X : zS} (h : okX X) (k : Nat) (i v : Int) (hv : -2147483648 ≤ v ∧ v ≤ 2147483647) : okX (sU X k i v) := by
  intro k' j
  unfold sU
  split
  · exact hv
  · exact h k' j
def gG (X : zS) : Nat → Nat → Int32 := fun k j => iI (X k (j : Int))
def gU (G : Nat → Nat → Int32) (k : Nat) (g : Nat → Int32) : Nat → Nat → Int32 := fun k' => if k' = k then g else G k'
theorem gG_set (X : zS) (k : Nat) {i : Int} (v : Int) (h : 0 ≤ i) : gU (gG X) k (upd (gG X k) i.toNat (iI v)) = gG (sU X k i v) := by
  funext k' j
  by_cases hk : k' = k
  · subst hk
    by_cases hj : (j : Int) = i
    · have hj2 : j = i.toNat := by omega
      simp [gU, gG, sU, upd, hj2, Int.toNat_of_nonneg h]
    · have hj2 : ¬ j = i.toNat := by omega
      simp [gU, gG, sU, upd, hj, hj2]
  · simp [gU, gG, sU, hk]
def cF (ad : Nat → Nat) (G : Nat → Nat → Int32) : List Value := [.int (G 0 0), .ref (ad 1), .ref (ad 2), .ref (ad 3), .ref (ad 4), .ref (ad 5), .ref (ad 6), .ref (ad 7), .ref (ad 8), .ref (ad 9), .ref (ad 10), .ref (ad 11), .ref (ad 12), .ref (ad 13), .int (G 14 0), .ref (ad 15), .ref (ad 16), .int (G 17 0), .ref (ad 18), .int (G 19 0), .ref (ad 20)]
def cWG (dA : ClassId) (ad : Nat → Nat) (G : Nat → Nat → Int32) : va_W := [(ad 0, .inr (0, cF ad G)), (ad 1, .inl (dA, 40, .inl (G 1))), (ad 2, .inl (dA, 40, .inl (G 2))), (ad 3, .inl (dA, 40, .inl (G 3))), (ad 4, .inl (dA, 40, .inl (G 4))), (ad 5, .inl (dA, 40, .inl (G 5))), (ad 6, .inl (dA, 40, .inl (G 6))), (ad 7, .inl (dA, 40, .inl (G 7))), (ad 8, .inl (dA, 40, .inl (G 8))), (ad 9, .inl (dA, 3, .inl (G 9))), (ad 10, .inl (dA, 120, .inl (G 10))), (ad 11, .inl (dA, 40, .inl (G 11))), (ad 12, .inl (dA, 3, .inl (G 12))), (ad 13, .inl (dA, 3, .inl (G 13))), (ad 15, .inl (dA, 6, .inl (G 15))), (ad 16, .inl (dA, 3, .inl (G 16))), (ad 18, .inl (dA, 40, .inl (G 18))), (ad 20, .inl (dA, 40, .inl (G 20)))]
def mF (ad : Nat → Nat) (G : Nat → Nat → Int32) : List Value := [.int (G 0 0), .ref (ad 1), .ref (ad 2), .ref (ad 3), .ref (ad 4), .ref (ad 5), .ref (ad 6), .ref (ad 7), .ref (ad 8), .ref (ad 9), .ref (ad 10), .int (G 19 0)]
def mWG (dA : ClassId) (ad : Nat → Nat) (G : Nat → Nat → Int32) : va_W := [(ad 0, .inr (1, mF ad G)), (ad 1, .inl (dA, 40, .inl (G 1))), (ad 2, .inl (dA, 40, .inl (G 2))), (ad 3, .inl (dA, 40, .inl (G 3))), (ad 4, .inl (dA, 40, .inl (G 5))), (ad 5, .inl (dA, 40, .inl (G 4))), (ad 6, .inl (dA, 40, .inl (G 6))), (ad 7, .inl (dA, 40, .inl (G 7))), (ad 8, .inl (dA, 40, .inl (G 8))), (ad 9, .inl (dA, 3, .inl (G 12))), (ad 10, .inl (dA, 3, .inl (G 13)))]
theorem c_at_1 (dA : ClassId) (ad : Nat → Nat) : ∀ G : Nat → Nat → Int32, (cWG dA ad G)[1]? = some (ad 1, .inl (dA, 40, .inl (G 1))) := fun _ => rfl
theorem c_set_1 (dA : ClassId) (ad : Nat → Nat) : ∀ (G : Nat → Nat → Int32) (g : Nat → Int32), (cWG dA ad G).set 1 (ad 1, .inl (dA, 40, .inl g)) = cWG dA ad (gU G 1 g) := fun _ _ => rfl
theorem c_at_2 (dA : ClassId) (ad : Nat → Nat) : ∀ G : Nat → Nat → Int32, (cWG dA ad G)[2]? = some (ad 2, .inl (dA, 40, .inl (G 2))) := fun _ => rfl
theorem c_set_2 (dA : ClassId) (ad : Nat → Nat) : ∀ (G : Nat → Nat → Int32) (g : Nat → Int32), (cWG dA ad G).set 2 (ad 2, .inl (dA, 40, .inl g)) = cWG dA ad (gU G 2 g) := fun _ _ => rfl
theorem c_at_3 (dA : ClassId) (ad : Nat → Nat) : ∀ G : Nat → Nat → Int32, (cWG dA ad G)[3]? = some (ad 3, .inl (dA, 40, .inl (G 3))) := fun _ => rfl
theorem c_set_3 (dA : ClassId) (ad : Nat → Nat) : ∀ (G : Nat → Nat → Int32) (g : Nat → Int32), (cWG dA ad G).set 3 (ad 3, .inl (dA, 40, .inl g)) = cWG dA ad (gU G 3 g) := fun _ _ => rfl
theorem c_at_4 (dA : ClassId) (ad : Nat → Nat) : ∀ G : Nat → Nat → Int32, (cWG dA ad G)[4]? = some (ad 4, .inl (dA, 40, .inl (G 4))) := fun _ => rfl
theorem c_set_4 (dA : ClassId) (ad : Nat → Nat) : ∀ (G : Nat → Nat → Int32) (g : Nat → Int32), (cWG dA ad G).set 4 (ad 4, .inl (dA, 40, .inl g)) = cWG dA ad (gU G 4 g) := fun _ _ => rfl
theorem c_at_5 (dA : ClassId) (ad : Nat → Nat) : ∀ G : Nat → Nat → Int32, (cWG dA ad G)[5]? = some (ad 5, .inl (dA, 40, .inl (G 5))) := fun _ => rfl
theorem c_set_5 (dA : ClassId) (ad : Nat → Nat) : ∀ (G : Nat → Nat → Int32) (g : Nat → Int32), (cWG dA ad G).set 5 (ad 5, .inl (dA, 40, .inl g)) = cWG dA ad (gU G 5 g) := fun _ _ => rfl
theorem c_at_6 (dA : ClassId) (ad : Nat → Nat) : ∀ G : Nat → Nat → Int32, (cWG dA ad G)[6]? = some (ad 6, .inl (dA, 40, .inl (G 6))) := fun _ => rfl
theorem c_set_6 (dA : ClassId) (ad : Nat → Nat) : ∀ (G : Nat → Nat → Int32) (g : Nat → Int32), (cWG dA ad G).set 6 (ad 6, .inl (dA, 40, .inl g)) = cWG dA ad (gU G 6 g) := fun _ _ => rfl
theorem c_at_7 (dA : ClassId) (ad : Nat → Nat) : ∀ G : Nat → Nat → Int32, (cWG dA ad G)[7]? = some (ad 7, .inl (dA, 40, .inl (G 7))) := fun _ => rfl
theorem c_set_7 (dA : ClassId) (ad : Nat → Nat) : ∀ (G : Nat → Nat → Int32) (g : Nat → Int32), (cWG dA ad G).set 7 (ad 7, .inl (dA, 40, .inl g)) = cWG dA ad (gU G 7 g) := fun _ _ => rfl
theorem c_at_8 (dA : ClassId) (ad : Nat → Nat) : ∀ G : Nat → Nat → Int32, (cWG dA ad G)[8]? = some (ad 8, .inl (dA, 40, .inl (G 8))) := fun _ => rfl
theorem c_set_8 (dA : ClassId) (ad : Nat → Nat) : ∀ (G : Nat → Nat → Int32) (g : Nat → Int32), (cWG dA ad G).set 8 (ad 8, .inl (dA, 40, .inl g)) = cWG dA ad (gU G 8 g) := fun _ _ => rfl
theorem c_at_9 (dA : ClassId) (ad : Nat → Nat) : ∀ G : Nat → Nat → Int32, (cWG dA ad G)[9]? = some (ad 9, .inl (dA, 3, .inl (G 9))) := fun _ => rfl
theorem c_set_9 (dA : ClassId) (ad : Nat → Nat) : ∀ (G : Nat → Nat → Int32) (g : Nat → Int32), (cWG dA ad G).set 9 (ad 9, .inl (dA, 3, .inl g)) = cWG dA ad (gU G 9 g) := fun _ _ => rfl
theorem c_at_10 (dA : ClassId) (ad : Nat → Nat) : ∀ G : Nat → Nat → Int32, (cWG dA ad G)[10]? = some (ad 10, .inl (dA, 120, .inl (G 10))) := fun _ => rfl
theorem c_set_10 (dA : ClassId) (ad : Nat → Nat) : ∀ (G : Nat → Nat → Int32) (g : Nat → Int32), (cWG dA ad G).set 10 (ad 10, .inl (dA, 120, .inl g)) = cWG dA ad (gU G 10 g) := fun _ _ => rfl
theorem c_at_11 (dA : ClassId) (ad : Nat → Nat) : ∀ G : Nat → Nat → Int32, (cWG dA ad G)[11]? = some (ad 11, .inl (dA, 40, .inl (G 11))) := fun _ => rfl
theorem c_set_11 (dA : ClassId) (ad : Nat → Nat) : ∀ (G : Nat → Nat → Int32) (g : Nat → Int32), (cWG dA ad G).set 11 (ad 11, .inl (dA, 40, .inl g)) = cWG dA ad (gU G 11 g) := fun _ _ => rfl
theorem c_at_12 (dA : ClassId) (ad : Nat → Nat) : ∀ G : Nat → Nat → Int32, (cWG dA ad G)[12]? = some (ad 12, .inl (dA, 3, .inl (G 12))) := fun _ => rfl
theorem c_set_12 (dA : ClassId) (ad : Nat → Nat) : ∀ (G : Nat → Nat → Int32) (g : Nat → Int32), (cWG dA ad G).set 12 (ad 12, .inl (dA, 3, .inl g)) = cWG dA ad (gU G 12 g) := fun _ _ => rfl
theorem c_at_13 (dA : ClassId) (ad : Nat → Nat) : ∀ G : Nat → Nat → Int32, (cWG dA ad G)[13]? = some (ad 13, .inl (dA, 3, .inl (G 13))) := fun _ => rfl
theorem c_set_13 (dA : ClassId) (ad : Nat → Nat) : ∀ (G : Nat → Nat → Int32) (g : Nat → Int32), (cWG dA ad G).set 13 (ad 13, .inl (dA, 3, .inl g)) = cWG dA ad (gU G 13 g) := fun _ _ => rfl
theorem c_at_15 (dA : ClassId) (ad : Nat → Nat) : ∀ G : Nat → Nat → Int32, (cWG dA ad G)[14]? = some (ad 15, .inl (dA, 6, .inl (G 15))) := fun _ => rfl
theorem c_set_15 (dA : ClassId) (ad : Nat → Nat) : ∀ (G : Nat → Nat → Int32) (g : Nat → Int32), (cWG dA ad G).set 14 (ad 15, .inl (dA, 6, .inl g)) = cWG dA ad (gU G 15 g) := fun _ _ => rfl
theorem c_at_16 (dA : ClassId) (ad : Nat → Nat) : ∀ G : Nat → Nat → Int32, (cWG dA ad G)[15]? = some (ad 16, .inl (dA, 3, .inl (G 16))) := fun _ => rfl
theorem c_set_16 (dA : ClassId) (ad : Nat → Nat) : ∀ (G : Nat → Nat → Int32) (g : Nat → Int32), (cWG dA ad G).set 15 (ad 16, .inl (dA, 3, .inl g)) = cWG dA ad (gU G 16 g) := fun _ _ => rfl
theorem c_at_18 (dA : ClassId) (ad : Nat → Nat) : ∀ G : Nat → Nat → Int32, (cWG dA ad G)[16]? = some (ad 18, .inl (dA, 40, .inl (G 18))) := fun _ => rfl
theorem c_set_18 (dA : ClassId) (ad : Nat → Nat) : ∀ (G : Nat → Nat → Int32) (g : Nat → Int32), (cWG dA ad G).set 16 (ad 18, .inl (dA, 40, .inl g)) = cWG dA ad (gU G 18 g) := fun _ _ => rfl
theorem c_at_20 (dA : ClassId) (ad : Nat → Nat) : ∀ G : Nat → Nat → Int32, (cWG dA ad G)[17]? = some (ad 20, .inl (dA, 40, .inl (G 20))) := fun _ => rfl
theorem c_set_20 (dA : ClassId) (ad : Nat → Nat) : ∀ (G : Nat → Nat → Int32) (g : Nat → Int32), (cWG dA ad G).set 17 (ad 20, .inl (dA, 40, .inl g)) = cWG dA ad (gU G 20 g) := fun _ _ => rfl
theorem c_put_0 (dA : ClassId) (ad : Nat → Nat) : ∀ (G : Nat → Nat → Int32) (x : Int32), (cWG dA ad G).set 0 (ad 0, .inr (0, (cF ad G).set 0 (.int x))) = cWG dA ad (gU G 0 (upd (G 0) 0 x)) := fun _ _ => rfl
theorem c_put_14 (dA : ClassId) (ad : Nat → Nat) : ∀ (G : Nat → Nat → Int32) (x : Int32), (cWG dA ad G).set 0 (ad 0, .inr (0, (cF ad G).set 14 (.int x))) = cWG dA ad (gU G 14 (upd (G 14) 0 x)) := fun _ _ => rfl
theorem c_put_17 (dA : ClassId) (ad : Nat → Nat) : ∀ (G : Nat → Nat → Int32) (x : Int32), (cWG dA ad G).set 0 (ad 0, .inr (0, (cF ad G).set 17 (.int x))) = cWG dA ad (gU G 17 (upd (G 17) 0 x)) := fun _ _ => rfl
theorem c_put_19 (dA : ClassId) (ad : Nat → Nat) : ∀ (G : Nat → Nat → Int32) (x : Int32), (cWG dA ad G).set 0 (ad 0, .inr (0, (cF ad G).set 19 (.int x))) = cWG dA ad (gU G 19 (upd (G 19) 0 x)) := fun _ _ => rfl
theorem m_at_1 (dA : ClassId) (ad : Nat → Nat) : ∀ G : Nat → Nat → Int32, (mWG dA ad G)[1]? = some (ad 1, .inl (dA, 40, .inl (G 1))) := fun _ => rfl
theorem m_set_1 (dA : ClassId) (ad : Nat → Nat) : ∀ (G : Nat → Nat → Int32) (g : Nat → Int32), (mWG dA ad G).set 1 (ad 1, .inl (dA, 40, .inl g)) = mWG dA ad (gU G 1 g) := fun _ _ => rfl
theorem m_at_2 (dA : ClassId) (ad : Nat → Nat) : ∀ G : Nat → Nat → Int32, (mWG dA ad G)[2]? = some (ad 2, .inl (dA, 40, .inl (G 2))) := fun _ => rfl
theorem m_set_2 (dA : ClassId) (ad : Nat → Nat) : ∀ (G : Nat → Nat → Int32) (g : Nat → Int32), (mWG dA ad G).set 2 (ad 2, .inl (dA, 40, .inl g)) = mWG dA ad (gU G 2 g) := fun _ _ => rfl
theorem m_at_3 (dA : ClassId) (ad : Nat → Nat) : ∀ G : Nat → Nat → Int32, (mWG dA ad G)[3]? = some (ad 3, .inl (dA, 40, .inl (G 3))) := fun _ => rfl
theorem m_set_3 (dA : ClassId) (ad : Nat → Nat) : ∀ (G : Nat → Nat → Int32) (g : Nat → Int32), (mWG dA ad G).set 3 (ad 3, .inl (dA, 40, .inl g)) = mWG dA ad (gU G 3 g) := fun _ _ => rfl
theorem m_at_4 (dA : ClassId) (ad : Nat → Nat) : ∀ G : Nat → Nat → Int32, (mWG dA ad G)[4]? = some (ad 4, .inl (dA, 40, .inl (G 5))) := fun _ => rfl
theorem m_set_4 (dA : ClassId) (ad : Nat → Nat) : ∀ (G : Nat → Nat → Int32) (g : Nat → Int32), (mWG dA ad G).set 4 (ad 4, .inl (dA, 40, .inl g)) = mWG dA ad (gU G 5 g) := fun _ _ => rfl
theorem m_at_5 (dA : ClassId) (ad : Nat → Nat) : ∀ G : Nat → Nat → Int32, (mWG dA ad G)[5]? = some (ad 5, .inl (dA, 40, .inl (G 4))) := fun _ => rfl
theorem m_set_5 (dA : ClassId) (ad : Nat → Nat) : ∀ (G : Nat → Nat → Int32) (g : Nat → Int32), (mWG dA ad G).set 5 (ad 5, .inl (dA, 40, .inl g)) = mWG dA ad (gU G 4 g) := fun _ _ => rfl
theorem m_at_6 (dA : ClassId) (ad : Nat → Nat) : ∀ G : Nat → Nat → Int32, (mWG dA ad G)[6]? = some (ad 6, .inl (dA, 40, .inl (G 6))) := fun _ => rfl
theorem m_set_6 (dA : ClassId) (ad : Nat → Nat) : ∀ (G : Nat → Nat → Int32) (g : Nat → Int32), (mWG dA ad G).set 6 (ad 6, .inl (dA, 40, .inl g)) = mWG dA ad (gU G 6 g) := fun _ _ => rfl
theorem m_at_7 (dA : ClassId) (ad : Nat → Nat) : ∀ G : Nat → Nat → Int32, (mWG dA ad G)[7]? = some (ad 7, .inl (dA, 40, .inl (G 7))) := fun _ => rfl
theorem m_set_7 (dA : ClassId) (ad : Nat → Nat) : ∀ (G : Nat → Nat → Int32) (g : Nat → Int32), (mWG dA ad G).set 7 (ad 7, .inl (dA, 40, .inl g)) = mWG dA ad (gU G 7 g) := fun _ _ => rfl
theorem m_at_8 (dA : ClassId) (ad : Nat → Nat) : ∀ G : Nat → Nat → Int32, (mWG dA ad G)[8]? = some (ad 8, .inl (dA, 40, .inl (G 8))) := fun _ => rfl
theorem m_set_8 (dA : ClassId) (ad : Nat → Nat) : ∀ (G : Nat → Nat → Int32) (g : Nat → Int32), (mWG dA ad G).set 8 (ad 8, .inl (dA, 40, .inl g)) = mWG dA ad (gU G 8 g) := fun _ _ => rfl
theorem m_at_9 (dA : ClassId) (ad : Nat → Nat) : ∀ G : Nat → Nat → Int32, (mWG dA ad G)[9]? = some (ad 9, .inl (dA, 3, .inl (G 12))) := fun _ => rfl
theorem m_set_9 (dA : ClassId) (ad : Nat → Nat) : ∀ (G : Nat → Nat → Int32) (g : Nat → Int32), (mWG dA ad G).set 9 (ad 9, .inl (dA, 3, .inl g)) = mWG dA ad (gU G 12 g) := fun _ _ => rfl
theorem m_at_10 (dA : ClassId) (ad : Nat → Nat) : ∀ G : Nat → Nat → Int32, (mWG dA ad G)[10]? = some (ad 10, .inl (dA, 3, .inl (G 13))) := fun _ => rfl
theorem m_set_10 (dA : ClassId) (ad : Nat → Nat) : ∀ (G : Nat → Nat → Int32) (g : Nat → Int32), (mWG dA ad G).set 10 (ad 10, .inl (dA, 3, .inl g)) = mWG dA ad (gU G 13 g) := fun _ _ => rfl
theorem m_put_0 (dA : ClassId) (ad : Nat → Nat) : ∀ (G : Nat → Nat → Int32) (x : Int32), (mWG dA ad G).set 0 (ad 0, .inr (1, (mF ad G).set 0 (.int x))) = mWG dA ad (gU G 0 (upd (G 0) 0 x)) := fun _ _ => rfl
theorem m_put_11 (dA : ClassId) (ad : Nat → Nat) : ∀ (G : Nat → Nat → Int32) (x : Int32), (mWG dA ad G).set 0 (ad 0, .inr (1, (mF ad G).set 11 (.int x))) = mWG dA ad (gU G 19 (upd (G 19) 0 x)) := fun _ _ => rfl
/-! what stays in a method's walk, and what moves -/
def gC (own : String) (D : va_G) (dA : ClassId) (p : Program) (s : State) (m : MethodId) (args : Array Value) (c : Code) (cc : ByteArray) (nL : Nat) : Prop := p.tables.exec = Jvm.exec ∧ c.code = cc ∧ c.maxLocals = nL ∧ s.vm.findClass own = some m.cls ∧ (∀ w ∈ lw_all, w.before args s = true) ∧ va_K D vwCl [(dA, .int)] s
def gH (D : va_G) (A : Nat → Prop) (w : va_W) (H0 H : Heap) (locs : List Loc) : Prop := va_P D vwCl w H ∧ va_D A w ∧ va_S A H0 H locs
def gPre (D : va_G) (dA : ClassId) (A : Nat → Prop) (w : va_W) (as : List Value) : Array Value → State → Prop := va_Pc as (fun U => va_P D vwCl w U.heap ∧ va_K D vwCl [(dA, .int)] U ∧ va_D A w)
def gPost (D : va_G) (dA : ClassId) (A : Nat → Prop) (WG : (Nat → Nat → Int32) → va_W) : zS → State → Prop := fun X t => va_P D vwCl (WG (gG X)) t.heap ∧ va_K D vwCl [(dA, .int)] t ∧ va_D A (WG (gG X))
def gQi (D : va_G) (dA : ClassId) (A : Nat → Prop) (WG : (Nat → Nat → Int32) → va_W) (post : Int → zS → Prop) : Array Value → State → Outcome → State → Prop := va_Qi (fun (r : Int32) (X : zS) => ∃ z : Int, r = iI z ∧ post z X) (gPost D dA A WG) A
def gQv (D : va_G) (dA : ClassId) (A : Nat → Prop) (WG : (Nat → Nat → Int32) → va_W) (post : zS → Prop) : Array Value → State → Outcome → State → Prop := va_Qv post (gPost D dA A WG) A
/-- a contract: an int (or boolean) comes back -/
def gMi (l : Launch) (y : MethodName) (cc : ByteArray) (nL : Nat) (ret : Option FieldType) (rm : Room) (D : va_G) (dA : ClassId) (A : Nat → Prop) (WG : (Nat → Nat → Int32) → va_W) (as : List Value) (X : zS) (post : Int → zS → Prop) : Prop := Met l y (ws_ y cc nL ret) rm (gPre D dA A (WG (gG X)) as) (gQi D dA A WG post) 0 0 A
def gMv (l : Launch) (y : MethodName) (cc : ByteArray) (nL : Nat) (rm : Room) (D : va_G) (dA : ClassId) (A : Nat → Prop) (WG : (Nat → Nat → Int32) → va_W) (as : List Value) (X : zS) (post : zS → Prop) : Prop := Met l y (ws_ y cc nL none) rm (gPre D dA A (WG (gG X)) as) (gQv D dA A WG post) 0 0 A
abbrev cMi (l : Launch) (y : MethodName) (cc : ByteArray) (nL : Nat) (ret : Option FieldType) (fr lo : Nat) (D : va_G) (dA : ClassId) (A : Nat → Prop) (ad : Nat → Nat) (as : List Value) (X : zS) (post : Int → zS → Prop) : Prop := gMi l y cc nL ret { frames := fr, cells := 0, slots := 0, locals := lo } D dA A (cWG dA ad) as X post
abbrev cMv (l : Launch) (y : MethodName) (cc : ByteArray) (nL : Nat) (fr lo : Nat) (D : va_G) (dA : ClassId) (A : Nat → Prop) (ad : Nat → Nat) (as : List Value) (X : zS) (post : zS → Prop) : Prop := gMv l y cc nL { frames := fr, cells := 0, slots := 0, locals := lo } D dA A (cWG dA ad) as X post
abbrev mMi (l : Launch) (y : MethodName) (cc : ByteArray) (nL : Nat) (ret : Option FieldType) (fr lo : Nat) (D : va_G) (dA : ClassId) (A : Nat → Prop) (ad : Nat → Nat) (as : List Value) (X : zS) (post : Int → zS → Prop) : Prop := gMi l y cc nL ret { frames := fr, cells := 0, slots := 0, locals := lo } D dA A (mWG dA ad) as X post
abbrev mMv (l : Launch) (y : MethodName) (cc : ByteArray) (nL : Nat) (fr lo : Nat) (D : va_G) (dA : ClassId) (A : Nat → Prop) (ad : Nat → Nat) (as : List Value) (X : zS) (post : zS → Prop) : Prop := gMv l y cc nL { frames := fr, cells := 0, slots := 0, locals := lo } D dA A (mWG dA ad) as X post
theorem g_start_i {l : Launch} {y : MethodName} {cc : ByteArray} {nL : Nat} {ret : Option FieldType} {rm : Room} {D : va_G} {dA : ClassId} {A : Nat → Prop} {WG : (Nat → Nat → Int32) → va_W} {as : List Value} {X : zS} {post : Int → zS → Prop} (hy : plainName y.cls = true)
    (body : ∀ (p : Program) (e : Env) (s : State) (m : MethodId) (below : List Frame) (meth : Method) (c : Code), gC y.cls D dA p s m as.toArray c cc nL → meth.sig.returnType = ret → meth.locks = false → gH D A (WG (gG X)) s.heap s.heap [] → W p l e rm s m as.toArray below meth c s.heap [] 0 0 (MQ below (gQi D dA A WG post) as.toArray s 0 0 A) (entryFrame m as.toArray nL)) : gMi l y cc nL ret rm D dA A WG as X post := by
  refine Met.ofW (cc := cc) (maxL := nL) (ret := ret) hy rfl ?_
  intro p e s m args below meth c s₁ B hml hv
  obtain ⟨rfl, hP, hK, hD⟩ := hv
  have hts := atoms_spec (ws := ws_ y cc nL ret) B.pre
  exact body p e s m below meth c ⟨B.exec, B.bytes, hml, findClass_of_methodNamed B.named, fun w h => hts w (List.mem_cons_of_mem _ h), hK⟩ B.returns B.notSynchronized ⟨hP, hD, va_S.rf⟩
theorem g_start_v {l : Launch} {y : MethodName} {cc : ByteArray} {nL : Nat} {rm : Room} {D : va_G} {dA : ClassId} {A : Nat → Prop} {WG : (Nat → Nat → Int32) → va_W} {as : List Value} {X : zS} {post : zS → Prop} (hy : plainName y.cls = true)
    (body : ∀ (p : Program) (e : Env) (s : State) (m : MethodId) (below : List Frame) (meth : Method) (c : Code), gC y.cls D dA p s m as.toArray c cc nL → meth.sig.returnType = none → meth.locks = false → gH D A (WG (gG X)) s.heap s.heap [] → W p l e rm s m as.toArray below meth c s.heap [] 0 0 (MQ below (gQv D dA A WG post) as.toArray s 0 0 A) (entryFrame m as.toArray nL)) : gMv l y cc nL rm D dA A WG as X post := by
  refine Met.ofW (cc := cc) (maxL := nL) (ret := none) hy rfl ?_
  intro p e s m args below meth c s₁ B hml hv
  obtain ⟨rfl, hP, hK, hD⟩ := hv
  have hts := atoms_spec (ws := ws_ y cc nL none) B.pre
  exact body p e s m below meth c ⟨B.exec, B.bytes, hml, findClass_of_methodNamed B.named, fun w h => hts w (List.mem_cons_of_mem _ h), hK⟩ B.returns B.notSynchronized ⟨hP, hD, va_S.rf⟩
section RW
variable {p : Program} {l : Launch} {e : Env} {R : Room} {s : State} {m : MethodId} {args : Array Value} {below : List Frame} {meth : Method} {c : Code} {H H0 : Heap} {locs : List Loc} {cells slots : Nat} {Q : State → Prop}
variable {cc : ByteArray} {pc nL : Nat} {ls : Array Slot} {rest : List Value} {own : String} {D : va_G} {dA : ClassId} {A : Nat → Prop} {ad : Nat → Nat} {X : zS} {WG : (Nat → Nat → Int32) → va_W}

theorem c_get (Z : gC RX0 D dA p s m args c cc nL) (h : gH D A (cWG dA ad (gG X)) H0 H locs) (k : Nat) (hk : k < 21) {index : Nat} (hl : Cond.fieldLink RX0 index (TX0 k).1 (TX0 k).2.1 (TX0 k).2.2.1 ∈ lw_all) {v : Value} (hv : (cF ad (gG X))[k]? = some v) (hdg : decode cc pc = .ok (.getfield index, 3))
    (kk : W p l e R s m args below meth c H locs cells slots Q (F0 m (pc + 3) ls (v :: rest))) : W p l e R s m args below meth c H locs cells slots Q (F0 m pc ls (.ref (ad 0) :: rest)) :=
  va_get (D := D) (ci := 0) (v := v) (C := RX0) (T := TX0) (N := 21) Z.1 Z.2.1 Z.2.2.2.2.1 in_X0 Z.2.2.2.1 Z.2.2.2.2.2 h.1 0 rfl rfl k hk (Z.2.2.2.2.1 _ hl) (fun _ h9 => h9) hv hdg kk
theorem c_getI (Z : gC RX0 D dA p s m args c cc nL) (h : gH D A (cWG dA ad (gG X)) H0 H locs) (k : Nat) {j : Nat} (hk : k < 21) {index : Nat} (hl : Cond.fieldLink RX0 index (TX0 k).1 (TX0 k).2.1 (TX0 k).2.2.1 ∈ lw_all) (hf : (cF ad (gG X))[k]? = some (.int (iI (X j 0)))) {v : Int} (hv : X j 0 = v) (hdg : decode cc pc = .ok (.getfield index, 3))
    (kk : W p l e R s m args below meth c H locs cells slots Q (F0 m (pc + 3) ls (.int (iI v) :: rest))) : W p l e R s m args below meth c H locs cells slots Q (F0 m pc ls (.ref (ad 0) :: rest)) := by
  subst hv
  exact c_get Z h k hk hl hf hdg kk
theorem c_put (Z : gC RX0 D dA p s m args c cc nL) (h : gH D A (cWG dA ad (gG X)) H0 H locs) (k : Nat) {j : Nat} (hk : k < 21) {index : Nat} (hl : Cond.fieldLink RX0 index (TX0 k).1 (TX0 k).2.1 (TX0 k).2.2.1 ∈ lw_all) (hput : ∀ (G : Nat → Nat → Int32) (x : Int32), (cWG dA ad G).set 0 (ad 0, .inr (0, (cF ad G).set k (.int x))) = cWG dA ad (gU G j (upd (G j) 0 x))) (hfin : (TX0 k).2.2.2 = false) (hd : parseFieldDescriptor (TX0 k).2.2.1 = some .int) {v : Int} (hdg : decode cc pc = .ok (.putfield index, 3))
    (kk : ∀ (H1 : Heap) (locs1 : List Loc), gH D A (cWG dA ad (gG (sU X j 0 v))) H0 H1 locs1 → W p l e R s m args below meth c H1 locs1 cells slots Q (F0 m (pc + 3) ls rest)) : W p l e R s m args below meth c H locs cells slots Q (F0 m pc ls (.int (iI v) :: .ref (ad 0) :: rest)) := by
  refine va_put (D := D) (ci := 0) (v := .int (iI v)) (ty := .int) (C := RX0) (T := TX0) (N := 21) Z.1 Z.2.1 Z.2.2.2.2.1 in_X0 tyX0 tyX0_ok nmX0 Z.2.2.2.1 Z.2.2.2.2.2 h.1 h.2.1 h.2.2 0 rfl rfl k hk (Z.2.2.2.2.1 _ hl) (fun _ h9 => h9) hfin hd rfl rfl hk hdg (fun H1 locs1 hP hD hS => ?_)
  have e1 : (cWG dA ad (gG X)).set 0 (ad 0, .inr (0, (cF ad (gG X)).set k (.int (iI v)))) = cWG dA ad (gG (sU X j 0 v)) := by
    rw [hput]
    exact congrArg _ (gG_set X j (i := 0) v (by omega))
  rw [e1] at hP hD
  exact kk H1 locs1 ⟨hP, hD, hS⟩

theorem m_get (Z : gC RX1 D dA p s m args c cc nL) (h : gH D A (mWG dA ad (gG X)) H0 H locs) (k : Nat) (hk : k < 12) {index : Nat} (hl : Cond.fieldLink RX1 index (TX1 k).1 (TX1 k).2.1 (TX1 k).2.2.1 ∈ lw_all) {v : Value} (hv : (mF ad (gG X))[k]? = some v) (hdg : decode cc pc = .ok (.getfield index, 3))
    (kk : W p l e R s m args below meth c H locs cells slots Q (F0 m (pc + 3) ls (v :: rest))) : W p l e R s m args below meth c H locs cells slots Q (F0 m pc ls (.ref (ad 0) :: rest)) :=
  va_get (D := D) (ci := 1) (v := v) (C := RX1) (T := TX1) (N := 12) Z.1 Z.2.1 Z.2.2.2.2.1 in_X1 Z.2.2.2.1 Z.2.2.2.2.2 h.1 0 rfl rfl k hk (Z.2.2.2.2.1 _ hl) (fun _ h9 => h9) hv hdg kk
theorem m_getI (Z : gC RX1 D dA p s m args c cc nL) (h : gH D A (mWG dA ad (gG X)) H0 H locs) (k : Nat) {j : Nat} (hk : k < 12) {index : Nat} (hl : Cond.fieldLink RX1 index (TX1 k).1 (TX1 k).2.1 (TX1 k).2.2.1 ∈ lw_all) (hf : (mF ad (gG X))[k]? = some (.int (iI (X j 0)))) {v : Int} (hv : X j 0 = v) (hdg : decode cc pc = .ok (.getfield index, 3))
    (kk : W p l e R s m args below meth c H locs cells slots Q (F0 m (pc + 3) ls (.int (iI v) :: rest))) : W p l e R s m args below meth c H locs cells slots Q (F0 m pc ls (.ref (ad 0) :: rest)) := by
  subst hv
  exact m_get Z h k hk hl hf hdg kk
theorem m_put (Z : gC RX1 D dA p s m args c cc nL) (h : gH D A (mWG dA ad (gG X)) H0 H locs) (k : Nat) {j : Nat} (hk : k < 12) {index : Nat} (hl : Cond.fieldLink RX1 index (TX1 k).1 (TX1 k).2.1 (TX1 k).2.2.1 ∈ lw_all) (hput : ∀ (G : Nat → Nat → Int32) (x : Int32), (mWG dA ad G).set 0 (ad 0, .inr (1, (mF ad G).set k (.int x))) = mWG dA ad (gU G j (upd (G j) 0 x))) (hfin : (TX1 k).2.2.2 = false) (hd : parseFieldDescriptor (TX1 k).2.2.1 = some .int) {v : Int} (hdg : decode cc pc = .ok (.putfield index, 3))
    (kk : ∀ (H1 : Heap) (locs1 : List Loc), gH D A (mWG dA ad (gG (sU X j 0 v))) H0 H1 locs1 → W p l e R s m args below meth c H1 locs1 cells slots Q (F0 m (pc + 3) ls rest)) : W p l e R s m args below meth c H locs cells slots Q (F0 m pc ls (.int (iI v) :: .ref (ad 0) :: rest)) := by
  refine va_put (D := D) (ci := 1) (v := .int (iI v)) (ty := .int) (C := RX1) (T := TX1) (N := 12) Z.1 Z.2.1 Z.2.2.2.2.1 in_X1 tyX1 tyX1_ok nmX1 Z.2.2.2.1 Z.2.2.2.2.2 h.1 h.2.1 h.2.2 0 rfl rfl k hk (Z.2.2.2.2.1 _ hl) (fun _ h9 => h9) hfin hd rfl rfl hk hdg (fun H1 locs1 hP hD hS => ?_)
  have e1 : (mWG dA ad (gG X)).set 0 (ad 0, .inr (1, (mF ad (gG X)).set k (.int (iI v)))) = mWG dA ad (gG (sU X j 0 v)) := by
    rw [hput]
    exact congrArg _ (gG_set X j (i := 0) v (by omega))
  rw [e1] at hP hD
  exact kk H1 locs1 ⟨hP, hD, hS⟩

theorem g_ald (Z : gC own D dA p s m args c cc nL) (h : gH D A (WG (gG X)) H0 H locs) {pl k a n : Nat} (hat : ∀ G : Nat → Nat → Int32, (WG G)[pl]? = some (a, .inl (dA, n, .inl (G k)))) (hn : n ≤ 1000) {i v : Int} (hi : 0 ≤ i ∧ i < (n : Int)) (hv : X k i = v) (hdg : decode cc pc = .ok (.iaload, 1))
    (kk : W p l e R s m args below meth c H locs cells slots Q (F0 m (pc + 1) ls (.int (iI v) :: rest))) : W p l e R s m args below meth c H locs cells slots Q (F0 m pc ls (.int (iI i) :: .ref a :: rest)) := by
  refine va_iald Z.1 Z.2.1 Z.2.2.2.2.2 h.1 pl 0 (hat _) rfl (iI_in hi hn) hdg ?_
  have e1 : gG X k (iI i).toNatClampNeg = iI v := by
    show iI (X k ((iI i).toNatClampNeg : Int)) = iI v
    rw [iI_cl (by omega), Int.toNat_of_nonneg hi.1, hv]
  rw [e1]
  exact kk
theorem g_ast (Z : gC own D dA p s m args c cc nL) (h : gH D A (WG (gG X)) H0 H locs) {pl k a n : Nat} (hat : ∀ G : Nat → Nat → Int32, (WG G)[pl]? = some (a, .inl (dA, n, .inl (G k)))) (hset : ∀ (G : Nat → Nat → Int32) (g : Nat → Int32), (WG G).set pl (a, .inl (dA, n, .inl g)) = WG (gU G k g)) (hn : n ≤ 1000) {i v : Int} (hi : 0 ≤ i ∧ i < (n : Int)) (hdg : decode cc pc = .ok (.iastore, 1))
    (kk : ∀ (H1 : Heap) (locs1 : List Loc), gH D A (WG (gG (sU X k i v))) H0 H1 locs1 → W p l e R s m args below meth c H1 locs1 cells slots Q (F0 m (pc + 1) ls rest)) : W p l e R s m args below meth c H locs cells slots Q (F0 m pc ls (.int (iI v) :: .int (iI i) :: .ref a :: rest)) := by
  refine va_iast Z.1 Z.2.1 Z.2.2.2.2.2 h.1 h.2.1 h.2.2 pl 0 (hat _) rfl (iI_in hi hn) hdg (fun H1 locs1 hP hD hS => ?_)
  have e1 : (WG (gG X)).set pl (a, .inl (dA, n, .inl (upd (gG X k) (iI i).toNatClampNeg (iI v)))) = WG (gG (sU X k i v)) := by
    rw [hset, iI_cl (by omega), gG_set X k v hi.1]
  rw [e1] at hP hD
  exact kk H1 locs1 ⟨hP, hD, hS⟩
/-! integers on the stack -/
theorem i_top {a b : Int} (h : a = b) (kk : W p l e R s m args below meth c H locs cells slots Q (F0 m pc ls (.int (iI b) :: rest))) : W p l e R s m args below meth c H locs cells slots Q (F0 m pc ls (.int (iI a) :: rest)) := by
  rw [h]; exact kk
theorem i_const (Z : gC own D dA p s m args c cc nL) {n : Int} (hdg : decode cc pc = .ok (.iconst n, 1)) (kk : W p l e R s m args below meth c H locs cells slots Q (F0 m (pc + 1) ls (.int (iI n) :: rest))) : W p l e R s m args below meth c H locs cells slots Q (F0 m pc ls rest) := lv_iconst Z.1 Z.2.1 hdg rfl kk
theorem i_bipush (Z : gC own D dA p s m args c cc nL) {n : Int} (hdg : decode cc pc = .ok (.bipush n, 2)) (hn : (Int8.ofInt n).toInt32 = iI n) (kk : W p l e R s m args below meth c H locs cells slots Q (F0 m (pc + 2) ls (.int (iI n) :: rest))) : W p l e R s m args below meth c H locs cells slots Q (F0 m pc ls rest) := lv_bipush Z.1 Z.2.1 hdg hn kk
theorem i_add (Z : gC own D dA p s m args c cc nL) {a b : Int} (hdg : decode cc pc = .ok (.iadd, 1)) (kk : W p l e R s m args below meth c H locs cells slots Q (F0 m (pc + 1) ls (.int (iI (a + b)) :: rest))) : W p l e R s m args below meth c H locs cells slots Q (F0 m pc ls (.int (iI b) :: .int (iI a) :: rest)) := lv_iadd Z.1 Z.2.1 hdg (by rw [iI_add]; exact kk)
theorem i_sub (Z : gC own D dA p s m args c cc nL) {a b : Int} (hdg : decode cc pc = .ok (.isub, 1)) (kk : W p l e R s m args below meth c H locs cells slots Q (F0 m (pc + 1) ls (.int (iI (a - b)) :: rest))) : W p l e R s m args below meth c H locs cells slots Q (F0 m pc ls (.int (iI b) :: .int (iI a) :: rest)) := lv_isub Z.1 Z.2.1 hdg (by rw [iI_sub]; exact kk)
theorem i_mul (Z : gC own D dA p s m args c cc nL) {a b : Int} (hdg : decode cc pc = .ok (.imul, 1)) (kk : W p l e R s m args below meth c H locs cells slots Q (F0 m (pc + 1) ls (.int (iI (a * b)) :: rest))) : W p l e R s m args below meth c H locs cells slots Q (F0 m pc ls (.int (iI b) :: .int (iI a) :: rest)) := lv_imul Z.1 Z.2.1 hdg (by rw [iI_mul]; exact kk)
theorem i_div (Z : gC own D dA p s m args c cc nL) {a : Int} (ha : 0 ≤ a ∧ a ≤ 2147483647) (hdg : decode cc pc = .ok (.idiv, 1)) (kk : W p l e R s m args below meth c H locs cells slots Q (F0 m (pc + 1) ls (.int (iI (a / 2)) :: rest))) : W p l e R s m args below meth c H locs cells slots Q (F0 m pc ls (.int (iI 2) :: .int (iI a) :: rest)) := lv_idiv Z.1 Z.2.1 hdg (by decide) (by rw [iI_div2 ha]; exact kk)
theorem i_dup (Z : gC own D dA p s m args c cc nL) {v : Value} (hdg : decode cc pc = .ok (.dup, 1)) (hv : v.category = 1) (kk : W p l e R s m args below meth c H locs cells slots Q (F0 m (pc + 1) ls (v :: v :: rest))) : W p l e R s m args below meth c H locs cells slots Q (F0 m pc ls (v :: rest)) := lv_dup Z.1 Z.2.1 hdg hv kk
theorem i_dup2 (Z : gC own D dA p s m args c cc nL) {v w : Value} (hdg : decode cc pc = .ok (.dup2, 1)) (hv : v.category = 1) (hw : w.category = 1) (kk : W p l e R s m args below meth c H locs cells slots Q (F0 m (pc + 1) ls (v :: w :: v :: w :: rest))) : W p l e R s m args below meth c H locs cells slots Q (F0 m pc ls (v :: w :: rest)) := lv_dup2_11 Z.1 Z.2.1 hdg hv hw kk
theorem i_inc (Z : gC own D dA p s m args c cc nL) {i k : Nat} {n x : Int} {lv lv' : List (Nat × Value)} (hdg : decode cc pc = .ok (.iinc i n, 3)) (h : lv_has ls nL lv) (hk : lv[k]? = some (i, .int (iI x))) (hn : i < nL) (hl : (i, Value.int (iI (x + n))) :: lv.filter (fun q => !(q.1 == i) && !(q.1 + 1 == i && q.2.category == 2)) = lv')
    (kk : ∀ ls' : Array Slot, lv_has ls' nL lv' → W p l e R s m args below meth c H locs cells slots Q (F0 m (pc + 3) ls' rest)) : W p l e R s m args below meth c H locs cells slots Q (F0 m pc ls rest) := lv_iinc Z.1 Z.2.1 hdg h hk (iI_add x n) hn hl kk
theorem i_icmp_lt (Z : gC own D dA p s m args c cc nL) {a b : Int} {off : Int} {tgt : Nat} (hb2 : -2147483648 ≤ a ∧ a ≤ 2147483647 ∧ -2147483648 ≤ b ∧ b ≤ 2147483647) (hdg : decode cc pc = .ok (.if_icmp .lt off, 3)) (ht : (pc : Int) + off = (tgt : Int))
    (kt : a < b → W p l e R s m args below meth c H locs cells slots Q (F0 m tgt ls rest)) (kf : ¬ (a < b) → W p l e R s m args below meth c H locs cells slots Q (F0 m (pc + 3) ls rest)) : W p l e R s m args below meth c H locs cells slots Q (F0 m pc ls (.int (iI b) :: .int (iI a) :: rest)) :=
  lv_icmp_lt Z.1 Z.2.1 hdg ht (fun q => kt ((iI_lt hb2).mp q)) (fun q => kf (fun w => q ((iI_lt hb2).mpr w)))
theorem i_icmp_ge (Z : gC own D dA p s m args c cc nL) {a b : Int} {off : Int} {tgt : Nat} (hb2 : -2147483648 ≤ a ∧ a ≤ 2147483647 ∧ -2147483648 ≤ b ∧ b ≤ 2147483647) (hdg : decode cc pc = .ok (.if_icmp .ge off, 3)) (ht : (pc : Int) + off = (tgt : Int))
    (kt : b ≤ a → W p l e R s m args below meth c H locs cells slots Q (F0 m tgt ls rest)) (kf : ¬ (b ≤ a) → W p l e R s m args below meth c H locs cells slots Q (F0 m (pc + 3) ls rest)) : W p l e R s m args below meth c H locs cells slots Q (F0 m pc ls (.int (iI b) :: .int (iI a) :: rest)) :=
  lv_icmp_ge Z.1 Z.2.1 hdg ht (fun q => kt ((iI_le ⟨hb2.2.2.1, hb2.2.2.2, hb2.1, hb2.2.1⟩).mp q)) (fun q => kf (fun w => q ((iI_le ⟨hb2.2.2.1, hb2.2.2.2, hb2.1, hb2.2.1⟩).mpr w)))
theorem i_icmp_gt (Z : gC own D dA p s m args c cc nL) {a b : Int} {off : Int} {tgt : Nat} (hb2 : -2147483648 ≤ a ∧ a ≤ 2147483647 ∧ -2147483648 ≤ b ∧ b ≤ 2147483647) (hdg : decode cc pc = .ok (.if_icmp .gt off, 3)) (ht : (pc : Int) + off = (tgt : Int))
    (kt : b < a → W p l e R s m args below meth c H locs cells slots Q (F0 m tgt ls rest)) (kf : ¬ (b < a) → W p l e R s m args below meth c H locs cells slots Q (F0 m (pc + 3) ls rest)) : W p l e R s m args below meth c H locs cells slots Q (F0 m pc ls (.int (iI b) :: .int (iI a) :: rest)) :=
  lv_icmp_gt Z.1 Z.2.1 hdg ht (fun q => kt ((iI_lt ⟨hb2.2.2.1, hb2.2.2.2, hb2.1, hb2.2.1⟩).mp q)) (fun q => kf (fun w => q ((iI_lt ⟨hb2.2.2.1, hb2.2.2.2, hb2.1, hb2.2.1⟩).mpr w)))
theorem i_icmp_le (Z : gC own D dA p s m args c cc nL) {a b : Int} {off : Int} {tgt : Nat} (hb2 : -2147483648 ≤ a ∧ a ≤ 2147483647 ∧ -2147483648 ≤ b ∧ b ≤ 2147483647) (hdg : decode cc pc = .ok (.if_icmp .le off, 3)) (ht : (pc : Int) + off = (tgt : Int))
    (kt : a ≤ b → W p l e R s m args below meth c H locs cells slots Q (F0 m tgt ls rest)) (kf : ¬ (a ≤ b) → W p l e R s m args below meth c H locs cells slots Q (F0 m (pc + 3) ls rest)) : W p l e R s m args below meth c H locs cells slots Q (F0 m pc ls (.int (iI b) :: .int (iI a) :: rest)) :=
  lv_icmp_le Z.1 Z.2.1 hdg ht (fun q => kt ((iI_le hb2).mp q)) (fun q => kf (fun w => q ((iI_le hb2).mpr w)))
theorem i_icmp_eq (Z : gC own D dA p s m args c cc nL) {a b : Int} {off : Int} {tgt : Nat} (hb2 : -2147483648 ≤ a ∧ a ≤ 2147483647 ∧ -2147483648 ≤ b ∧ b ≤ 2147483647) (hdg : decode cc pc = .ok (.if_icmp .eq off, 3)) (ht : (pc : Int) + off = (tgt : Int))
    (kt : a = b → W p l e R s m args below meth c H locs cells slots Q (F0 m tgt ls rest)) (kf : ¬ (a = b) → W p l e R s m args below meth c H locs cells slots Q (F0 m (pc + 3) ls rest)) : W p l e R s m args below meth c H locs cells slots Q (F0 m pc ls (.int (iI b) :: .int (iI a) :: rest)) :=
  lv_icmp_eq Z.1 Z.2.1 hdg ht (fun q => kt ((iI_eq hb2).mp q)) (fun q => kf (fun w => q ((iI_eq hb2).mpr w)))
theorem i_icmp_ne (Z : gC own D dA p s m args c cc nL) {a b : Int} {off : Int} {tgt : Nat} (hb2 : -2147483648 ≤ a ∧ a ≤ 2147483647 ∧ -2147483648 ≤ b ∧ b ≤ 2147483647) (hdg : decode cc pc = .ok (.if_icmp .ne off, 3)) (ht : (pc : Int) + off = (tgt : Int))
    (kt : ¬ a = b → W p l e R s m args below meth c H locs cells slots Q (F0 m tgt ls rest)) (kf : a = b → W p l e R s m args below meth c H locs cells slots Q (F0 m (pc + 3) ls rest)) : W p l e R s m args below meth c H locs cells slots Q (F0 m pc ls (.int (iI b) :: .int (iI a) :: rest)) :=
  lv_icmp_ne Z.1 Z.2.1 hdg ht (fun q => kt ((not_congr (iI_eq hb2)).mp q)) (fun q => kf ((iI_eq hb2).mp q))
theorem i_if_lt (Z : gC own D dA p s m args c cc nL) {a : Int} {off : Int} {tgt : Nat} (hb2 : -2147483648 ≤ a ∧ a ≤ 2147483647) (hdg : decode cc pc = .ok (.ifCond .lt off, 3)) (ht : (pc : Int) + off = (tgt : Int))
    (kt : a < 0 → W p l e R s m args below meth c H locs cells slots Q (F0 m tgt ls rest)) (kf : ¬ (a < 0) → W p l e R s m args below meth c H locs cells slots Q (F0 m (pc + 3) ls rest)) : W p l e R s m args below meth c H locs cells slots Q (F0 m pc ls (.int (iI a) :: rest)) :=
  lv_if_lt Z.1 Z.2.1 hdg ht (fun q => kt ((iI_lt (a := a) (b := 0) (by omega)).mp q)) (fun q => kf (fun w => q ((iI_lt (a := a) (b := 0) (by omega)).mpr w)))
theorem i_if_ge (Z : gC own D dA p s m args c cc nL) {a : Int} {off : Int} {tgt : Nat} (hb2 : -2147483648 ≤ a ∧ a ≤ 2147483647) (hdg : decode cc pc = .ok (.ifCond .ge off, 3)) (ht : (pc : Int) + off = (tgt : Int))
    (kt : 0 ≤ a → W p l e R s m args below meth c H locs cells slots Q (F0 m tgt ls rest)) (kf : ¬ (0 ≤ a) → W p l e R s m args below meth c H locs cells slots Q (F0 m (pc + 3) ls rest)) : W p l e R s m args below meth c H locs cells slots Q (F0 m pc ls (.int (iI a) :: rest)) :=
  lv_if_ge Z.1 Z.2.1 hdg ht (fun q => kt ((iI_le (a := 0) (b := a) (by omega)).mp q)) (fun q => kf (fun w => q ((iI_le (a := 0) (b := a) (by omega)).mpr w)))
theorem i_if_gt (Z : gC own D dA p s m args c cc nL) {a : Int} {off : Int} {tgt : Nat} (hb2 : -2147483648 ≤ a ∧ a ≤ 2147483647) (hdg : decode cc pc = .ok (.ifCond .gt off, 3)) (ht : (pc : Int) + off = (tgt : Int))
    (kt : 0 < a → W p l e R s m args below meth c H locs cells slots Q (F0 m tgt ls rest)) (kf : ¬ (0 < a) → W p l e R s m args below meth c H locs cells slots Q (F0 m (pc + 3) ls rest)) : W p l e R s m args below meth c H locs cells slots Q (F0 m pc ls (.int (iI a) :: rest)) :=
  lv_if_gt Z.1 Z.2.1 hdg ht (fun q => kt ((iI_lt (a := 0) (b := a) (by omega)).mp q)) (fun q => kf (fun w => q ((iI_lt (a := 0) (b := a) (by omega)).mpr w)))
theorem i_if_le (Z : gC own D dA p s m args c cc nL) {a : Int} {off : Int} {tgt : Nat} (hb2 : -2147483648 ≤ a ∧ a ≤ 2147483647) (hdg : decode cc pc = .ok (.ifCond .le off, 3)) (ht : (pc : Int) + off = (tgt : Int))
    (kt : a ≤ 0 → W p l e R s m args below meth c H locs cells slots Q (F0 m tgt ls rest)) (kf : ¬ (a ≤ 0) → W p l e R s m args below meth c H locs cells slots Q (F0 m (pc + 3) ls rest)) : W p l e R s m args below meth c H locs cells slots Q (F0 m pc ls (.int (iI a) :: rest)) :=
  lv_if_le Z.1 Z.2.1 hdg ht (fun q => kt ((iI_le (a := a) (b := 0) (by omega)).mp q)) (fun q => kf (fun w => q ((iI_le (a := a) (b := 0) (by omega)).mpr w)))
theorem i_if_eq (Z : gC own D dA p s m args c cc nL) {a : Int} {off : Int} {tgt : Nat} (hb2 : -2147483648 ≤ a ∧ a ≤ 2147483647) (hdg : decode cc pc = .ok (.ifCond .eq off, 3)) (ht : (pc : Int) + off = (tgt : Int))
    (kt : a = 0 → W p l e R s m args below meth c H locs cells slots Q (F0 m tgt ls rest)) (kf : ¬ (a = 0) → W p l e R s m args below meth c H locs cells slots Q (F0 m (pc + 3) ls rest)) : W p l e R s m args below meth c H locs cells slots Q (F0 m pc ls (.int (iI a) :: rest)) :=
  lv_if_eq Z.1 Z.2.1 hdg ht (fun q => kt ((iI_eq (a := a) (b := 0) (by omega)).mp q)) (fun q => kf (fun w => q ((iI_eq (a := a) (b := 0) (by omega)).mpr w)))
theorem i_if_ne (Z : gC own D dA p s m args c cc nL) {a : Int} {off : Int} {tgt : Nat} (hb2 : -2147483648 ≤ a ∧ a ≤ 2147483647) (hdg : decode cc pc = .ok (.ifCond .ne off, 3)) (ht : (pc : Int) + off = (tgt : Int))
    (kt : ¬ a = 0 → W p l e R s m args below meth c H locs cells slots Q (F0 m tgt ls rest)) (kf : a = 0 → W p l e R s m args below meth c H locs cells slots Q (F0 m (pc + 3) ls rest)) : W p l e R s m args below meth c H locs cells slots Q (F0 m pc ls (.int (iI a) :: rest)) :=
  lv_if_ne Z.1 Z.2.1 hdg ht (fun q => kt ((not_congr (iI_eq (a := a) (b := 0) (by omega))).mp q)) (fun q => kf ((iI_eq (a := a) (b := 0) (by omega)).mp q))
/-- a boolean answer and the branch on it -/
theorem b_ifeq (Z : gC own D dA p s m args c cc nL) {z : Int} {P : Prop} {off : Int} {tgt : Nat} (hz : (P ∧ z = 1) ∨ (¬ P ∧ z = 0)) (hdg : decode cc pc = .ok (.ifCond .eq off, 3)) (ht : (pc : Int) + off = (tgt : Int))
    (kt : ¬ P → W p l e R s m args below meth c H locs cells slots Q (F0 m tgt ls rest)) (kf : P → W p l e R s m args below meth c H locs cells slots Q (F0 m (pc + 3) ls rest)) : W p l e R s m args below meth c H locs cells slots Q (F0 m pc ls (.int (iI z) :: rest)) := by
  refine i_if_eq Z (by omega) hdg ht (fun q => ?_) (fun q => ?_)
  · rcases hz with ⟨_, h1⟩ | ⟨h0, _⟩
    · omega
    · exact kt h0
  · rcases hz with ⟨h0, _⟩ | ⟨_, h1⟩
    · exact kf h0
    · omega
theorem b_ifne (Z : gC own D dA p s m args c cc nL) {z : Int} {P : Prop} {off : Int} {tgt : Nat} (hz : (P ∧ z = 1) ∨ (¬ P ∧ z = 0)) (hdg : decode cc pc = .ok (.ifCond .ne off, 3)) (ht : (pc : Int) + off = (tgt : Int))
    (kt : P → W p l e R s m args below meth c H locs cells slots Q (F0 m tgt ls rest)) (kf : ¬ P → W p l e R s m args below meth c H locs cells slots Q (F0 m (pc + 3) ls rest)) : W p l e R s m args below meth c H locs cells slots Q (F0 m pc ls (.int (iI z) :: rest)) := by
  refine i_if_ne Z (by omega) hdg ht (fun q => ?_) (fun q => ?_)
  · rcases hz with ⟨h0, _⟩ | ⟨_, h1⟩
    · exact kt h0
    · omega
  · rcases hz with ⟨_, h1⟩ | ⟨h0, _⟩
    · omega
    · exact kf h0
/-! ends -/
theorem g_ireturn {post : Int → zS → Prop} {z : Int} {ty : FieldType} (Z : gC own D dA p s m args c cc nL) (hr : meth.sig.returnType = some ty) (hlocks : meth.locks = false) (h : gH D A (WG (gG X)) s.heap H locs) (hn : narrow ty (.int (iI z)) = .int (iI z)) (hp : post z X) (hdg : decode cc pc = .ok (.ireturn, 1)) : W p l e R s m args below meth c H locs 0 0 (MQ below (gQi D dA A WG post) args s 0 0 A) (F0 m pc ls [.int (iI z)]) :=
  W.zret Z.1 Z.2.1 hr hn (fun t ht hW => ⟨⟨iI z, X, rfl, ⟨z, rfl, hp⟩, by rw [ht]; exact h.1, va_K.moved hW.alike Z.2.2.2.2.2, h.2.1⟩, h.2.2.F ht⟩) h.2.2.2.2 hdg hlocks
theorem g_return {post : zS → Prop} (Z : gC own D dA p s m args c cc nL) (hr : meth.sig.returnType = none) (hlocks : meth.locks = false) (h : gH D A (WG (gG X)) s.heap H locs) (hp : post X) (hdg : decode cc pc = .ok (.return_, 1)) : W p l e R s m args below meth c H locs 0 0 (MQ below (gQv D dA A WG post) args s 0 0 A) (F0 m pc ls []) :=
  W.vret Z.1 Z.2.1 hr (fun t ht hW => ⟨⟨X, rfl, hp, by rw [ht]; exact h.1, va_K.moved hW.alike Z.2.2.2.2.2, h.2.1⟩, h.2.2.F ht⟩) h.2.2.2.2 hdg hlocks
/-! calls within one world -/
theorem g_blind {w : va_W} {as : List Value} : FrameBlind (gPre D dA A w as) := fun a U g mk q => by
  obtain ⟨q0, qP, qK, qD⟩ := q
  exact ⟨q0, qP, va_K.moved (u := U) (U := U.calling g mk a) (Vm.Alike.refl U.vm) qK, qD⟩
theorem g_calli {y : MethodName} {bytes : ByteArray} {maxL n index : Nat} {ret : Option FieldType} {rm : Room} {post : Int → zS → Prop} {b : Nat} {As st : List Value} {ci : Nat} {fs : List Value} {q : vw_C} (Z : gC own D dA p s m args c cc nL) (h : gH D A (WG (gG X)) H0 H locs) (hM : gMi l y bytes maxL ret rm D dA A WG (.ref b :: As) X post) (cw : CallW R s args own q.1 index y bytes maxL ret (ws_ y bytes maxL ret) rm 0 0 n) (hc : vwCl[ci]? = some q) (hob : (WG (gG X))[0]? = some (b, .inr (ci, fs))) (hn : As.length = n) (hsz : ls.size = nL) (hst : st = As.reverse ++ .ref b :: rest) (hW : (rest.map fun v => v.category).sum ≤ 8) (hcs : cells ≤ R.cells ∧ slots ≤ R.slots) (hdg : decode cc pc = .ok (.invokevirtual index, 3))
    (kk : ∀ (z : Int) (X1 : zS) (H1 : Heap) (locs1 : List Loc), post z X1 → gH D A (WG (gG X1)) H0 H1 locs1 → W p l e R s m args below meth c H1 locs1 cells slots Q (F0 m (pc + 3) ls (.int (iI z) :: rest))) : W p l e R s m args below meth c H locs cells slots Q (F0 m pc ls st) := by
  refine va_calli (va_runV (As := As) (rest := rest) ⟨Z.1, Z.2.1, Z.2.2.1, Z.2.2.2.1, Z.2.2.2.2.1⟩ hM cw ⟨g_blind, va_recv Z.2.2.2.2.2 h.1 (ci := ci) (q0 := 0) hc hob, fun U hU hWm => ⟨rfl, by rw [hU]; exact h.1, va_K.moved hWm.alike Z.2.2.2.2.2, h.2.1⟩⟩ rfl hn hsz hst (lv_room hW) hdg hcs) h.2.2 (fun q9 _ h9 => h9) (fun q9 h9 => h9) (fun r u t H1 locs1 ht hvm hw hB hz1 hk1 hS => ?_)
  obtain ⟨z, rfl, hp⟩ := hw
  obtain ⟨hP1, hK1, hD1⟩ := hB
  rw [ht] at hP1
  exact kk z u H1 locs1 hp ⟨hP1, hD1, hS⟩
theorem g_callv {y : MethodName} {bytes : ByteArray} {maxL n index : Nat} {rm : Room} {post : zS → Prop} {b : Nat} {As st : List Value} {ci : Nat} {fs : List Value} {q : vw_C} (Z : gC own D dA p s m args c cc nL) (h : gH D A (WG (gG X)) H0 H locs) (hM : gMv l y bytes maxL rm D dA A WG (.ref b :: As) X post) (cw : CallW R s args own q.1 index y bytes maxL none (ws_ y bytes maxL none) rm 0 0 n) (hc : vwCl[ci]? = some q) (hob : (WG (gG X))[0]? = some (b, .inr (ci, fs))) (hn : As.length = n) (hsz : ls.size = nL) (hst : st = As.reverse ++ .ref b :: rest) (hW : (rest.map fun v => v.category).sum ≤ 8) (hcs : cells ≤ R.cells ∧ slots ≤ R.slots) (hdg : decode cc pc = .ok (.invokevirtual index, 3))
    (kk : ∀ (X1 : zS) (H1 : Heap) (locs1 : List Loc), post X1 → gH D A (WG (gG X1)) H0 H1 locs1 → W p l e R s m args below meth c H1 locs1 cells slots Q (F0 m (pc + 3) ls rest)) : W p l e R s m args below meth c H locs cells slots Q (F0 m pc ls st) := by
  refine va_callv (va_runV (As := As) (rest := rest) ⟨Z.1, Z.2.1, Z.2.2.1, Z.2.2.2.1, Z.2.2.2.2.1⟩ hM cw ⟨g_blind, va_recv Z.2.2.2.2.2 h.1 (ci := ci) (q0 := 0) hc hob, fun U hU hWm => ⟨rfl, by rw [hU]; exact h.1, va_K.moved hWm.alike Z.2.2.2.2.2, h.2.1⟩⟩ rfl hn hsz hst (lv_room hW) hdg hcs) h.2.2 (fun q9 _ h9 => h9) (fun q9 h9 => h9) (fun u t H1 locs1 ht hvm hw hB hz1 hk1 hS => ?_)
  obtain ⟨hP1, hK1, hD1⟩ := hB
  rw [ht] at hP1
  exact kk u H1 locs1 hw ⟨hP1, hD1, hS⟩
theorem g_calls {y : MethodName} {bytes : ByteArray} {maxL n index : Nat} {ret : Option FieldType} {rm : Room} {post : Int → zS → Prop} {As st : List Value} (Z : gC own D dA p s m args c cc nL) (h : gH D A (WG (gG X)) H0 H locs) (hM : gMi l y bytes maxL ret rm D dA A WG As X post) (cw : CallB R s args own index y bytes maxL ret (ws_ y bytes maxL ret) rm 0 0 n ∧ (Cond.static y).before args s = true) (hn : As.length = n) (hsz : ls.size = nL) (hst : st = As.reverse ++ rest) (hW : (rest.map fun v => v.category).sum ≤ 8) (hcs : cells ≤ R.cells ∧ slots ≤ R.slots) (hdg : decode cc pc = .ok (.invokestatic index, 3))
    (kk : ∀ (z : Int) (X1 : zS) (H1 : Heap) (locs1 : List Loc), post z X1 → gH D A (WG (gG X1)) H0 H1 locs1 → W p l e R s m args below meth c H1 locs1 cells slots Q (F0 m (pc + 3) ls (.int (iI z) :: rest))) : W p l e R s m args below meth c H locs cells slots Q (F0 m pc ls st) := by
  refine va_calli (va_runS (As := As) (rest := rest) ⟨Z.1, Z.2.1, Z.2.2.1, Z.2.2.2.1, Z.2.2.2.2.1⟩ hM cw ⟨g_blind, fun U hU hWm => ⟨rfl, by rw [hU]; exact h.1, va_K.moved hWm.alike Z.2.2.2.2.2, h.2.1⟩⟩ rfl hn hsz hst (lv_room hW) hdg hcs) h.2.2 (fun q9 _ h9 => h9) (fun q9 h9 => h9) (fun r u t H1 locs1 ht hvm hw hB hz1 hk1 hS => ?_)
  obtain ⟨z, rfl, hp⟩ := hw
  obtain ⟨hP1, hK1, hD1⟩ := hB
  rw [ht] at hP1
  exact kk z u H1 locs1 hp ⟨hP1, hD1, hS⟩
end RW
end
section
/-! counting, orders, heaps with a hole: plain Lean, no program in sight -/
noncomputable def ct (p : Int → Prop) : Nat → Int
  | 0 => 0
  | n + 1 => ct p n + @ite Int (p (n : Int)) (Classical.propDecidable _) 1 0
theorem ct_t {p : Int → Prop} {n : Nat} (h : p (n : Int)) : ct p (n + 1) = ct p n + 1 := by simp [ct, h]
theorem ct_f {p : Int → Prop} {n : Nat} (h : ¬ p (n : Int)) : ct p (n + 1) = ct p n := by simp [ct, h]
theorem ct_rng (p : Int → Prop) (n : Nat) : 0 ≤ ct p n ∧ ct p n ≤ n := by
  induction n with
  | zero => exact ⟨Int.le_refl _, Int.le_refl _⟩
  | succ n ih =>
    by_cases h : p (n : Int)
    · rw [ct_t h]; omega
    · rw [ct_f h]; omega
theorem ct_congr {p q : Int → Prop} {n : Nat} (h : ∀ i : Int, 0 ≤ i → i < (n : Int) → (p i ↔ q i)) : ct p n = ct q n := by
  induction n with
  | zero => rfl
  | succ n ih =>
    have e := ih (fun i h0 h1 => h i h0 (by omega))
    have hn := h (n : Int) (by omega) (by omega)
    by_cases hp : p (n : Int)
    · rw [ct_t hp, ct_t (hn.mp hp), e]
    · rw [ct_f hp, ct_f (fun w => hp (hn.mpr w)), e]
theorem ct_flip {p q : Int → Prop} {n : Nat} {m : Int} (h0 : 0 ≤ m) (h1 : m < (n : Int)) (hp : ¬ p m) (hq : q m) (h : ∀ i : Int, 0 ≤ i → i < (n : Int) → i ≠ m → (p i ↔ q i)) : ct q n = ct p n + 1 := by
  induction n with
  | zero => exact absurd h1 (by omega)
  | succ n ih =>
    by_cases e : m = (n : Int)
    · subst e
      rw [ct_t hq, ct_f hp, ct_congr (p := p) (q := q) (fun i a b => h i a (by omega) (by omega))]
    · have e1 := ih (by omega) (fun i a b d => h i a (by omega) d)
      have hn := h (n : Int) (by omega) (by omega) (fun w => e w.symm)
      by_cases hpn : p (n : Int)
      · rw [ct_t hpn, ct_t (hn.mp hpn), e1]
      · rw [ct_f hpn, ct_f (fun w => hpn (hn.mpr w)), e1]
theorem ct_le_of {p q : Int → Prop} {n : Nat} (h : ∀ i : Int, 0 ≤ i → i < (n : Int) → p i → q i) : ct p n ≤ ct q n := by
  induction n with
  | zero => exact Int.le_refl _
  | succ n ih =>
    have e := ih (fun i h0 h1 => h i h0 (by omega))
    by_cases hp : p (n : Int)
    · rw [ct_t hp, ct_t (h _ (by omega) (by omega) hp)]; omega
    · rw [ct_f hp]
      by_cases hq : q (n : Int)
      · rw [ct_t hq]; omega
      · rw [ct_f hq]; exact e
/-- the count over 0 .. z-1 -/
noncomputable def cn (p : Int → Prop) (z : Int) : Int := ct p z.toNat
theorem cn_0 (p : Int → Prop) : cn p 0 = 0 := rfl
theorem cn_t {p : Int → Prop} {z : Int} (h0 : 0 ≤ z) (h : p z) : cn p (z + 1) = cn p z + 1 := by
  unfold cn
  rw [show (z + 1).toNat = z.toNat + 1 by omega]
  exact ct_t (by rw [Int.toNat_of_nonneg h0]; exact h)
theorem cn_f {p : Int → Prop} {z : Int} (h0 : 0 ≤ z) (h : ¬ p z) : cn p (z + 1) = cn p z := by
  unfold cn
  rw [show (z + 1).toNat = z.toNat + 1 by omega]
  exact ct_f (by rw [Int.toNat_of_nonneg h0]; exact h)
theorem cn_rng (p : Int → Prop) {z : Int} (h0 : 0 ≤ z) : 0 ≤ cn p z ∧ cn p z ≤ z := by
  have := ct_rng p z.toNat
  unfold cn
  omega
theorem cn_congr {p q : Int → Prop} {z : Int} (h : ∀ i : Int, 0 ≤ i → i < z → (p i ↔ q i)) : cn p z = cn q z := ct_congr (fun i a b => h i a (by omega))
theorem cn_flip {p q : Int → Prop} {z m : Int} (h0 : 0 ≤ m) (h1 : m < z) (hp : ¬ p m) (hq : q m) (h : ∀ i : Int, 0 ≤ i → i < z → i ≠ m → (p i ↔ q i)) : cn q z = cn p z + 1 := ct_flip h0 (by omega) hp hq (fun i a b d => h i a (by omega) d)
theorem cn_le_of {p q : Int → Prop} {z : Int} (h : ∀ i : Int, 0 ≤ i → i < z → p i → q i) : cn p z ≤ cn q z := ct_le_of (fun i a b => h i a (by omega))
theorem cn_lt_of {p q : Int → Prop} {z m : Int} (h0 : 0 ≤ m) (h1 : m < z) (hp : ¬ p m) (hq : q m) (h : ∀ i : Int, 0 ≤ i → i < z → p i → q i) : cn p z < cn q z := by
  have e1 : cn (fun i => p i ∨ i = m) z = cn p z + 1 := cn_flip h0 h1 hp (Or.inr rfl) (fun i _ _ d => ⟨Or.inl, fun w => w.resolve_right d⟩)
  have e2 : cn (fun i => p i ∨ i = m) z ≤ cn q z := cn_le_of (fun i a b w => w.elim (h i a b) (fun e => e ▸ hq))
  omega
theorem cn_zero {p : Int → Prop} {z : Int} (h : ∀ i : Int, 0 ≤ i → i < z → ¬ p i) : cn p z = 0 := by
  have e : cn p z = cn (fun _ => False) z := cn_congr (fun i a b => ⟨h i a b, False.elim⟩)
  have e2 : ∀ n : Nat, ct (fun _ => False) n = 0 := by
    intro n
    induction n with
    | zero => rfl
    | succ n ih => rw [ct_f (fun w => w), ih]
  rw [e]
  exact e2 _
theorem cn_none {p : Int → Prop} {z : Int} (h : cn p z ≤ 0) : ∀ i : Int, 0 ≤ i → i < z → ¬ p i := by
  intro i a b hp
  have e := cn_lt_of (p := fun _ => False) (q := p) a b (fun w => w) hp (fun _ _ _ w => w.elim)
  have e2 : cn (fun _ => False) z = 0 := cn_zero (fun _ _ _ w => w)
  omega
theorem cn_some {p : Int → Prop} {z i : Int} (a : 0 ≤ i) (b : i < z) (hp : p i) : 0 < cn p z := by
  rcases Int.lt_or_le 0 (cn p z) with h | h
  · exact h
  · exact absurd hp (cn_none h i a b)
theorem cn_all {p : Int → Prop} {z : Int} (h0 : 0 ≤ z) (h : ∀ i : Int, 0 ≤ i → i < z → p i) : cn p z = z := by
  have key : ∀ n : Nat, (∀ i : Int, 0 ≤ i → i < (n : Int) → p i) → ct p n = n := by
    intro n
    induction n with
    | zero => intro _; rfl
    | succ n ih =>
      intro hn
      rw [ct_t (hn _ (by omega) (by omega)), ih (fun i a b => hn i a (by omega))]
      omega
  have := key z.toNat (fun i a b => h i a (by omega))
  unfold cn
  omega
theorem cn_below {z k : Int} (h0 : 0 ≤ k) (h1 : k ≤ z) : cn (fun j => j < k) z = k := by
  have key : ∀ n : Nat, k ≤ (n : Int) → ct (fun j => j < k) n = k := by
    intro n
    induction n with
    | zero => intro h; have : k = 0 := by omega
              subst this; rfl
    | succ n ih =>
      intro h
      by_cases e : k ≤ (n : Int)
      · rw [ct_f (by omega)]; exact ih e
      · have e1 : k = (n : Int) + 1 := by omega
        rw [ct_t (by omega)]
        have e2 := cn_all (p := fun j => j < k) (z := (n : Int)) (by omega) (fun i a b => by omega)
        unfold cn at e2
        rw [Int.toNat_natCast] at e2
        omega
  have := key z.toNat (by omega)
  unfold cn
  omega
theorem cn_split3 {p : Int → Prop} {co : Int → Int} {z : Int} (hco : ∀ i, 0 ≤ co i ∧ co i ≤ 2) : cn p z = cn (fun i => p i ∧ co i = 0) z + cn (fun i => p i ∧ co i = 1) z + cn (fun i => p i ∧ co i = 2) z := by
  have key : ∀ n : Nat, ct p n = ct (fun i => p i ∧ co i = 0) n + ct (fun i => p i ∧ co i = 1) n + ct (fun i => p i ∧ co i = 2) n := by
    intro n
    induction n with
    | zero => rfl
    | succ n ih =>
      have hc := hco (n : Int)
      by_cases hp : p (n : Int)
      · rw [ct_t hp]
        rcases (show co (n : Int) = 0 ∨ co (n : Int) = 1 ∨ co (n : Int) = 2 by omega) with e | e | e
        · rw [ct_t (p := fun i => p i ∧ co i = 0) ⟨hp, e⟩, ct_f (p := fun i => p i ∧ co i = 1) (fun w => by have := w.2; omega), ct_f (p := fun i => p i ∧ co i = 2) (fun w => by have := w.2; omega)]; omega
        · rw [ct_t (p := fun i => p i ∧ co i = 1) ⟨hp, e⟩, ct_f (p := fun i => p i ∧ co i = 0) (fun w => by have := w.2; omega), ct_f (p := fun i => p i ∧ co i = 2) (fun w => by have := w.2; omega)]; omega
        · rw [ct_t (p := fun i => p i ∧ co i = 2) ⟨hp, e⟩, ct_f (p := fun i => p i ∧ co i = 1) (fun w => by have := w.2; omega), ct_f (p := fun i => p i ∧ co i = 0) (fun w => by have := w.2; omega)]; omega
      · rw [ct_f hp, ct_f (p := fun i => p i ∧ co i = 0) (fun w => hp w.1), ct_f (p := fun i => p i ∧ co i = 1) (fun w => hp w.1), ct_f (p := fun i => p i ∧ co i = 2) (fun w => hp w.1)]; exact ih
  exact key _
/-- h lists the set S without repetition, n long; ps is where each stands -/
def Bij (h ps : Int → Int) (n : Int) (S : Int → Prop) : Prop := 0 ≤ n ∧ (∀ j, 0 ≤ j → j < n → S (h j) ∧ ps (h j) = j) ∧ (∀ a, S a → 0 ≤ ps a ∧ ps a < n ∧ h (ps a) = a)
theorem bij_cn {h ps : Int → Int} {n N : Int} {S : Int → Prop} (hB : Bij h ps n S) (hS : ∀ a, S a → 0 ≤ a ∧ a < N) (P : Int → Prop) : cn (fun a => S a ∧ P a) N = cn (fun j => P (h j)) n := by
  obtain ⟨hn, h1, h2⟩ := hB
  have key : ∀ K : Nat, ct (fun a => S a ∧ P a) K = cn (fun j => P (h j) ∧ h j < (K : Int)) n := by
    intro K
    induction K with
    | zero =>
      have : cn (fun j => P (h j) ∧ h j < ((0 : Nat) : Int)) n = 0 := cn_zero (fun i a b w => by have := (hS _ (h1 i a b).1).1; have := w.2; omega)
      rw [this]; rfl
    | succ K ih =>
      by_cases e : S (K : Int) ∧ P (K : Int)
      · rw [ct_t (p := fun a => S a ∧ P a) e, ih]
        obtain ⟨q0, q1, q2⟩ := h2 _ e.1
        refine (cn_flip (m := ps (K : Int)) q0 q1 ?_ ?_ ?_).symm
        · rw [q2]; intro w; have := w.2; omega
        · rw [q2]; exact ⟨e.2, by omega⟩
        · intro i a b d
          have hne : h i ≠ (K : Int) := by
            intro w
            have := (h1 i a b).2
            rw [w] at this
            exact d this.symm
          constructor
          · intro w; exact ⟨w.1, by have := w.2; omega⟩
          · intro w; exact ⟨w.1, by have := w.2; omega⟩
      · rw [ct_f (p := fun a => S a ∧ P a) e, ih]
        refine cn_congr (fun i a b => ?_)
        constructor
        · intro w; exact ⟨w.1, by have := w.2; omega⟩
        · intro w
          refine ⟨w.1, ?_⟩
          have hne : h i ≠ (K : Int) := by
            intro v
            apply e
            have := (h1 i a b).1
            rw [← v]
            exact ⟨this, w.1⟩
          have := w.2
          omega
  have e1 := key N.toNat
  unfold cn
  rw [e1]
  unfold cn
  refine ct_congr (fun i a b => ?_)
  have hi := hS _ (h1 i a (by omega)).1
  constructor
  · intro w; exact w.1
  · intro w; exact ⟨w, by omega⟩
theorem bij_n {h ps : Int → Int} {n N : Int} {S : Int → Prop} (hB : Bij h ps n S) (hS : ∀ a, S a → 0 ≤ a ∧ a < N) : cn S N = n := by
  have e := bij_cn hB hS (fun _ => True)
  rw [cn_all (p := fun _ => True) hB.1 (fun _ _ _ => trivial)] at e
  rw [← e]
  exact cn_congr (fun i _ _ => ⟨fun w => ⟨w, trivial⟩, fun w => w.1⟩)
theorem bij_le {h ps : Int → Int} {n N : Int} {S : Int → Prop} (hB : Bij h ps n S) (hN : 0 ≤ N) (hS : ∀ a, S a → 0 ≤ a ∧ a < N) : n ≤ N := by
  have e := bij_n hB hS
  have := cn_rng S hN
  omega
theorem bij_inj {h ps : Int → Int} {n : Int} {S : Int → Prop} (hB : Bij h ps n S) {i j : Int} (i0 : 0 ≤ i) (i1 : i < n) (j0 : 0 ≤ j) (j1 : j < n) (e : h i = h j) : i = j := by
  have a := (hB.2.1 i i0 i1).2
  have b := (hB.2.1 j j0 j1).2
  rw [e] at a
  omega
/-- a total order's strict part -/
def Ord (lt : Int → Int → Prop) : Prop := (∀ a b, lt a b → ¬ lt b a) ∧ (∀ a b c, ¬ lt a b → ¬ lt b c → ¬ lt a c)
def Hp (h : Int → Int) (n : Int) (lt : Int → Int → Prop) : Prop := ∀ j, 0 < j → j < n → ¬ lt (h j) (h ((j - 1) / 2))
/-- a heap with a hole at i; m is to come there or above -/
def HoleR (h : Int → Int) (n i m : Int) (lt : Int → Int → Prop) : Prop := 0 ≤ i ∧ i < n ∧ (∀ j, 0 < j → j < n → j ≠ i → (j - 1) / 2 ≠ i → ¬ lt (h j) (h ((j - 1) / 2))) ∧ (∀ j, 0 < j → j < n → (j - 1) / 2 = i → 0 < i → ¬ lt (h j) (h ((i - 1) / 2))) ∧ (∀ j, 0 < j → j < n → (j - 1) / 2 = i → ¬ lt (h j) m)
/-- a heap with a hole at i; m is to come there or below -/
def HoleS (h : Int → Int) (n i m : Int) (lt : Int → Int → Prop) : Prop := 0 ≤ i ∧ i < n ∧ (∀ j, 0 < j → j < n → j ≠ i → (j - 1) / 2 ≠ i → ¬ lt (h j) (h ((j - 1) / 2))) ∧ (∀ j, 0 < j → j < n → (j - 1) / 2 = i → 0 < i → ¬ lt (h j) (h ((i - 1) / 2))) ∧ (0 < i → ¬ lt m (h ((i - 1) / 2)))
theorem rise_step {h : Int → Int} {n i m : Int} {lt : Int → Int → Prop} (hO : Ord lt) (hH : HoleR h n i m lt) (hi : 0 < i) (hl : lt m (h ((i - 1) / 2))) : HoleR (uI h i (h ((i - 1) / 2))) n ((i - 1) / 2) m lt := by
  obtain ⟨h0, h1, hc, hd, he⟩ := hH
  obtain ⟨p, hp⟩ : ∃ p, (i - 1) / 2 = p := ⟨_, rfl⟩
  rw [hp] at hl hd ⊢
  refine ⟨by omega, by omega, ?_, ?_, ?_⟩
  · intro j j0 j1 jp jq
    have ji : j ≠ i := by intro e; apply jq; rw [e]; exact hp
    rw [uI_n ji]
    by_cases e : (j - 1) / 2 = i
    · rw [e, uI_s]; exact hd j j0 j1 e hi
    · rw [uI_n e]; exact hc j j0 j1 ji e
  · intro j j0 j1 jq pp
    have e1 : (p - 1) / 2 ≠ i := by omega
    rw [uI_n e1]
    have hpp : ¬ lt (h p) (h ((p - 1) / 2)) := hc p pp (by omega) (by omega) e1
    by_cases e : j = i
    · rw [e, uI_s]; exact hpp
    · rw [uI_n e]
      have h3 := hc j j0 j1 e (by omega)
      rw [jq] at h3
      exact hO.2 _ _ _ h3 hpp
  · intro j j0 j1 jq
    by_cases e : j = i
    · rw [e, uI_s]; exact hO.1 _ _ hl
    · rw [uI_n e]
      have h3 := hc j j0 j1 e (by omega)
      rw [jq] at h3
      exact hO.2 _ _ _ h3 (hO.1 _ _ hl)
theorem rise_end {h : Int → Int} {n i m : Int} {lt : Int → Int → Prop} (hH : HoleR h n i m lt) (hs : i = 0 ∨ ¬ lt m (h ((i - 1) / 2))) : Hp (uI h i m) n lt := by
  obtain ⟨h0, h1, hc, hd, he⟩ := hH
  intro j j0 j1
  by_cases e : j = i
  · subst e
    rw [uI_s, uI_n (by omega)]
    rcases hs with q | q
    · omega
    · exact q
  · rw [uI_n e]
    by_cases e2 : (j - 1) / 2 = i
    · rw [e2, uI_s]; exact he j j0 j1 e2
    · rw [uI_n e2]; exact hc j j0 j1 e e2
theorem sink_step {h : Int → Int} {n i m c : Int} {lt : Int → Int → Prop} (hO : Ord lt) (hH : HoleS h n i m lt) (hci : 0 < c ∧ (c - 1) / 2 = i) (hcn : c < n) (best : ∀ j, 0 < j → j < n → (j - 1) / 2 = i → ¬ lt (h j) (h c)) (hl : lt (h c) m) : HoleS (uI h i (h c)) n c m lt := by
  obtain ⟨h0, h1, hc, hd, hf⟩ := hH
  refine ⟨by omega, hcn, ?_, ?_, ?_⟩
  · intro j j0 j1 jc jq
    by_cases e : j = i
    · subst e
      rw [uI_s, uI_n (by omega)]
      exact hd c hci.1 hcn hci.2 j0
    · rw [uI_n e]
      by_cases e2 : (j - 1) / 2 = i
      · rw [e2, uI_s]; exact best j j0 j1 e2
      · rw [uI_n e2]; exact hc j j0 j1 e e2
  · intro j j0 j1 jq _
    rw [hci.2, uI_s, uI_n (by omega)]
    have h3 := hc j j0 j1 (by omega) (by omega)
    rw [jq] at h3
    exact h3
  · intro _
    rw [hci.2, uI_s]
    exact hO.1 _ _ hl
theorem sink_end {h : Int → Int} {n i m : Int} {lt : Int → Int → Prop} (hH : HoleS h n i m lt) (hs : ∀ j, 0 < j → j < n → (j - 1) / 2 = i → ¬ lt (h j) m) : Hp (uI h i m) n lt := by
  obtain ⟨h0, h1, hc, hd, hf⟩ := hH
  intro j j0 j1
  by_cases e : j = i
  · subst e
    rw [uI_s, uI_n (by omega)]
    exact hf j0
  · rw [uI_n e]
    by_cases e2 : (j - 1) / 2 = i
    · rw [e2, uI_s]; exact hs j j0 j1 e2
    · rw [uI_n e2]; exact hc j j0 j1 e e2
/-- the set S is listed but for m, which belongs to the hole at i -/
def BijH (h ps : Int → Int) (n : Int) (S : Int → Prop) (m i : Int) : Prop := (∀ j, 0 ≤ j → j < n → j ≠ i → S (h j) ∧ h j ≠ m ∧ ps (h j) = j) ∧ (∀ a, S a → a ≠ m → 0 ≤ ps a ∧ ps a < n ∧ ps a ≠ i ∧ h (ps a) = a)
theorem bijh_move {h ps : Int → Int} {n m i p : Int} {S : Int → Prop} (hB : BijH h ps n S m i) (i0 : 0 ≤ i) (i1 : i < n) (p0 : 0 ≤ p) (p1 : p < n) (pi : p ≠ i) : BijH (uI h i (h p)) (uI ps (h p) i) n S m p := by
  obtain ⟨h1, h2⟩ := hB
  refine ⟨?_, ?_⟩
  · intro j j0 j1 jp
    by_cases e : j = i
    · subst e
      rw [uI_s, uI_s]
      exact ⟨(h1 p p0 p1 pi).1, (h1 p p0 p1 pi).2.1, rfl⟩
    · rw [uI_n e]
      have q := h1 j j0 j1 e
      have hne : h j ≠ h p := by
        intro w
        have a := q.2.2
        rw [w, (h1 p p0 p1 pi).2.2] at a
        exact jp a.symm
      rw [uI_n hne]
      exact q
  · intro a ha am
    by_cases e : a = h p
    · subst e
      rw [uI_s, uI_s]
      exact ⟨i0, i1, fun w => pi w.symm, rfl⟩
    · rw [uI_n e]
      obtain ⟨q0, q1, q2, q3⟩ := h2 a ha am
      refine ⟨q0, q1, ?_, ?_⟩
      · intro w; rw [w] at q3; exact e q3.symm
      · rw [uI_n q2]; exact q3
theorem bijh_end {h ps : Int → Int} {n m i : Int} {S : Int → Prop} (hB : BijH h ps n S m i) (hm : S m) (i0 : 0 ≤ i) (i1 : i < n) : Bij (uI h i m) (uI ps m i) n S := by
  obtain ⟨h1, h2⟩ := hB
  refine ⟨by omega, ?_, ?_⟩
  · intro j j0 j1
    by_cases e : j = i
    · subst e
      rw [uI_s, uI_s]
      exact ⟨hm, rfl⟩
    · rw [uI_n e]
      have q := h1 j j0 j1 e
      rw [uI_n q.2.1]
      exact ⟨q.1, q.2.2⟩
  · intro a ha
    by_cases e : a = m
    · subst e
      rw [uI_s, uI_s]
      exact ⟨i0, i1, rfl⟩
    · rw [uI_n e]
      obtain ⟨q0, q1, q2, q3⟩ := h2 a ha e
      refine ⟨q0, q1, ?_⟩
      rw [uI_n q2]; exact q3
/-- a new member at the end: the hole is there -/
theorem hole_new {h ps : Int → Int} {n m : Int} {S : Int → Prop} {lt : Int → Int → Prop} (hB : Bij h ps n S) (hH : Hp h n lt) (hm : ¬ S m) : BijH h ps (n + 1) (fun a => S a ∨ a = m) m n ∧ HoleR h (n + 1) n m lt := by
  obtain ⟨hn, h1, h2⟩ := hB
  refine ⟨⟨?_, ?_⟩, hn, by omega, ?_, ?_, ?_⟩
  · intro j j0 j1 jn
    have q := h1 j j0 (by omega)
    exact ⟨Or.inl q.1, fun w => hm (w ▸ q.1), q.2⟩
  · intro a ha am
    obtain ⟨q0, q1, q2⟩ := h2 a (ha.resolve_right am)
    exact ⟨q0, by omega, by omega, q2⟩
  · intro j j0 j1 jn _
    exact hH j j0 (by omega)
  · intro j j0 j1 e _; omega
  · intro j j0 j1 e; omega
/-- a member leaves, it was the last -/
theorem hole_last {h ps : Int → Int} {n m : Int} {S : Int → Prop} {lt : Int → Int → Prop} (hB : Bij h ps n S) (hH : Hp h n lt) (hn : 0 < n) (hm : h (n - 1) = m) : Bij h ps (n - 1) (fun a => S a ∧ a ≠ m) ∧ Hp h (n - 1) lt := by
  have hI := hB
  obtain ⟨_, h1, h2⟩ := hB
  refine ⟨⟨by omega, ?_, ?_⟩, fun j j0 j1 => hH j j0 (by omega)⟩
  · intro j j0 j1
    have q := h1 j j0 (by omega)
    refine ⟨⟨q.1, fun w => ?_⟩, q.2⟩
    have := bij_inj hI j0 (by omega) (i := j) (j := n - 1) (by omega) (by omega) (by rw [w, hm])
    omega
  · intro a ha
    obtain ⟨q0, q1, q2⟩ := h2 a ha.1
    refine ⟨q0, ?_, q2⟩
    rcases Int.lt_or_le (ps a) (n - 1) with w | w
    · exact w
    · have e : ps a = n - 1 := by omega
      rw [e, hm] at q2
      exact absurd q2.symm ha.2
/-- a member leaves: the last takes its place, which is a hole till then -/
theorem hole_drop {h ps : Int → Int} {n m : Int} {S : Int → Prop} {lt : Int → Int → Prop} (hO : Ord lt) (hB : Bij h ps n S) (hH : Hp h n lt) (hn : 0 < n) (hm : S m) (hl : h (n - 1) ≠ m) :
    0 ≤ ps m ∧ ps m < n - 1 ∧ BijH h ps (n - 1) (fun a => S a ∧ a ≠ m) (h (n - 1)) (ps m) ∧ S (h (n - 1)) ∧ ((0 < ps m ∧ lt (h (n - 1)) (h ((ps m - 1) / 2))) → HoleR h (n - 1) (ps m) (h (n - 1)) lt) ∧ (¬ (0 < ps m ∧ lt (h (n - 1)) (h ((ps m - 1) / 2))) → HoleS h (n - 1) (ps m) (h (n - 1)) lt) := by
  have hI := hB
  obtain ⟨_, h1, h2⟩ := hB
  obtain ⟨m0, m1, m2⟩ := h2 m hm
  have m3 : ps m < n - 1 := by
    rcases Int.lt_or_le (ps m) (n - 1) with w | w
    · exact w
    · have e : ps m = n - 1 := by omega
      rw [e] at m2
      exact absurd m2 hl
  have ql := h1 (n - 1) (by omega) (by omega)
  obtain ⟨i, hi⟩ : ∃ i, ps m = i := ⟨_, rfl⟩
  rw [hi] at m0 m1 m2 m3 ⊢
  have hd : ∀ j, 0 < j → j < n - 1 → (j - 1) / 2 = i → 0 < i → ¬ lt (h j) (h ((i - 1) / 2)) := by
    intro j j0 j1 e i0
    have a := hH j j0 (by omega)
    rw [e] at a
    exact hO.2 _ _ _ a (hH i i0 (by omega))
  refine ⟨m0, m3, ⟨?_, ?_⟩, ql.1, ?_, ?_⟩
  · intro j j0 j1 ji
    have q := h1 j j0 (by omega)
    refine ⟨⟨q.1, fun w => ?_⟩, fun w => ?_, q.2⟩
    · have a := q.2
      rw [w, hi] at a
      exact ji a.symm
    · have := bij_inj hI j0 (by omega) (i := j) (j := n - 1) (by omega) (by omega) w
      omega
  · intro a ha al
    obtain ⟨q0, q1, q2⟩ := h2 a ha.1
    refine ⟨q0, ?_, ?_, q2⟩
    · rcases Int.lt_or_le (ps a) (n - 1) with w | w
      · exact w
      · have e : ps a = n - 1 := by omega
        rw [e] at q2
        exact absurd q2.symm al
    · intro w
      rw [w, m2] at q2
      exact ha.2 q2.symm
  · intro hc
    refine ⟨m0, m3, fun j j0 j1 _ _ => hH j j0 (by omega), hd, ?_⟩
    intro j j0 j1 e
    exact hO.2 _ _ _ (hd j j0 j1 e hc.1) (hO.1 _ _ hc.2)
  · intro hc
    exact ⟨m0, m3, fun j j0 j1 _ _ => hH j j0 (by omega), hd, fun i0 w => hc ⟨i0, w⟩⟩
/-- the root is before all -/
theorem heap_root {h : Int → Int} {n : Int} {lt : Int → Int → Prop} (hO : Ord lt) (hH : Hp h n lt) (hI : ∀ a, ¬ lt a a) : ∀ j, 0 ≤ j → j < n → ¬ lt (h j) (h 0) := by
  have key : ∀ (k : Nat) (j : Int), j ≤ (k : Int) → 0 ≤ j → j < n → ¬ lt (h j) (h 0) := by
    intro k
    induction k with
    | zero =>
      intro j a b d
      have : j = 0 := by omega
      subst this
      exact hI _
    | succ k ih =>
      intro j a b d
      by_cases e : j = 0
      · subst e; exact hI _
      · exact hO.2 _ _ _ (hH j (by omega) d) (ih ((j - 1) / 2) (by omega) (by omega) (by omega))
  intro j a b
  exact key j.toNat j (by omega) a b
/-- the queues' order: more priority first, then the elder -/
def bq (pr : Int → Int) (a b : Int) : Prop := pr b < pr a ∨ (pr a = pr b ∧ a < b)
theorem bq_ord (pr : Int → Int) : Ord (bq pr) := ⟨fun a b h w => by unfold bq at *; omega, fun a b c h1 h2 w => by unfold bq at *; omega⟩
theorem bq_irr (pr : Int → Int) (a : Int) : ¬ bq pr a a := by unfold bq; omega
theorem bq_tot (pr : Int → Int) {a b : Int} (h : a ≠ b) : bq pr a b ∨ bq pr b a := by unfold bq; omega
theorem bq_trans (pr : Int → Int) {a b c : Int} (h1 : bq pr a b) (h2 : bq pr b c) : bq pr a c := by unfold bq at *; omega
/-- the order of lives: what ends sooner first, then the elder -/
def bl (ex : Int → Int) (a b : Int) : Prop := ex a < ex b ∨ (ex a = ex b ∧ a < b)
theorem bl_ord (ex : Int → Int) : Ord (bl ex) := ⟨fun a b h w => by unfold bl at *; omega, fun a b c h1 h2 w => by unfold bl at *; omega⟩
theorem bl_irr (ex : Int → Int) (a : Int) : ¬ bl ex a a := by unfold bl; omega
end
section
/-! what the calls answer and do, over the fields that both classes have: 0 count, 1 queue, 2 body, 3 priority, 4 deliveries, 5 state, 6 consumer, 7 deadline, 8 expiry, 12 patience, 13 limit, 19 time -/
def cmn (k : Nat) : Prop := k ≤ 8 ∨ k = 12 ∨ k = 13 ∨ k = 19
def EQ (A B : zS) : Prop := ∀ k, cmn k → ∀ i, A k i = B k i
theorem EQ.rf (A : zS) : EQ A A := fun _ _ _ => rfl
theorem EQ.sy {A B : zS} (h : EQ A B) : EQ B A := fun k hk i => (h k hk i).symm
theorem EQ.tr {A B C : zS} (h : EQ A B) (h2 : EQ B C) : EQ A C := fun k hk i => (h k hk i).trans (h2 k hk i)
/-- bounds of the fields; N: calls so far -/
def BS (N : Int) (X : zS) : Prop := okX X ∧ (0 ≤ X 0 0 ∧ X 0 0 ≤ 40) ∧ (∀ a, 0 ≤ X 1 a ∧ X 1 a ≤ 2) ∧ (∀ a, 0 ≤ X 3 a ∧ X 3 a ≤ 3) ∧ (∀ a, 0 ≤ X 4 a ∧ X 4 a ≤ N) ∧ (∀ a, 0 ≤ X 5 a ∧ X 5 a ≤ 3) ∧ (∀ a, 0 ≤ X 6 a ∧ X 6 a ≤ 2) ∧ (∀ a, 0 ≤ X 7 a ∧ X 7 a ≤ X 19 0 + 20) ∧ (∀ a, -1 ≤ X 8 a ∧ X 8 a ≤ X 19 0 + 50) ∧ (∀ q, 0 ≤ X 12 q ∧ X 12 q ≤ 20) ∧ (∀ q, 0 ≤ X 13 q ∧ X 13 q ≤ 5) ∧ (0 ≤ X 19 0 ∧ X 19 0 ≤ 100 * N)
def rdy (X : zS) (q a : Int) : Prop := 0 ≤ a ∧ a < X 0 0 ∧ X 1 a = q ∧ X 5 a = 0
noncomputable def outN (X : zS) (c : Int) : Int := cn (fun a => X 5 a = 1 ∧ X 6 a = c) (X 0 0)
def held (X : zS) (c a : Int) : Prop := 0 ≤ a ∧ a < X 0 0 ∧ X 5 a = 1 ∧ X 6 a = c
def back (X : zS) (a : Int) : Int := if X 13 (X 1 a) ≤ X 4 a then 3 else 0
def pubS (X : zS) (q b pr lf : Int) : zS := sU (sU (sU (sU (sU (sU (sU X 1 (X 0 0) q) 2 (X 0 0) b) 3 (X 0 0) pr) 5 (X 0 0) 0) 4 (X 0 0) 0) 8 (X 0 0) (if 0 < lf then X 19 0 + lf else -1)) 0 0 (X 0 0 + 1)
def spPub (q b pr lf : Int) (X : zS) (z : Int) (Y : zS) : Prop :=
  (¬ (0 ≤ q ∧ q < 3) ∧ z = -1 ∧ EQ Y X) ∨ ((0 ≤ q ∧ q < 3) ∧ (pr < 0 ∨ 3 < pr ∨ lf < 0 ∨ 50 < lf) ∧ z = -3 ∧ EQ Y X) ∨
  ((0 ≤ q ∧ q < 3) ∧ ¬ (pr < 0 ∨ 3 < pr ∨ lf < 0 ∨ 50 < lf) ∧ 40 ≤ X 0 0 ∧ z = -4 ∧ EQ Y X) ∨
  ((0 ≤ q ∧ q < 3) ∧ ¬ (pr < 0 ∨ 3 < pr ∨ lf < 0 ∨ 50 < lf) ∧ X 0 0 < 40 ∧ z = X 0 0 ∧ EQ Y (pubS X q b pr lf))
def tkS (X : zS) (q c a : Int) : zS := sU (sU (sU (sU X 5 a 1) 4 a (X 4 a + 1)) 6 a c) 7 a (X 19 0 + X 12 q)
def frst (X : zS) (q a : Int) : Prop := rdy X q a ∧ ∀ b, rdy X q b → b ≠ a → bq (X 3) a b
def spTake (q c : Int) (X : zS) (z : Int) (Y : zS) : Prop :=
  (¬ (0 ≤ q ∧ q < 3) ∧ z = -1 ∧ EQ Y X) ∨ ((0 ≤ q ∧ q < 3) ∧ ¬ (0 ≤ c ∧ c < 3) ∧ z = -2 ∧ EQ Y X) ∨
  ((0 ≤ q ∧ q < 3) ∧ (0 ≤ c ∧ c < 3) ∧ outN X c = 2 ∧ z = -7 ∧ EQ Y X) ∨
  ((0 ≤ q ∧ q < 3) ∧ (0 ≤ c ∧ c < 3) ∧ outN X c ≠ 2 ∧ (∀ a, ¬ rdy X q a) ∧ z = -5 ∧ EQ Y X) ∨
  ((0 ≤ q ∧ q < 3) ∧ (0 ≤ c ∧ c < 3) ∧ outN X c ≠ 2 ∧ frst X q z ∧ EQ Y (tkS X q c z))
def spAck (c a : Int) (X : zS) (z : Int) (Y : zS) : Prop :=
  (¬ (0 ≤ c ∧ c < 3) ∧ z = -2 ∧ EQ Y X) ∨ ((0 ≤ c ∧ c < 3) ∧ ¬ held X c a ∧ z = -6 ∧ EQ Y X) ∨
  ((0 ≤ c ∧ c < 3) ∧ held X c a ∧ z = outN (sU X 5 a 2) c ∧ EQ Y (sU X 5 a 2))
def spRef (c a : Int) (X : zS) (z : Int) (Y : zS) : Prop :=
  (¬ (0 ≤ c ∧ c < 3) ∧ z = -2 ∧ EQ Y X) ∨ ((0 ≤ c ∧ c < 3) ∧ ¬ held X c a ∧ z = -6 ∧ EQ Y X) ∨
  ((0 ≤ c ∧ c < 3) ∧ held X c a ∧ z = back X a ∧ EQ Y (sU X 5 a (back X a)))
def loS (X : zS) (c : Int) : zS := fun k a => if k = 5 ∧ 0 ≤ a ∧ a < X 0 0 ∧ X 5 a = 1 ∧ X 6 a = c then back X a else X k a
def spLose (c : Int) (X : zS) (z : Int) (Y : zS) : Prop :=
  (¬ (0 ≤ c ∧ c < 3) ∧ z = -2 ∧ EQ Y X) ∨ ((0 ≤ c ∧ c < 3) ∧ z = outN X c ∧ EQ Y (loS X c))
def spRen (c a : Int) (X : zS) (z : Int) (Y : zS) : Prop :=
  (¬ (0 ≤ c ∧ c < 3) ∧ z = -2 ∧ EQ Y X) ∨ ((0 ≤ c ∧ c < 3) ∧ ¬ held X c a ∧ z = -6 ∧ EQ Y X) ∨
  ((0 ≤ c ∧ c < 3) ∧ held X c a ∧ z = X 19 0 + X 12 (X 1 a) ∧ EQ Y (sU X 7 a (X 19 0 + X 12 (X 1 a))))
/-- a message's state behind the deadlines, and behind the lives -/
def pa1 (X : zS) (t a : Int) : Int := if X 5 a = 1 ∧ X 7 a ≤ t then back X a else X 5 a
def pa2 (X : zS) (t a : Int) : Int := if pa1 X t a = 0 ∧ 0 ≤ X 8 a ∧ X 8 a ≤ t then 2 else pa1 X t a
def paS (X : zS) (n : Int) : zS := fun k a => if k = 19 ∧ a = 0 then X 19 0 + n else if k = 5 ∧ 0 ≤ a ∧ a < X 0 0 then pa2 X (X 19 0 + n) a else X k a
def spPass (n : Int) (X : zS) (z : Int) (Y : zS) : Prop :=
  ((n < 0 ∨ 100 < n) ∧ z = -3 ∧ EQ Y X) ∨ (¬ (n < 0 ∨ 100 < n) ∧ z = cn (fun a => X 5 a = 1 ∧ X 7 a ≤ X 19 0 + n) (X 0 0) ∧ EQ Y (paS X n))
def spTune (q pa li : Int) (X : zS) (z : Int) (Y : zS) : Prop :=
  (¬ (0 ≤ q ∧ q < 3) ∧ z = -1 ∧ EQ Y X) ∨ ((0 ≤ q ∧ q < 3) ∧ (pa < 1 ∨ 20 < pa ∨ li < 1 ∨ 5 < li) ∧ z = -3 ∧ EQ Y X) ∨
  ((0 ≤ q ∧ q < 3) ∧ ¬ (pa < 1 ∨ 20 < pa ∨ li < 1 ∨ 5 < li) ∧ z = 0 ∧ EQ Y (sU (sU X 12 q pa) 13 q li))
def reS (X : zS) (q : Int) : zS := fun k a => if (k = 5 ∨ k = 4) ∧ 0 ≤ a ∧ a < X 0 0 ∧ X 1 a = q ∧ X 5 a = 3 then 0 else X k a
def spRev (q : Int) (X : zS) (z : Int) (Y : zS) : Prop :=
  (¬ (0 ≤ q ∧ q < 3) ∧ z = -1 ∧ EQ Y X) ∨ ((0 ≤ q ∧ q < 3) ∧ z = cn (fun a => X 1 a = q ∧ X 5 a = 3) (X 0 0) ∧ EQ Y (reS X q))
def spSt (a : Int) (X : zS) (z : Int) (Y : zS) : Prop := EQ Y X ∧ (((0 ≤ a ∧ a < X 0 0) ∧ z = X 5 a) ∨ (¬ (0 ≤ a ∧ a < X 0 0) ∧ z = -3))
def spRdy (q : Int) (X : zS) (z : Int) (Y : zS) : Prop := EQ Y X ∧ (((0 ≤ q ∧ q < 3) ∧ z = cn (fun a => X 1 a = q ∧ X 5 a = 0) (X 0 0)) ∨ (¬ (0 ≤ q ∧ q < 3) ∧ z = -1))
noncomputable def rank (X : zS) (q a : Int) : Int := cn (fun b => (X 1 b = q ∧ X 5 b = 0) ∧ bq (X 3) b a) (X 0 0)
def spPeek (q i : Int) (X : zS) (z : Int) (Y : zS) : Prop := EQ Y X ∧ ((¬ (0 ≤ q ∧ q < 3) ∧ z = -1) ∨ ((0 ≤ q ∧ q < 3) ∧ (∀ a, rdy X q a → rank X q a ≠ i) ∧ z = -5) ∨ ((0 ≤ q ∧ q < 3) ∧ rdy X q z ∧ rank X q z = i))
def spNext (X : zS) (z : Int) (Y : zS) : Prop := EQ Y X ∧ (((∀ a, 0 ≤ a → a < X 0 0 → X 5 a ≠ 1) ∧ z = -5) ∨ ((∃ a, 0 ≤ a ∧ a < X 0 0 ∧ X 5 a = 1 ∧ X 7 a = z) ∧ ∀ a, 0 ≤ a → a < X 0 0 → X 5 a = 1 → z ≤ X 7 a))
def smN (X : zS) (st : Int) : Nat → Int
  | 0 => 0
  | n + 1 => smN X st n + (if X 5 (n : Int) = st then X 2 (n : Int) else 0)
def sm (X : zS) (st z : Int) : Int := smN X st z.toNat
theorem sm_0 (X : zS) (st : Int) : sm X st 0 = 0 := rfl
theorem sm_t {X : zS} {st z : Int} (h0 : 0 ≤ z) (h : X 5 z = st) : sm X st (z + 1) = sm X st z + X 2 z := by
  unfold sm
  rw [show (z + 1).toNat = z.toNat + 1 by omega, smN, Int.toNat_of_nonneg h0, if_pos h]
theorem sm_f {X : zS} {st z : Int} (h0 : 0 ≤ z) (h : ¬ X 5 z = st) : sm X st (z + 1) = sm X st z := by
  unfold sm
  rw [show (z + 1).toNat = z.toNat + 1 by omega, smN, Int.toNat_of_nonneg h0, if_neg h]
  omega
def spSum (st : Int) (X : zS) (z : Int) (Y : zS) : Prop := EQ Y X ∧ z = sm X st (X 0 0)
/-! each of them leaves no choice -/
theorem det_pub {q b pr lf : Int} {X Y Y2 : zS} {z z2 : Int} (h : spPub q b pr lf X z Y) (h2 : spPub q b pr lf X z2 Y2) : z = z2 ∧ EQ Y Y2 := by
  rcases h with ⟨a1, a2, a3⟩ | ⟨a0, a1, a2, a3⟩ | ⟨a0, a1, a4, a2, a3⟩ | ⟨a0, a1, a4, a2, a3⟩ <;> rcases h2 with ⟨b1, b2, b3⟩ | ⟨b0, b1, b2, b3⟩ | ⟨b0, b1, b4, b2, b3⟩ | ⟨b0, b1, b4, b2, b3⟩ <;> first | exact ⟨by omega, a3.tr b3.sy⟩ | exact absurd b0 a1 | exact absurd a0 b1 | exact absurd a1 b1 | exact absurd b1 a1 | omega
theorem frst_u {X : zS} {q a b : Int} (h : frst X q a) (h2 : frst X q b) : a = b := by
  by_cases e : a = b
  · exact e
  · exact absurd (h.2 b h2.1 (fun w => e w.symm)) ((bq_ord (X 3)).1 _ _ (h2.2 a h.1 e))
theorem det_take {q c : Int} {X Y Y2 : zS} {z z2 : Int} (h : spTake q c X z Y) (h2 : spTake q c X z2 Y2) : z = z2 ∧ EQ Y Y2 := by
  rcases h with ⟨a0, a2, a3⟩ | ⟨a0, a1, a2, a3⟩ | ⟨a0, a1, a4, a2, a3⟩ | ⟨a0, a1, a4, a5, a2, a3⟩ | ⟨a0, a1, a4, a5, a3⟩ <;> rcases h2 with ⟨b0, b2, b3⟩ | ⟨b0, b1, b2, b3⟩ | ⟨b0, b1, b4, b2, b3⟩ | ⟨b0, b1, b4, b5, b2, b3⟩ | ⟨b0, b1, b4, b5, b3⟩
  all_goals first
    | exact absurd b0 a0
    | exact absurd a0 b0
    | exact absurd b1 a1
    | exact absurd a1 b1
    | exact absurd a4 b4
    | exact absurd b4 a4
    | exact absurd b5.1 (a5 _)
    | exact absurd a5.1 (b5 _)
    | exact ⟨by omega, a3.tr b3.sy⟩
    | (have e := frst_u a5 b5; subst e; exact ⟨rfl, a3.tr b3.sy⟩)
theorem det_ack {c a : Int} {X Y Y2 : zS} {z z2 : Int} (h : spAck c a X z Y) (h2 : spAck c a X z2 Y2) : z = z2 ∧ EQ Y Y2 := by
  rcases h with ⟨a0, a2, a3⟩ | ⟨a0, a1, a2, a3⟩ | ⟨a0, a1, a2, a3⟩ <;> rcases h2 with ⟨b0, b2, b3⟩ | ⟨b0, b1, b2, b3⟩ | ⟨b0, b1, b2, b3⟩ <;> first | exact absurd b0 a0 | exact absurd a0 b0 | exact absurd b1 a1 | exact absurd a1 b1 | exact ⟨by rw [a2, b2], a3.tr b3.sy⟩
theorem det_ref {c a : Int} {X Y Y2 : zS} {z z2 : Int} (h : spRef c a X z Y) (h2 : spRef c a X z2 Y2) : z = z2 ∧ EQ Y Y2 := by
  rcases h with ⟨a0, a2, a3⟩ | ⟨a0, a1, a2, a3⟩ | ⟨a0, a1, a2, a3⟩ <;> rcases h2 with ⟨b0, b2, b3⟩ | ⟨b0, b1, b2, b3⟩ | ⟨b0, b1, b2, b3⟩ <;> first | exact absurd b0 a0 | exact absurd a0 b0 | exact absurd b1 a1 | exact absurd a1 b1 | exact ⟨by rw [a2, b2], a3.tr b3.sy⟩
theorem det_lose {c : Int} {X Y Y2 : zS} {z z2 : Int} (h : spLose c X z Y) (h2 : spLose c X z2 Y2) : z = z2 ∧ EQ Y Y2 := by
  rcases h with ⟨a0, a2, a3⟩ | ⟨a0, a2, a3⟩ <;> rcases h2 with ⟨b0, b2, b3⟩ | ⟨b0, b2, b3⟩ <;> first | exact absurd b0 a0 | exact absurd a0 b0 | exact ⟨by rw [a2, b2], a3.tr b3.sy⟩
theorem det_ren {c a : Int} {X Y Y2 : zS} {z z2 : Int} (h : spRen c a X z Y) (h2 : spRen c a X z2 Y2) : z = z2 ∧ EQ Y Y2 := by
  rcases h with ⟨a0, a2, a3⟩ | ⟨a0, a1, a2, a3⟩ | ⟨a0, a1, a2, a3⟩ <;> rcases h2 with ⟨b0, b2, b3⟩ | ⟨b0, b1, b2, b3⟩ | ⟨b0, b1, b2, b3⟩ <;> first | exact absurd b0 a0 | exact absurd a0 b0 | exact absurd b1 a1 | exact absurd a1 b1 | exact ⟨by rw [a2, b2], a3.tr b3.sy⟩
theorem det_pass {n : Int} {X Y Y2 : zS} {z z2 : Int} (h : spPass n X z Y) (h2 : spPass n X z2 Y2) : z = z2 ∧ EQ Y Y2 := by
  rcases h with ⟨a0, a2, a3⟩ | ⟨a0, a2, a3⟩ <;> rcases h2 with ⟨b0, b2, b3⟩ | ⟨b0, b2, b3⟩ <;> first | exact absurd b0 a0 | exact absurd a0 b0 | exact ⟨by rw [a2, b2], a3.tr b3.sy⟩
theorem det_tune {q pa li : Int} {X Y Y2 : zS} {z z2 : Int} (h : spTune q pa li X z Y) (h2 : spTune q pa li X z2 Y2) : z = z2 ∧ EQ Y Y2 := by
  rcases h with ⟨a0, a2, a3⟩ | ⟨a0, a1, a2, a3⟩ | ⟨a0, a1, a2, a3⟩ <;> rcases h2 with ⟨b0, b2, b3⟩ | ⟨b0, b1, b2, b3⟩ | ⟨b0, b1, b2, b3⟩ <;> first | exact absurd b0 a0 | exact absurd a0 b0 | exact absurd b1 a1 | exact absurd a1 b1 | exact ⟨by rw [a2, b2], a3.tr b3.sy⟩
theorem det_rev {q : Int} {X Y Y2 : zS} {z z2 : Int} (h : spRev q X z Y) (h2 : spRev q X z2 Y2) : z = z2 ∧ EQ Y Y2 := by
  rcases h with ⟨a0, a2, a3⟩ | ⟨a0, a2, a3⟩ <;> rcases h2 with ⟨b0, b2, b3⟩ | ⟨b0, b2, b3⟩ <;> first | exact absurd b0 a0 | exact absurd a0 b0 | exact ⟨by rw [a2, b2], a3.tr b3.sy⟩
theorem det_st {a : Int} {X Y Y2 : zS} {z z2 : Int} (h : spSt a X z Y) (h2 : spSt a X z2 Y2) : z = z2 ∧ EQ Y Y2 := by
  obtain ⟨h, g⟩ := h
  obtain ⟨h2, g2⟩ := h2
  refine ⟨?_, h.tr h2.sy⟩
  rcases g with ⟨a0, a2⟩ | ⟨a0, a2⟩ <;> rcases g2 with ⟨b0, b2⟩ | ⟨b0, b2⟩ <;> first | exact absurd b0 a0 | exact absurd a0 b0 | rw [a2, b2]
theorem det_rdy {q : Int} {X Y Y2 : zS} {z z2 : Int} (h : spRdy q X z Y) (h2 : spRdy q X z2 Y2) : z = z2 ∧ EQ Y Y2 := by
  obtain ⟨h, g⟩ := h
  obtain ⟨h2, g2⟩ := h2
  refine ⟨?_, h.tr h2.sy⟩
  rcases g with ⟨a0, a2⟩ | ⟨a0, a2⟩ <;> rcases g2 with ⟨b0, b2⟩ | ⟨b0, b2⟩ <;> first | exact absurd b0 a0 | exact absurd a0 b0 | rw [a2, b2]
theorem rank_lt {X : zS} {q a b : Int} (ha : rdy X q a) (h : bq (X 3) a b) : rank X q a < rank X q b := by
  refine cn_lt_of (m := a) ha.1 ha.2.1 (fun w => bq_irr _ _ w.2) ⟨ha.2.2, h⟩ (fun i _ _ w => ⟨w.1, bq_trans _ w.2 h⟩)
theorem rank_u {X : zS} {q a b : Int} (ha : rdy X q a) (hb : rdy X q b) (h : rank X q a = rank X q b) : a = b := by
  by_cases e : a = b
  · exact e
  · rcases bq_tot (X 3) e with w | w
    · have := rank_lt ha w; omega
    · have := rank_lt hb w; omega
theorem det_peek {q i : Int} {X Y Y2 : zS} {z z2 : Int} (h : spPeek q i X z Y) (h2 : spPeek q i X z2 Y2) : z = z2 ∧ EQ Y Y2 := by
  obtain ⟨h, g⟩ := h
  obtain ⟨h2, g2⟩ := h2
  refine ⟨?_, h.tr h2.sy⟩
  rcases g with ⟨a0, a2⟩ | ⟨a0, a1, a2⟩ | ⟨a0, a1, a2⟩ <;> rcases g2 with ⟨b0, b2⟩ | ⟨b0, b1, b2⟩ | ⟨b0, b1, b2⟩ <;> first | exact absurd b0 a0 | exact absurd a0 b0 | exact absurd b2 (a1 _ b1) | exact absurd a2 (b1 _ a1) | exact rank_u a1 b1 (by rw [a2, b2]) | rw [a2, b2]
theorem det_next {X Y Y2 : zS} {z z2 : Int} (h : spNext X z Y) (h2 : spNext X z2 Y2) : z = z2 ∧ EQ Y Y2 := by
  obtain ⟨h, g⟩ := h
  obtain ⟨h2, g2⟩ := h2
  refine ⟨?_, h.tr h2.sy⟩
  rcases g with ⟨a0, a2⟩ | ⟨⟨a, a0, a1, a2, a3⟩, a4⟩ <;> rcases g2 with ⟨b0, b2⟩ | ⟨⟨b, b0, b1, b2, b3⟩, b4⟩
  · rw [a2, b2]
  · exact absurd b2 (a0 b b0 b1)
  · exact absurd a2 (b0 a a0 a1)
  · have := a4 b b0 b1 b2
    have := b4 a a0 a1 a2
    omega
theorem det_sum {st : Int} {X Y Y2 : zS} {z z2 : Int} (h : spSum st X z Y) (h2 : spSum st X z2 Y2) : z = z2 ∧ EQ Y Y2 := ⟨by rw [h.2, h2.2], h.1.tr h2.1.sy⟩
end
section
/-! plain steps of the reference's loops -/
theorem cn_st {p : Int → Prop} {z k k2 : Int} (h0 : 0 ≤ z) (hk : k = cn p z) (h : (p z ∧ k2 = k + 1) ∨ (¬ p z ∧ k2 = k)) : k2 = cn p (z + 1) := by
  rcases h with ⟨a, b⟩ | ⟨a, b⟩
  · rw [cn_t h0 a]; omega
  · rw [cn_f h0 a]; omega
theorem sm_st {X : zS} {st z k k2 : Int} (h0 : 0 ≤ z) (hk : k = sm X st z) (h : (X 5 z = st ∧ k2 = k + X 2 z) ∨ (¬ X 5 z = st ∧ k2 = k)) : k2 = sm X st (z + 1) := by
  rcases h with ⟨a, b⟩ | ⟨a, b⟩
  · rw [sm_t h0 a]; omega
  · rw [sm_f h0 a]; omega
theorem cn_ex {p : Int → Prop} {z : Int} (h : cn p z ≠ 0) : ∃ i, 0 ≤ i ∧ i < z ∧ p i := by
  rcases Classical.em (∃ i, 0 ≤ i ∧ i < z ∧ p i) with w | w
  · exact w
  · exact absurd (cn_zero (fun i a b c => w ⟨i, a, b, c⟩)) h
theorem rank_rng {X : zS} {q a : Int} (h : 0 ≤ X 0 0) : 0 ≤ rank X q a ∧ rank X q a ≤ X 0 0 := cn_rng _ h
theorem first_ex {X : zS} {q : Int} (h0 : 0 ≤ X 0 0) {a : Int} (ha : rdy X q a) : ∃ b, rdy X q b ∧ rank X q b = 0 := by
  have key : ∀ (n : Nat) (a : Int), rank X q a ≤ (n : Int) → rdy X q a → ∃ b, rdy X q b ∧ rank X q b = 0 := by
    intro n
    induction n with
    | zero =>
      intro a h1 h2
      have := rank_rng (q := q) (a := a) h0
      exact ⟨a, h2, by omega⟩
    | succ n ih =>
      intro a h1 h2
      by_cases e : rank X q a = 0
      · exact ⟨a, h2, e⟩
      · obtain ⟨i, i0, i1, i2, i3⟩ := cn_ex e
        have hi : rdy X q i := ⟨i0, i1, i2.1, i2.2⟩
        have := rank_lt hi i3
        exact ih i (by omega) hi
  have := rank_rng (q := q) (a := a) h0
  exact key (rank X q a).toNat a (by omega) ha
theorem rank_0 {X : zS} {q a : Int} (ha : rdy X q a) (h : rank X q a = 0) : frst X q a := by
  refine ⟨ha, fun b hb hne => ?_⟩
  rcases bq_tot (X 3) (show a ≠ b from fun w => hne w.symm) with w | w
  · exact w
  · have h2 : cn (fun b => (X 1 b = q ∧ X 5 b = 0) ∧ bq (X 3) b a) (X 0 0) ≤ 0 := by unfold rank at h; omega
    exact (cn_none h2 b hb.1 hb.2.1 ⟨hb.2.2, w⟩).elim
def loP (X : zS) (c i : Int) : zS := fun k a => if k = 5 ∧ 0 ≤ a ∧ a < i ∧ X 5 a = 1 ∧ X 6 a = c then back X a else X k a
theorem loP_k {X : zS} {c i : Int} {k : Nat} (h : k ≠ 5) : loP X c i k = X k := by funext a; simp [loP, h]
theorem loP_i {X : zS} {c i : Int} : loP X c i 5 i = X 5 i := by simp [loP]
theorem loP_0 {X : zS} {c : Int} : loP X c 0 = X := by
  funext k a
  unfold loP
  split
  · omega
  · rfl
theorem loP_t {X : zS} {c i : Int} (h0 : 0 ≤ i) (h : X 5 i = 1 ∧ X 6 i = c) : sU (loP X c i) 5 i (back X i) = loP X c (i + 1) := by
  funext k a
  by_cases e : k = 5 ∧ a = i
  · obtain ⟨rfl, rfl⟩ := e
    rw [sU_s]
    unfold loP
    rw [if_pos ⟨rfl, h0, by omega, h⟩]
  · unfold sU
    rw [if_neg e]
    unfold loP
    by_cases g : k = 5 ∧ 0 ≤ a ∧ a < i ∧ X 5 a = 1 ∧ X 6 a = c
    · rw [if_pos g, if_pos ⟨g.1, g.2.1, by omega, g.2.2.2⟩]
    · rw [if_neg g, if_neg (fun w => g ⟨w.1, w.2.1, by have := w.2.2.1; have : a ≠ i := fun v => e ⟨w.1, v⟩; omega, w.2.2.2⟩)]
theorem loP_f {X : zS} {c i : Int} (h : ¬ (X 5 i = 1 ∧ X 6 i = c)) : loP X c i = loP X c (i + 1) := by
  funext k a
  unfold loP
  by_cases g : k = 5 ∧ 0 ≤ a ∧ a < i ∧ X 5 a = 1 ∧ X 6 a = c
  · rw [if_pos g, if_pos ⟨g.1, g.2.1, by omega, g.2.2.2⟩]
  · rw [if_neg g, if_neg (fun w => g ⟨w.1, w.2.1, by have := w.2.2.1; have : a ≠ i := fun v => h (v ▸ w.2.2.2); omega, w.2.2.2⟩)]
def reP (X : zS) (q i : Int) : zS := fun k a => if (k = 5 ∨ k = 4) ∧ 0 ≤ a ∧ a < i ∧ X 1 a = q ∧ X 5 a = 3 then 0 else X k a
theorem reP_k {X : zS} {q i : Int} {k : Nat} (h : k ≠ 5) (h4 : k ≠ 4) : reP X q i k = X k := by funext a; simp [reP, h, h4]
theorem reP_i {X : zS} {q i : Int} {k : Nat} : reP X q i k i = X k i := by simp [reP]
theorem reP_0 {X : zS} {q : Int} : reP X q 0 = X := by
  funext k a
  unfold reP
  split
  · omega
  · rfl
theorem reP_t {X : zS} {q i : Int} (h0 : 0 ≤ i) (h : X 1 i = q ∧ X 5 i = 3) : sU (sU (reP X q i) 5 i 0) 4 i 0 = reP X q (i + 1) := by
  funext k a
  by_cases e : (k = 5 ∨ k = 4) ∧ a = i
  · obtain ⟨e1, rfl⟩ := e
    have e2 : reP X q (a + 1) k a = 0 := by unfold reP; rw [if_pos ⟨e1, h0, by omega, h⟩]
    rw [e2]
    rcases e1 with rfl | rfl <;> simp [sU]
  · have e2 : sU (sU (reP X q i) 5 i 0) 4 i 0 k a = reP X q i k a := by
      unfold sU
      rw [if_neg (fun w => e ⟨Or.inr w.1, w.2⟩), if_neg (fun w => e ⟨Or.inl w.1, w.2⟩)]
    rw [e2]
    unfold reP
    by_cases g : (k = 5 ∨ k = 4) ∧ 0 ≤ a ∧ a < i ∧ X 1 a = q ∧ X 5 a = 3
    · rw [if_pos g, if_pos ⟨g.1, g.2.1, by omega, g.2.2.2⟩]
    · rw [if_neg g, if_neg (fun w => g ⟨w.1, w.2.1, by have := w.2.2.1; have : a ≠ i := fun v => e ⟨w.1, v⟩; omega, w.2.2.2⟩)]
theorem reP_f {X : zS} {q i : Int} (h : ¬ (X 1 i = q ∧ X 5 i = 3)) : reP X q i = reP X q (i + 1) := by
  funext k a
  unfold reP
  by_cases g : (k = 5 ∨ k = 4) ∧ 0 ≤ a ∧ a < i ∧ X 1 a = q ∧ X 5 a = 3
  · rw [if_pos g, if_pos ⟨g.1, g.2.1, by omega, g.2.2.2⟩]
  · rw [if_neg g, if_neg (fun w => g ⟨w.1, w.2.1, by have := w.2.2.1; have : a ≠ i := fun v => h (v ▸ w.2.2.2); omega, w.2.2.2⟩)]
def p1P (X : zS) (t i : Int) : zS := fun k a => if k = 19 ∧ a = 0 then t else if k = 5 ∧ 0 ≤ a ∧ a < i then pa1 X t a else X k a
theorem p1P_k {X : zS} {t i : Int} {k : Nat} (h : k ≠ 5) (h2 : k ≠ 19) : p1P X t i k = X k := by funext a; simp [p1P, h, h2]
theorem p1P_T {X : zS} {t i : Int} : p1P X t i 19 0 = t := by simp [p1P]
theorem p1P_i {X : zS} {t i : Int} : p1P X t i 5 i = X 5 i := by simp [p1P]
theorem p1P_0 {X : zS} {t : Int} : p1P X t 0 = sU X 19 0 t := by
  funext k a
  unfold p1P sU
  by_cases g : k = 19 ∧ a = 0
  · rw [if_pos g, if_pos g]
  · rw [if_neg g, if_neg g, if_neg (by omega)]
theorem p1P_t {X : zS} {t i : Int} (h0 : 0 ≤ i) (h : X 5 i = 1 ∧ X 7 i ≤ t) : sU (p1P X t i) 5 i (back X i) = p1P X t (i + 1) := by
  funext k a
  by_cases e : k = 5 ∧ a = i
  · obtain ⟨rfl, rfl⟩ := e
    rw [sU_s]
    unfold p1P
    rw [if_neg (by omega), if_pos ⟨rfl, h0, by omega⟩]
    unfold pa1
    rw [if_pos h]
  · unfold sU
    rw [if_neg e]
    unfold p1P
    by_cases g : k = 19 ∧ a = 0
    · rw [if_pos g, if_pos g]
    · rw [if_neg g, if_neg g]
      by_cases g2 : k = 5 ∧ 0 ≤ a ∧ a < i
      · rw [if_pos g2, if_pos ⟨g2.1, g2.2.1, by omega⟩]
      · rw [if_neg g2, if_neg (fun w => g2 ⟨w.1, w.2.1, by have := w.2.2; have : a ≠ i := fun v => e ⟨w.1, v⟩; omega⟩)]
theorem p1P_f {X : zS} {t i : Int} (h : ¬ (X 5 i = 1 ∧ X 7 i ≤ t)) : p1P X t i = p1P X t (i + 1) := by
  funext k a
  unfold p1P
  by_cases g : k = 19 ∧ a = 0
  · rw [if_pos g, if_pos g]
  · rw [if_neg g, if_neg g]
    by_cases g2 : k = 5 ∧ 0 ≤ a ∧ a < i
    · rw [if_pos g2, if_pos ⟨g2.1, g2.2.1, by omega⟩]
    · rw [if_neg g2]
      by_cases g3 : k = 5 ∧ 0 ≤ a ∧ a < i + 1
      · have e : a = i := by omega
        rw [if_pos g3, g3.1, e]
        unfold pa1
        rw [if_neg h]
      · rw [if_neg g3]
def p2P (X : zS) (t i : Int) : zS := fun k a => if k = 19 ∧ a = 0 then t else if k = 5 ∧ 0 ≤ a ∧ a < X 0 0 then (if a < i then pa2 X t a else pa1 X t a) else X k a
theorem p2P_k {X : zS} {t i : Int} {k : Nat} (h : k ≠ 5) (h2 : k ≠ 19) : p2P X t i k = X k := by funext a; simp [p2P, h, h2]
theorem p2P_T {X : zS} {t i : Int} : p2P X t i 19 0 = t := by simp [p2P]
theorem p2P_i {X : zS} {t i : Int} (h0 : 0 ≤ i) (h1 : i < X 0 0) : p2P X t i 5 i = pa1 X t i := by simp [p2P, h0, h1]
theorem p2P_0 {X : zS} {t : Int} : p2P X t 0 = p1P X t (X 0 0) := by
  funext k a
  unfold p2P p1P
  by_cases g : k = 19 ∧ a = 0
  · rw [if_pos g, if_pos g]
  · rw [if_neg g, if_neg g]
    by_cases g2 : k = 5 ∧ 0 ≤ a ∧ a < X 0 0
    · rw [if_pos g2, if_pos g2, if_neg (by omega)]
    · rw [if_neg g2, if_neg g2]
theorem p2P_t {X : zS} {t i : Int} (h0 : 0 ≤ i) (h1 : i < X 0 0) (h : pa1 X t i = 0 ∧ 0 ≤ X 8 i ∧ X 8 i ≤ t) : sU (p2P X t i) 5 i 2 = p2P X t (i + 1) := by
  funext k a
  by_cases e : k = 5 ∧ a = i
  · obtain ⟨rfl, rfl⟩ := e
    rw [sU_s]
    unfold p2P
    rw [if_neg (by omega), if_pos ⟨rfl, h0, h1⟩, if_pos (by omega)]
    unfold pa2
    rw [if_pos h]
  · unfold sU
    rw [if_neg e]
    unfold p2P
    by_cases g : k = 19 ∧ a = 0
    · rw [if_pos g, if_pos g]
    · rw [if_neg g, if_neg g]
      by_cases g2 : k = 5 ∧ 0 ≤ a ∧ a < X 0 0
      · rw [if_pos g2, if_pos g2]
        have : a ≠ i := fun v => e ⟨g2.1, v⟩
        by_cases g3 : a < i
        · rw [if_pos g3, if_pos (by omega)]
        · rw [if_neg g3, if_neg (by omega)]
      · rw [if_neg g2, if_neg g2]
theorem p2P_f {X : zS} {t i : Int} (h : ¬ (pa1 X t i = 0 ∧ 0 ≤ X 8 i ∧ X 8 i ≤ t)) : p2P X t i = p2P X t (i + 1) := by
  funext k a
  unfold p2P
  by_cases g : k = 19 ∧ a = 0
  · rw [if_pos g, if_pos g]
  · rw [if_neg g, if_neg g]
    by_cases g2 : k = 5 ∧ 0 ≤ a ∧ a < X 0 0
    · rw [if_pos g2, if_pos g2]
      by_cases g3 : a < i
      · rw [if_pos g3, if_pos (by omega)]
      · rw [if_neg g3]
        by_cases g4 : a < i + 1
        · have e : a = i := by omega
          rw [if_pos g4, e]
          unfold pa2
          rw [if_neg h]
        · rw [if_neg g4]
    · rw [if_neg g2, if_neg g2]
theorem p2P_n {X : zS} {n : Int} : p2P X (X 19 0 + n) (X 0 0) = paS X n := by
  funext k a
  unfold p2P paS
  by_cases g : k = 19 ∧ a = 0
  · rw [if_pos g, if_pos g]
  · rw [if_neg g, if_neg g]
    by_cases g2 : k = 5 ∧ 0 ≤ a ∧ a < X 0 0
    · rw [if_pos g2, if_pos g2, if_pos g2.2.2]
    · rw [if_neg g2, if_neg g2]
theorem pa1_rng {X : zS} {t a : Int} (h : 0 ≤ X 5 a ∧ X 5 a ≤ 3) : 0 ≤ pa1 X t a ∧ pa1 X t a ≤ 3 := by
  unfold pa1 back
  split
  · split <;> omega
  · exact h
theorem back_rng {X : zS} {a : Int} : 0 ≤ back X a ∧ back X a ≤ 3 := by
  unfold back
  split <;> omega
/-- the least deadline among the first i -/
def nx (X : zS) (i k : Int) : Prop := ((∀ b, 0 ≤ b → b < i → X 5 b ≠ 1) ∧ k = -5) ∨ ((∃ b, 0 ≤ b ∧ b < i ∧ X 5 b = 1 ∧ X 7 b = k) ∧ ∀ b, 0 ≤ b → b < i → X 5 b = 1 → k ≤ X 7 b)
theorem nx_0 {X : zS} : nx X 0 (-5) := Or.inl ⟨fun b h0 h1 => by omega, rfl⟩
theorem nx_s {X : zS} {i k : Int} (h : nx X i k) (hi : ¬ X 5 i = 1) : nx X (i + 1) k := by
  rcases h with ⟨h1, h2⟩ | ⟨⟨b, b0, b1, b2, b3⟩, h2⟩
  · refine Or.inl ⟨fun b h0 h3 => ?_, h2⟩
    by_cases e : b = i
    · rw [e]; exact hi
    · exact h1 b h0 (by omega)
  · refine Or.inr ⟨⟨b, b0, by omega, b2, b3⟩, fun a a0 a1 a2 => ?_⟩
    by_cases e : a = i
    · exact absurd (e ▸ a2) hi
    · exact h2 a a0 (by omega) a2
theorem nx_t {X : zS} {i k : Int} (h : nx X i k) (h0 : 0 ≤ i) (hi : X 5 i = 1) (hk : k = -5 ∨ X 7 i < k) (h7 : ∀ a, 0 ≤ X 7 a) : nx X (i + 1) (X 7 i) := by
  refine Or.inr ⟨⟨i, h0, by omega, hi, rfl⟩, fun a a0 a1 a2 => ?_⟩
  by_cases e : a = i
  · rw [e]; omega
  · rcases h with ⟨h1, h2⟩ | ⟨⟨b, b0, b1, b2, b3⟩, h2⟩
    · exact absurd a2 (h1 a a0 (by omega))
    · have := h2 a a0 (by omega) a2
      have := h7 b
      omega
theorem nx_k {X : zS} {i k : Int} (h : nx X i k) (hk : ¬ k = -5) (hk2 : ¬ X 7 i < k) : nx X (i + 1) k := by
  rcases h with ⟨h1, h2⟩ | ⟨⟨b, b0, b1, b2, b3⟩, h2⟩
  · exact absurd h2 hk
  · refine Or.inr ⟨⟨b, b0, by omega, b2, b3⟩, fun a a0 a1 a2 => ?_⟩
    by_cases e : a = i
    · rw [e]; omega
    · exact h2 a a0 (by omega) a2
theorem nx_rng {X : zS} {i k : Int} (h : nx X i k) (hX : okX X) : -2147483648 ≤ k ∧ k ≤ 2147483647 := by
  rcases h with ⟨h1, h2⟩ | ⟨⟨b, b0, b1, b2, b3⟩, h2⟩
  · omega
  · rw [← b3]; exact hX 7 b
theorem outN_rng {X : zS} {c : Int} (h : 0 ≤ X 0 0) : 0 ≤ outN X c ∧ outN X c ≤ X 0 0 := cn_rng _ h
end
section
set_option maxHeartbeats 4000000 in
set_option maxRecDepth 100000 in
theorem metX1_three (l : Launch) (D : va_G) (dA : ClassId) (A : Nat → Prop) (ad : Nat → Nat) (X : zS) (n : Int) (hn : -2147483648 ≤ n ∧ n ≤ 2147483647) : mMi l yX1_three cX1_three 2 (some .boolean) 0 0 D dA A ad [.ref (ad 0), .int (iI n)] X (fun z X1 => X1 = X ∧ (((0 ≤ n ∧ n < 3) ∧ z = 1) ∨ (¬ (0 ≤ n ∧ n < 3) ∧ z = 0))) := by
  refine g_start_i (by decide) ?_
  intro p e s m below meth c Z hr hlocks h
  have Z : gC RX1 D dA p s m ([.ref (ad 0), .int (iI n)] : List Value).toArray c cX1_three 2 := Z
  have hl := lv_entry ([.ref (ad 0), .int (iI n)]) (n := 2) (Nat.le_of_ble_eq_true rfl)
  rw [lg_entry_eq]
  generalize (lg_sl ([.ref (ad 0), .int (iI n)]) ++ List.replicate (2 - (lg_sl ([.ref (ad 0), .int (iI n)])).length) Slot.unset).toArray = ls at hl ⊢
  have hl : lv_has ls 2 [(0, .ref (ad 0)), (1, .int (iI (n)))] := hl
  refine lv_iload_n Z.1 Z.2.1 dX1_three_0 rfl (lv_at hl 1 rfl) ?_
  refine i_if_lt (tgt := 13) Z (by omega) dX1_three_1 (by decide) (fun c1 => ?_) (fun c1 => ?_)
  · refine i_const Z dX1_three_13 ?_
    exact g_ireturn Z hr hlocks h rfl (⟨rfl, by omega⟩) dX1_three_14
  · refine lv_iload_n Z.1 Z.2.1 dX1_three_4 rfl (lv_at hl 1 rfl) ?_
    refine i_const Z dX1_three_5 ?_
    refine i_icmp_ge (tgt := 13) Z (by omega) dX1_three_6 (by decide) (fun c6 => ?_) (fun c6 => ?_)
    · refine i_const Z dX1_three_13 ?_
      exact g_ireturn Z hr hlocks h rfl (⟨rfl, by omega⟩) dX1_three_14
    · refine i_const Z dX1_three_9 ?_
      refine lv_goto (tgt := 14) Z.1 Z.2.1 dX1_three_10 (by decide) ?_
      exact g_ireturn Z hr hlocks h rfl (⟨rfl, by omega⟩) dX1_three_14
set_option maxHeartbeats 4000000 in
set_option maxRecDepth 100000 in
theorem metX1_isReady (l : Launch) (D : va_G) (dA : ClassId) (A : Nat → Prop) (ad : Nat → Nat) (X : zS) (a q : Int) (hX : okX X) (ha : 0 ≤ a ∧ a < 40) (hq : 0 ≤ q ∧ q ≤ 2) : mMi l yX1_isReady cX1_isReady 3 (some .boolean) 0 0 D dA A ad [.ref (ad 0), .int (iI a), .int (iI q)] X (fun z X1 => X1 = X ∧ (((X 1 a = q ∧ X 5 a = 0) ∧ z = 1) ∨ (¬ (X 1 a = q ∧ X 5 a = 0) ∧ z = 0))) := by
  refine g_start_i (by decide) ?_
  intro p e s m below meth c Z hr hlocks h
  have Z : gC RX1 D dA p s m ([.ref (ad 0), .int (iI a), .int (iI q)] : List Value).toArray c cX1_isReady 3 := Z
  have hl := lv_entry ([.ref (ad 0), .int (iI a), .int (iI q)]) (n := 3) (Nat.le_of_ble_eq_true rfl)
  rw [lg_entry_eq]
  generalize (lg_sl ([.ref (ad 0), .int (iI a), .int (iI q)]) ++ List.replicate (3 - (lg_sl ([.ref (ad 0), .int (iI a), .int (iI q)])).length) Slot.unset).toArray = ls at hl ⊢
  have hl : lv_has ls 3 [(0, .ref (ad 0)), (1, .int (iI (a))), (2, .int (iI (q)))] := hl
  refine lv_aload_n Z.1 Z.2.1 dX1_isReady_0 rfl (lv_at hl 0 rfl) ?_
  refine m_get Z h 1 (by decide) q230 rfl dX1_isReady_1 ?_
  refine lv_iload_n Z.1 Z.2.1 dX1_isReady_4 rfl (lv_at hl 1 rfl) ?_
  refine g_ald Z h (m_at_1 dA ad) (by decide) (v := X 1 (a)) (by omega) rfl dX1_isReady_5 ?_
  have o1 := hX 1 (a)
  refine lv_iload_n Z.1 Z.2.1 dX1_isReady_6 rfl (lv_at hl 2 rfl) ?_
  refine i_icmp_ne (tgt := 23) Z (by omega) dX1_isReady_7 (by decide) (fun c7 => ?_) (fun c7 => ?_)
  · refine i_const Z dX1_isReady_23 ?_
    exact g_ireturn Z hr hlocks h rfl (⟨rfl, by omega⟩) dX1_isReady_24
  · refine lv_aload_n Z.1 Z.2.1 dX1_isReady_10 rfl (lv_at hl 0 rfl) ?_
    refine m_get Z h 4 (by decide) q233 rfl dX1_isReady_11 ?_
    refine lv_iload_n Z.1 Z.2.1 dX1_isReady_14 rfl (lv_at hl 1 rfl) ?_
    refine g_ald Z h (m_at_4 dA ad) (by decide) (v := X 5 (a)) (by omega) rfl dX1_isReady_15 ?_
    have o2 := hX 5 (a)
    refine i_if_ne (tgt := 23) Z (by omega) dX1_isReady_16 (by decide) (fun c16 => ?_) (fun c16 => ?_)
    · refine i_const Z dX1_isReady_23 ?_
      exact g_ireturn Z hr hlocks h rfl (⟨rfl, by omega⟩) dX1_isReady_24
    · refine i_const Z dX1_isReady_19 ?_
      refine lv_goto (tgt := 24) Z.1 Z.2.1 dX1_isReady_20 (by decide) ?_
      exact g_ireturn Z hr hlocks h rfl (⟨rfl, by omega⟩) dX1_isReady_24
set_option maxHeartbeats 4000000 in
set_option maxRecDepth 100000 in
theorem metX1_comeBack (l : Launch) (D : va_G) (dA : ClassId) (A : Nat → Prop) (ad : Nat → Nat) (X : zS) (a : Int) (hX : okX X) (ha : 0 ≤ a ∧ a < 40) (hq : 0 ≤ X 1 a ∧ X 1 a ≤ 2) : mMv l yX1_comeBack cX1_comeBack 2 0 0 D dA A ad [.ref (ad 0), .int (iI a)] X (fun X1 => okX X1 ∧ X1 = sU X 5 a (back X a)) := by
  refine g_start_v (by decide) ?_
  intro p e s m below meth c Z hr hlocks h
  have Z : gC RX1 D dA p s m ([.ref (ad 0), .int (iI a)] : List Value).toArray c cX1_comeBack 2 := Z
  have hl := lv_entry ([.ref (ad 0), .int (iI a)]) (n := 2) (Nat.le_of_ble_eq_true rfl)
  rw [lg_entry_eq]
  generalize (lg_sl ([.ref (ad 0), .int (iI a)]) ++ List.replicate (2 - (lg_sl ([.ref (ad 0), .int (iI a)])).length) Slot.unset).toArray = ls at hl ⊢
  have hl : lv_has ls 2 [(0, .ref (ad 0)), (1, .int (iI (a)))] := hl
  refine lv_aload_n Z.1 Z.2.1 dX1_comeBack_0 rfl (lv_at hl 0 rfl) ?_
  refine m_get Z h 4 (by decide) q233 rfl dX1_comeBack_1 ?_
  refine lv_iload_n Z.1 Z.2.1 dX1_comeBack_4 rfl (lv_at hl 1 rfl) ?_
  refine lv_aload_n Z.1 Z.2.1 dX1_comeBack_5 rfl (lv_at hl 0 rfl) ?_
  refine m_get Z h 5 (by decide) q234 rfl dX1_comeBack_6 ?_
  refine lv_iload_n Z.1 Z.2.1 dX1_comeBack_9 rfl (lv_at hl 1 rfl) ?_
  refine g_ald Z h (m_at_5 dA ad) (by decide) (v := X 4 (a)) (by omega) rfl dX1_comeBack_10 ?_
  have o1 := hX 4 (a)
  refine lv_aload_n Z.1 Z.2.1 dX1_comeBack_11 rfl (lv_at hl 0 rfl) ?_
  refine m_get Z h 10 (by decide) q239 rfl dX1_comeBack_12 ?_
  refine lv_aload_n Z.1 Z.2.1 dX1_comeBack_15 rfl (lv_at hl 0 rfl) ?_
  refine m_get Z h 1 (by decide) q230 rfl dX1_comeBack_16 ?_
  refine lv_iload_n Z.1 Z.2.1 dX1_comeBack_19 rfl (lv_at hl 1 rfl) ?_
  refine g_ald Z h (m_at_1 dA ad) (by decide) (v := X 1 (a)) (by omega) rfl dX1_comeBack_20 ?_
  have o2 := hX 1 (a)
  refine g_ald Z h (m_at_10 dA ad) (by decide) (v := X 13 (X 1 (a))) (by omega) rfl dX1_comeBack_21 ?_
  have o3 := hX 13 (X 1 (a))
  refine i_icmp_lt (tgt := 29) Z (by omega) dX1_comeBack_22 (by decide) (fun c22 => ?_) (fun c22 => ?_)
  · refine i_const Z dX1_comeBack_29 ?_
    refine g_ast Z h (m_at_4 dA ad) (m_set_4 dA ad) (by decide) (i := a) (v := 0) (by omega) dX1_comeBack_30 (fun H locs h => ?_)
    have hX := okX_set hX 5 (a) (0) (by omega)
    exact g_return Z hr hlocks h (⟨hX, by rw [show back X a = 0 from if_neg (by omega)]⟩) dX1_comeBack_31
  · refine i_const Z dX1_comeBack_25 ?_
    refine lv_goto (tgt := 30) Z.1 Z.2.1 dX1_comeBack_26 (by decide) ?_
    refine g_ast Z h (m_at_4 dA ad) (m_set_4 dA ad) (by decide) (i := a) (v := 3) (by omega) dX1_comeBack_30 (fun H locs h => ?_)
    have hX := okX_set hX 5 (a) (3) (by omega)
    exact g_return Z hr hlocks h (⟨hX, by rw [show back X a = 3 from if_pos (by omega)]⟩) dX1_comeBack_31
set_option maxHeartbeats 4000000 in
set_option maxRecDepth 100000 in
theorem metX1_out (l : Launch) (D : va_G) (dA : ClassId) (A : Nat → Prop) (ad : Nat → Nat) (X : zS) (q : Int) (hX : okX X) (b0 : 0 ≤ X 0 0 ∧ X 0 0 ≤ 40) (hq : -2147483648 ≤ q ∧ q ≤ 2147483647) : mMi l yX1_out cX1_out 4 (some .int) 0 0 D dA A ad [.ref (ad 0), .int (iI q)] X (fun z X1 => X1 = X ∧ z = outN X q) := by
  refine g_start_i (by decide) ?_
  intro p e s m below meth c Z hr hlocks h
  have Z : gC RX1 D dA p s m ([.ref (ad 0), .int (iI q)] : List Value).toArray c cX1_out 4 := Z
  have hl := lv_entry ([.ref (ad 0), .int (iI q)]) (n := 4) (Nat.le_of_ble_eq_true rfl)
  rw [lg_entry_eq]
  generalize (lg_sl ([.ref (ad 0), .int (iI q)]) ++ List.replicate (4 - (lg_sl ([.ref (ad 0), .int (iI q)])).length) Slot.unset).toArray = ls at hl ⊢
  have hl : lv_has ls 4 [(0, .ref (ad 0)), (1, .int (iI (q)))] := hl
  refine i_const Z dX1_out_0 ?_
  refine lv_istore_n (lv' := [(2, .int (iI (0))), (0, .ref (ad 0)), (1, .int (iI (q)))]) Z.1 Z.2.1 dX1_out_1 rfl hl (by decide) rfl (fun ls hl => ?_)
  refine i_const Z dX1_out_2 ?_
  refine lv_istore_n (lv' := [(3, .int (iI (0))), (2, .int (iI (0))), (0, .ref (ad 0)), (1, .int (iI (q)))]) Z.1 Z.2.1 dX1_out_3 rfl hl (by decide) rfl (fun ls hl => ?_)
  have loop : ∀ (n : Nat) (i : Int) (k : Int) (H : Heap) (locs : List Loc) (ls : Array Slot), (X 0 0 - i < (n : Int)) → (0 ≤ i ∧ i ≤ X 0 0) → (k = cn (fun a => X 5 a = 1 ∧ X 6 a = q) i) → gH D A (mWG dA ad (gG X)) s.heap H locs → lv_has ls 4 [(0, .ref (ad 0)), (1, .int (iI (q))), (3, .int (iI (i))), (2, .int (iI (k)))] → W p l e ({ frames := 0, cells := 0, slots := 0, locals := 0 } : Room) s m ([.ref (ad 0), .int (iI q)] : List Value).toArray below meth c H locs 0 0 (MQ below (gQi D dA A (mWG dA ad) (fun z X1 => X1 = X ∧ z = outN X q)) ([.ref (ad 0), .int (iI q)] : List Value).toArray s 0 0 A) (F0 m 4 ls []) := by
    intro n
    induction n with
    | zero =>
      intro i k H locs ls hm hi hk h hl
      exfalso; omega
    | succ n ih =>
      intro i k H locs ls hm hi hk h hl
      refine lv_iload_n Z.1 Z.2.1 dX1_out_4 rfl (lv_at hl 2 rfl) ?_
      refine lv_aload_n Z.1 Z.2.1 dX1_out_5 rfl (lv_at hl 0 rfl) ?_
      refine m_getI Z h 0 (by decide) q229 rfl (v := X 0 (0)) rfl dX1_out_6 ?_
      have o1 := hX 0 (0)
      refine i_icmp_ge (tgt := 41) Z (by omega) dX1_out_9 (by decide) (fun c9 => ?_) (fun c9 => ?_)
      · refine lv_iload_n Z.1 Z.2.1 dX1_out_41 rfl (lv_at hl 3 rfl) ?_
        exact g_ireturn Z hr hlocks h rfl (⟨rfl, by unfold outN; rw [show X 0 0 = i by omega]; exact hk⟩) dX1_out_42
      · refine lv_aload_n Z.1 Z.2.1 dX1_out_12 rfl (lv_at hl 0 rfl) ?_
        refine m_get Z h 4 (by decide) q233 rfl dX1_out_13 ?_
        refine lv_iload_n Z.1 Z.2.1 dX1_out_16 rfl (lv_at hl 2 rfl) ?_
        refine g_ald Z h (m_at_4 dA ad) (by decide) (v := X 5 (i)) (by omega) rfl dX1_out_17 ?_
        have o2 := hX 5 (i)
        refine i_const Z dX1_out_18 ?_
        refine i_icmp_ne (tgt := 35) Z (by omega) dX1_out_19 (by decide) (fun c19 => ?_) (fun c19 => ?_)
        · refine i_inc (lv' := [(3, .int (iI (i + 1))), (0, .ref (ad 0)), (1, .int (iI (q))), (2, .int (iI (k)))]) Z dX1_out_35 hl (k := 2) rfl (by decide) rfl (fun ls hl => ?_)
          refine lv_goto (tgt := 4) Z.1 Z.2.1 dX1_out_38 (by decide) ?_
          exact ih (i + 1) k _ _ _ (by omega) (by omega) (cn_st (by omega) hk (by omega)) h (lv_sub hl [1, 2, 0, 3] rfl)
        · refine lv_aload_n Z.1 Z.2.1 dX1_out_22 rfl (lv_at hl 0 rfl) ?_
          refine m_get Z h 6 (by decide) q235 rfl dX1_out_23 ?_
          refine lv_iload_n Z.1 Z.2.1 dX1_out_26 rfl (lv_at hl 2 rfl) ?_
          refine g_ald Z h (m_at_6 dA ad) (by decide) (v := X 6 (i)) (by omega) rfl dX1_out_27 ?_
          have o3 := hX 6 (i)
          refine lv_iload_n Z.1 Z.2.1 dX1_out_28 rfl (lv_at hl 1 rfl) ?_
          refine i_icmp_ne (tgt := 35) Z (by omega) dX1_out_29 (by decide) (fun c29 => ?_) (fun c29 => ?_)
          · refine i_inc (lv' := [(3, .int (iI (i + 1))), (0, .ref (ad 0)), (1, .int (iI (q))), (2, .int (iI (k)))]) Z dX1_out_35 hl (k := 2) rfl (by decide) rfl (fun ls hl => ?_)
            refine lv_goto (tgt := 4) Z.1 Z.2.1 dX1_out_38 (by decide) ?_
            exact ih (i + 1) k _ _ _ (by omega) (by omega) (cn_st (by omega) hk (by omega)) h (lv_sub hl [1, 2, 0, 3] rfl)
          · refine i_inc (lv' := [(2, .int (iI (k + 1))), (0, .ref (ad 0)), (1, .int (iI (q))), (3, .int (iI (i)))]) Z dX1_out_32 hl (k := 3) rfl (by decide) rfl (fun ls hl => ?_)
            refine i_inc (lv' := [(3, .int (iI (i + 1))), (2, .int (iI (k + 1))), (0, .ref (ad 0)), (1, .int (iI (q)))]) Z dX1_out_35 hl (k := 3) rfl (by decide) rfl (fun ls hl => ?_)
            refine lv_goto (tgt := 4) Z.1 Z.2.1 dX1_out_38 (by decide) ?_
            exact ih (i + 1) (k + 1) _ _ _ (by omega) (by omega) (cn_st (by omega) hk (by omega)) h (lv_sub hl [2, 3, 0, 1] rfl)
  exact loop ((X 0 0 - 0 + 1).toNat) 0 0 _ _ _ (by omega) (by omega) rfl h (lv_sub hl [2, 3, 0, 1] rfl)
set_option maxHeartbeats 4000000 in
set_option maxRecDepth 100000 in
theorem metX1_ready (l : Launch) (D : va_G) (dA : ClassId) (A : Nat → Prop) (ad : Nat → Nat) (X : zS) (q : Int) (hX : okX X) (b0 : 0 ≤ X 0 0 ∧ X 0 0 ≤ 40) (hq : -2147483648 ≤ q ∧ q ≤ 2147483647) : mMi l yX1_ready cX1_ready 4 (some .int) 1 22 D dA A ad [.ref (ad 0), .int (iI q)] X (fun z X1 => spRdy q X z X1) := by
  refine g_start_i (by decide) ?_
  intro p e s m below meth c Z hr hlocks h
  have Z : gC RX1 D dA p s m ([.ref (ad 0), .int (iI q)] : List Value).toArray c cX1_ready 4 := Z
  have hl := lv_entry ([.ref (ad 0), .int (iI q)]) (n := 4) (Nat.le_of_ble_eq_true rfl)
  rw [lg_entry_eq]
  generalize (lg_sl ([.ref (ad 0), .int (iI q)]) ++ List.replicate (4 - (lg_sl ([.ref (ad 0), .int (iI q)])).length) Slot.unset).toArray = ls at hl ⊢
  have hl : lv_has ls 4 [(0, .ref (ad 0)), (1, .int (iI (q)))] := hl
  refine lv_aload_n Z.1 Z.2.1 dX1_ready_0 rfl (lv_at hl 0 rfl) ?_
  refine lv_iload_n Z.1 Z.2.1 dX1_ready_1 rfl (lv_at hl 1 rfl) ?_
  refine g_calli (As := [.int (iI (q))]) (rest := []) (q := (RX1, TX1, 12)) (ci := 1) Z h (metX1_three l D dA A ad X q (by omega)) (cwV 1 Z.2.2.2.2.1 (lw_V q270 q272 qs15 q23 q273) rfl rfl rfl (by decide +kernel) ⟨Nat.le_of_ble_eq_true rfl, Nat.le_of_ble_eq_true rfl⟩) rfl rfl rfl hl.1 rfl (Nat.le_of_ble_eq_true rfl) ⟨Nat.zero_le _, Nat.zero_le _⟩ dX1_ready_2 (fun z2 X2 H locs hp2 h => ?_)
  obtain ⟨e9, hz2⟩ := hp2
  rw [e9] at h
  refine b_ifne (tgt := 10) Z hz2 dX1_ready_5 (by decide) (fun c5 => ?_) (fun c5 => ?_)
  · refine i_const Z dX1_ready_10 ?_
    refine lv_istore_n (lv' := [(2, .int (iI (0))), (0, .ref (ad 0)), (1, .int (iI (q)))]) Z.1 Z.2.1 dX1_ready_11 rfl hl (by decide) rfl (fun ls hl => ?_)
    refine i_const Z dX1_ready_12 ?_
    refine lv_istore_n (lv' := [(3, .int (iI (0))), (2, .int (iI (0))), (0, .ref (ad 0)), (1, .int (iI (q)))]) Z.1 Z.2.1 dX1_ready_13 rfl hl (by decide) rfl (fun ls hl => ?_)
    have loop : ∀ (n : Nat) (i : Int) (k : Int) (H : Heap) (locs : List Loc) (ls : Array Slot), (X 0 0 - i < (n : Int)) → (0 ≤ i ∧ i ≤ X 0 0) → (k = cn (fun a => X 1 a = q ∧ X 5 a = 0) i) → gH D A (mWG dA ad (gG X)) s.heap H locs → lv_has ls 4 [(0, .ref (ad 0)), (1, .int (iI (q))), (3, .int (iI (i))), (2, .int (iI (k)))] → W p l e ({ frames := 1, cells := 0, slots := 0, locals := 22 } : Room) s m ([.ref (ad 0), .int (iI q)] : List Value).toArray below meth c H locs 0 0 (MQ below (gQi D dA A (mWG dA ad) (fun z X1 => spRdy q X z X1)) ([.ref (ad 0), .int (iI q)] : List Value).toArray s 0 0 A) (F0 m 14 ls []) := by
      intro n
      induction n with
      | zero =>
        intro i k H locs ls hm hi hk h hl
        exfalso; omega
      | succ n ih =>
        intro i k H locs ls hm hi hk h hl
        refine lv_iload_n Z.1 Z.2.1 dX1_ready_14 rfl (lv_at hl 2 rfl) ?_
        refine lv_aload_n Z.1 Z.2.1 dX1_ready_15 rfl (lv_at hl 0 rfl) ?_
        refine m_getI Z h 0 (by decide) q229 rfl (v := X 0 (0)) rfl dX1_ready_16 ?_
        have o1 := hX 0 (0)
        refine i_icmp_ge (tgt := 40) Z (by omega) dX1_ready_19 (by decide) (fun c19 => ?_) (fun c19 => ?_)
        · refine lv_iload_n Z.1 Z.2.1 dX1_ready_40 rfl (lv_at hl 3 rfl) ?_
          exact g_ireturn Z hr hlocks h rfl (⟨EQ.rf X, Or.inl ⟨by omega, by rw [show X 0 0 = i by omega]; exact hk⟩⟩) dX1_ready_41
        · refine lv_aload_n Z.1 Z.2.1 dX1_ready_22 rfl (lv_at hl 0 rfl) ?_
          refine lv_iload_n Z.1 Z.2.1 dX1_ready_23 rfl (lv_at hl 2 rfl) ?_
          refine lv_iload_n Z.1 Z.2.1 dX1_ready_24 rfl (lv_at hl 1 rfl) ?_
          refine g_calli (As := [.int (iI (i)), .int (iI (q))]) (rest := []) (q := (RX1, TX1, 12)) (ci := 1) Z h (metX1_isReady l D dA A ad X i q hX (by omega) (by omega)) (cwV 2 Z.2.2.2.2.1 (lw_V q286 q288 qs17 q23 q289) rfl rfl rfl (by decide +kernel) ⟨Nat.le_of_ble_eq_true rfl, Nat.le_of_ble_eq_true rfl⟩) rfl rfl rfl hl.1 rfl (Nat.le_of_ble_eq_true rfl) ⟨Nat.zero_le _, Nat.zero_le _⟩ dX1_ready_25 (fun z25 X25 H locs hp25 h => ?_)
          obtain ⟨e9, hz25⟩ := hp25
          rw [e9] at h
          refine b_ifeq (tgt := 34) Z hz25 dX1_ready_28 (by decide) (fun c28 => ?_) (fun c28 => ?_)
          · refine i_inc (lv' := [(3, .int (iI (i + 1))), (0, .ref (ad 0)), (1, .int (iI (q))), (2, .int (iI (k)))]) Z dX1_ready_34 hl (k := 2) rfl (by decide) rfl (fun ls hl => ?_)
            refine lv_goto (tgt := 14) Z.1 Z.2.1 dX1_ready_37 (by decide) ?_
            exact ih (i + 1) k _ _ _ (by omega) (by omega) (cn_st (by omega) hk (by omega)) h (lv_sub hl [1, 2, 0, 3] rfl)
          · refine i_inc (lv' := [(2, .int (iI (k + 1))), (0, .ref (ad 0)), (1, .int (iI (q))), (3, .int (iI (i)))]) Z dX1_ready_31 hl (k := 3) rfl (by decide) rfl (fun ls hl => ?_)
            refine i_inc (lv' := [(3, .int (iI (i + 1))), (2, .int (iI (k + 1))), (0, .ref (ad 0)), (1, .int (iI (q)))]) Z dX1_ready_34 hl (k := 3) rfl (by decide) rfl (fun ls hl => ?_)
            refine lv_goto (tgt := 14) Z.1 Z.2.1 dX1_ready_37 (by decide) ?_
            exact ih (i + 1) (k + 1) _ _ _ (by omega) (by omega) (cn_st (by omega) hk (by omega)) h (lv_sub hl [2, 3, 0, 1] rfl)
    exact loop ((X 0 0 - 0 + 1).toNat) 0 0 _ _ _ (by omega) (by omega) rfl h (lv_sub hl [2, 3, 0, 1] rfl)
  · refine i_const Z dX1_ready_8 ?_
    exact g_ireturn Z hr hlocks h rfl (⟨EQ.rf X, Or.inr ⟨by omega, rfl⟩⟩) dX1_ready_9
set_option maxHeartbeats 4000000 in
set_option maxRecDepth 100000 in
theorem metX1_sum (l : Launch) (D : va_G) (dA : ClassId) (A : Nat → Prop) (ad : Nat → Nat) (X : zS) (q : Int) (hX : okX X) (b0 : 0 ≤ X 0 0 ∧ X 0 0 ≤ 40) (hq : -2147483648 ≤ q ∧ q ≤ 2147483647) : mMi l yX1_sum cX1_sum 4 (some .int) 0 0 D dA A ad [.ref (ad 0), .int (iI q)] X (fun z X1 => spSum q X z X1) := by
  refine g_start_i (by decide) ?_
  intro p e s m below meth c Z hr hlocks h
  have Z : gC RX1 D dA p s m ([.ref (ad 0), .int (iI q)] : List Value).toArray c cX1_sum 4 := Z
  have hl := lv_entry ([.ref (ad 0), .int (iI q)]) (n := 4) (Nat.le_of_ble_eq_true rfl)
  rw [lg_entry_eq]
  generalize (lg_sl ([.ref (ad 0), .int (iI q)]) ++ List.replicate (4 - (lg_sl ([.ref (ad 0), .int (iI q)])).length) Slot.unset).toArray = ls at hl ⊢
  have hl : lv_has ls 4 [(0, .ref (ad 0)), (1, .int (iI (q)))] := hl
  refine i_const Z dX1_sum_0 ?_
  refine lv_istore_n (lv' := [(2, .int (iI (0))), (0, .ref (ad 0)), (1, .int (iI (q)))]) Z.1 Z.2.1 dX1_sum_1 rfl hl (by decide) rfl (fun ls hl => ?_)
  refine i_const Z dX1_sum_2 ?_
  refine lv_istore_n (lv' := [(3, .int (iI (0))), (2, .int (iI (0))), (0, .ref (ad 0)), (1, .int (iI (q)))]) Z.1 Z.2.1 dX1_sum_3 rfl hl (by decide) rfl (fun ls hl => ?_)
  have loop : ∀ (n : Nat) (i : Int) (k : Int) (H : Heap) (locs : List Loc) (ls : Array Slot), (X 0 0 - i < (n : Int)) → (0 ≤ i ∧ i ≤ X 0 0) → (k = sm X q i) → gH D A (mWG dA ad (gG X)) s.heap H locs → lv_has ls 4 [(0, .ref (ad 0)), (1, .int (iI (q))), (3, .int (iI (i))), (2, .int (iI (k)))] → W p l e ({ frames := 0, cells := 0, slots := 0, locals := 0 } : Room) s m ([.ref (ad 0), .int (iI q)] : List Value).toArray below meth c H locs 0 0 (MQ below (gQi D dA A (mWG dA ad) (fun z X1 => spSum q X z X1)) ([.ref (ad 0), .int (iI q)] : List Value).toArray s 0 0 A) (F0 m 4 ls []) := by
    intro n
    induction n with
    | zero =>
      intro i k H locs ls hm hi hk h hl
      exfalso; omega
    | succ n ih =>
      intro i k H locs ls hm hi hk h hl
      refine lv_iload_n Z.1 Z.2.1 dX1_sum_4 rfl (lv_at hl 2 rfl) ?_
      refine lv_aload_n Z.1 Z.2.1 dX1_sum_5 rfl (lv_at hl 0 rfl) ?_
      refine m_getI Z h 0 (by decide) q229 rfl (v := X 0 (0)) rfl dX1_sum_6 ?_
      have o1 := hX 0 (0)
      refine i_icmp_ge (tgt := 37) Z (by omega) dX1_sum_9 (by decide) (fun c9 => ?_) (fun c9 => ?_)
      · refine lv_iload_n Z.1 Z.2.1 dX1_sum_37 rfl (lv_at hl 3 rfl) ?_
        exact g_ireturn Z hr hlocks h rfl (⟨EQ.rf X, by rw [show X 0 0 = i by omega]; exact hk⟩) dX1_sum_38
      · refine lv_aload_n Z.1 Z.2.1 dX1_sum_12 rfl (lv_at hl 0 rfl) ?_
        refine m_get Z h 4 (by decide) q233 rfl dX1_sum_13 ?_
        refine lv_iload_n Z.1 Z.2.1 dX1_sum_16 rfl (lv_at hl 2 rfl) ?_
        refine g_ald Z h (m_at_4 dA ad) (by decide) (v := X 5 (i)) (by omega) rfl dX1_sum_17 ?_
        have o2 := hX 5 (i)
        refine lv_iload_n Z.1 Z.2.1 dX1_sum_18 rfl (lv_at hl 1 rfl) ?_
        refine i_icmp_ne (tgt := 31) Z (by omega) dX1_sum_19 (by decide) (fun c19 => ?_) (fun c19 => ?_)
        · refine i_inc (lv' := [(3, .int (iI (i + 1))), (0, .ref (ad 0)), (1, .int (iI (q))), (2, .int (iI (k)))]) Z dX1_sum_31 hl (k := 2) rfl (by decide) rfl (fun ls hl => ?_)
          refine lv_goto (tgt := 4) Z.1 Z.2.1 dX1_sum_34 (by decide) ?_
          exact ih (i + 1) k _ _ _ (by omega) (by omega) (sm_st (by omega) hk (by omega)) h (lv_sub hl [1, 2, 0, 3] rfl)
        · refine lv_iload_n Z.1 Z.2.1 dX1_sum_22 rfl (lv_at hl 3 rfl) ?_
          refine lv_aload_n Z.1 Z.2.1 dX1_sum_23 rfl (lv_at hl 0 rfl) ?_
          refine m_get Z h 2 (by decide) q231 rfl dX1_sum_24 ?_
          refine lv_iload_n Z.1 Z.2.1 dX1_sum_27 rfl (lv_at hl 2 rfl) ?_
          refine g_ald Z h (m_at_2 dA ad) (by decide) (v := X 2 (i)) (by omega) rfl dX1_sum_28 ?_
          have o3 := hX 2 (i)
          refine i_add Z dX1_sum_29 ?_
          refine lv_istore_n (lv' := [(2, .int (iI (k + (X 2 (i))))), (0, .ref (ad 0)), (1, .int (iI (q))), (3, .int (iI (i)))]) Z.1 Z.2.1 dX1_sum_30 rfl hl (by decide) rfl (fun ls hl => ?_)
          refine i_inc (lv' := [(3, .int (iI (i + 1))), (2, .int (iI (k + (X 2 (i))))), (0, .ref (ad 0)), (1, .int (iI (q)))]) Z dX1_sum_31 hl (k := 3) rfl (by decide) rfl (fun ls hl => ?_)
          refine lv_goto (tgt := 4) Z.1 Z.2.1 dX1_sum_34 (by decide) ?_
          exact ih (i + 1) (k + (X 2 (i))) _ _ _ (by omega) (by omega) (sm_st (by omega) hk (by omega)) h (lv_sub hl [2, 3, 0, 1] rfl)
  exact loop ((X 0 0 - 0 + 1).toNat) 0 0 _ _ _ (by omega) (by omega) rfl h (lv_sub hl [2, 3, 0, 1] rfl)
set_option maxHeartbeats 4000000 in
set_option maxRecDepth 100000 in
theorem metX1_before (l : Launch) (D : va_G) (dA : ClassId) (A : Nat → Prop) (ad : Nat → Nat) (X : zS) (q a : Int) (hX : okX X) (b0 : 0 ≤ X 0 0 ∧ X 0 0 ≤ 40) (hq : 0 ≤ q ∧ q ≤ 2) (ha : 0 ≤ a ∧ a < X 0 0) : mMi l yX1_before cX1_before 6 (some .int) 1 22 D dA A ad [.ref (ad 0), .int (iI q), .int (iI a)] X (fun z X1 => X1 = X ∧ z = rank X q a) := by
  refine g_start_i (by decide) ?_
  intro p e s m below meth c Z hr hlocks h
  have Z : gC RX1 D dA p s m ([.ref (ad 0), .int (iI q), .int (iI a)] : List Value).toArray c cX1_before 6 := Z
  have hl := lv_entry ([.ref (ad 0), .int (iI q), .int (iI a)]) (n := 6) (Nat.le_of_ble_eq_true rfl)
  rw [lg_entry_eq]
  generalize (lg_sl ([.ref (ad 0), .int (iI q), .int (iI a)]) ++ List.replicate (6 - (lg_sl ([.ref (ad 0), .int (iI q), .int (iI a)])).length) Slot.unset).toArray = ls at hl ⊢
  have hl : lv_has ls 6 [(0, .ref (ad 0)), (1, .int (iI (q))), (2, .int (iI (a)))] := hl
  refine i_const Z dX1_before_0 ?_
  refine lv_istore_n (lv' := [(3, .int (iI (0))), (0, .ref (ad 0)), (1, .int (iI (q))), (2, .int (iI (a)))]) Z.1 Z.2.1 dX1_before_1 rfl hl (by decide) rfl (fun ls hl => ?_)
  refine i_const Z dX1_before_2 ?_
  refine lv_istore (lv' := [(4, .int (iI (0))), (3, .int (iI (0))), (0, .ref (ad 0)), (1, .int (iI (q))), (2, .int (iI (a)))]) Z.1 Z.2.1 dX1_before_3 hl (by decide) rfl (fun ls hl => ?_)
  have loop : ∀ (n : Nat) (i : Int) (k : Int) (H : Heap) (locs : List Loc) (ls : Array Slot), (X 0 0 - i < (n : Int)) → (0 ≤ i ∧ i ≤ X 0 0) → (k = cn (fun b => (X 1 b = q ∧ X 5 b = 0) ∧ bq (X 3) b a) i) → gH D A (mWG dA ad (gG X)) s.heap H locs → lv_has ls 6 [(0, .ref (ad 0)), (1, .int (iI (q))), (2, .int (iI (a))), (4, .int (iI (i))), (3, .int (iI (k)))] → W p l e ({ frames := 1, cells := 0, slots := 0, locals := 22 } : Room) s m ([.ref (ad 0), .int (iI q), .int (iI a)] : List Value).toArray below meth c H locs 0 0 (MQ below (gQi D dA A (mWG dA ad) (fun z X1 => X1 = X ∧ z = rank X q a)) ([.ref (ad 0), .int (iI q), .int (iI a)] : List Value).toArray s 0 0 A) (F0 m 5 ls []) := by
    intro n
    induction n with
    | zero =>
      intro i k H locs ls hm hi hk h hl
      exfalso; omega
    | succ n ih =>
      intro i k H locs ls hm hi hk h hl
      refine lv_iload Z.1 Z.2.1 dX1_before_5 (lv_at hl 3 rfl) ?_
      refine lv_aload_n Z.1 Z.2.1 dX1_before_7 rfl (lv_at hl 0 rfl) ?_
      refine m_getI Z h 0 (by decide) q229 rfl (v := X 0 (0)) rfl dX1_before_8 ?_
      have o1 := hX 0 (0)
      refine i_icmp_ge (tgt := 83) Z (by omega) dX1_before_11 (by decide) (fun c11 => ?_) (fun c11 => ?_)
      · refine lv_iload_n Z.1 Z.2.1 dX1_before_83 rfl (lv_at hl 4 rfl) ?_
        exact g_ireturn Z hr hlocks h rfl (⟨rfl, by unfold rank; rw [show X 0 0 = i by omega]; exact hk⟩) dX1_before_84
      · refine lv_aload_n Z.1 Z.2.1 dX1_before_14 rfl (lv_at hl 0 rfl) ?_
        refine m_get Z h 3 (by decide) q232 rfl dX1_before_15 ?_
        refine lv_iload Z.1 Z.2.1 dX1_before_18 (lv_at hl 3 rfl) ?_
        refine g_ald Z h (m_at_3 dA ad) (by decide) (v := X 3 (i)) (by omega) rfl dX1_before_20 ?_
        have o2 := hX 3 (i)
        refine lv_aload_n Z.1 Z.2.1 dX1_before_21 rfl (lv_at hl 0 rfl) ?_
        refine m_get Z h 3 (by decide) q232 rfl dX1_before_22 ?_
        refine lv_iload_n Z.1 Z.2.1 dX1_before_25 rfl (lv_at hl 2 rfl) ?_
        refine g_ald Z h (m_at_3 dA ad) (by decide) (v := X 3 (a)) (by omega) rfl dX1_before_26 ?_
        have o3 := hX 3 (a)
        refine i_icmp_gt (tgt := 52) Z (by omega) dX1_before_27 (by decide) (fun c27 => ?_) (fun c27 => ?_)
        · refine i_const Z dX1_before_52 ?_
          refine lv_goto (tgt := 57) Z.1 Z.2.1 dX1_before_53 (by decide) ?_
          refine lv_istore (lv' := [(5, .int (iI (1))), (0, .ref (ad 0)), (1, .int (iI (q))), (2, .int (iI (a))), (4, .int (iI (i))), (3, .int (iI (k)))]) Z.1 Z.2.1 dX1_before_57 hl (by decide) rfl (fun ls hl => ?_)
          refine lv_aload_n Z.1 Z.2.1 dX1_before_59 rfl (lv_at hl 1 rfl) ?_
          refine lv_iload Z.1 Z.2.1 dX1_before_60 (lv_at hl 4 rfl) ?_
          refine lv_iload_n Z.1 Z.2.1 dX1_before_62 rfl (lv_at hl 2 rfl) ?_
          refine g_calli (As := [.int (iI (i)), .int (iI (q))]) (rest := []) (q := (RX1, TX1, 12)) (ci := 1) Z h (metX1_isReady l D dA A ad X i q hX (by omega) (by omega)) (cwV 2 Z.2.2.2.2.1 (lw_V q286 q288 qs17 q23 q289) rfl rfl rfl (by decide +kernel) ⟨Nat.le_of_ble_eq_true rfl, Nat.le_of_ble_eq_true rfl⟩) rfl rfl rfl hl.1 rfl (Nat.le_of_ble_eq_true rfl) ⟨Nat.zero_le _, Nat.zero_le _⟩ dX1_before_63 (fun z63 X63 H locs hp63 h => ?_)
          obtain ⟨e9, hz63⟩ := hp63
          rw [e9] at h
          refine b_ifeq (tgt := 77) Z hz63 dX1_before_66 (by decide) (fun c66 => ?_) (fun c66 => ?_)
          · refine i_inc (lv' := [(4, .int (iI (i + 1))), (5, .int (iI (1))), (0, .ref (ad 0)), (1, .int (iI (q))), (2, .int (iI (a))), (3, .int (iI (k)))]) Z dX1_before_77 hl (k := 4) rfl (by decide) rfl (fun ls hl => ?_)
            refine lv_goto (tgt := 5) Z.1 Z.2.1 dX1_before_80 (by decide) ?_
            exact ih (i + 1) k _ _ _ (by omega) (by omega) (cn_st (by omega) hk (by unfold bq; omega)) h (lv_sub hl [2, 3, 4, 0, 5] rfl)
          · refine lv_iload Z.1 Z.2.1 dX1_before_69 (lv_at hl 0 rfl) ?_
            refine i_if_eq (tgt := 77) Z (by omega) dX1_before_71 (by decide) (fun c71 => ?_) (fun c71 => ?_)
            · exact absurd c71 (by decide)
            · refine i_inc (lv' := [(3, .int (iI (k + 1))), (5, .int (iI (1))), (0, .ref (ad 0)), (1, .int (iI (q))), (2, .int (iI (a))), (4, .int (iI (i)))]) Z dX1_before_74 hl (k := 5) rfl (by decide) rfl (fun ls hl => ?_)
              refine i_inc (lv' := [(4, .int (iI (i + 1))), (3, .int (iI (k + 1))), (5, .int (iI (1))), (0, .ref (ad 0)), (1, .int (iI (q))), (2, .int (iI (a)))]) Z dX1_before_77 hl (k := 5) rfl (by decide) rfl (fun ls hl => ?_)
              refine lv_goto (tgt := 5) Z.1 Z.2.1 dX1_before_80 (by decide) ?_
              exact ih (i + 1) (k + 1) _ _ _ (by omega) (by omega) (cn_st (by omega) hk (by unfold bq; omega)) h (lv_sub hl [3, 4, 5, 0, 1] rfl)
        · refine lv_aload_n Z.1 Z.2.1 dX1_before_30 rfl (lv_at hl 0 rfl) ?_
          refine m_get Z h 3 (by decide) q232 rfl dX1_before_31 ?_
          refine lv_iload Z.1 Z.2.1 dX1_before_34 (lv_at hl 3 rfl) ?_
          refine g_ald Z h (m_at_3 dA ad) (by decide) (v := X 3 (i)) (by omega) rfl dX1_before_36 ?_
          have o4 := hX 3 (i)
          refine lv_aload_n Z.1 Z.2.1 dX1_before_37 rfl (lv_at hl 0 rfl) ?_
          refine m_get Z h 3 (by decide) q232 rfl dX1_before_38 ?_
          refine lv_iload_n Z.1 Z.2.1 dX1_before_41 rfl (lv_at hl 2 rfl) ?_
          refine g_ald Z h (m_at_3 dA ad) (by decide) (v := X 3 (a)) (by omega) rfl dX1_before_42 ?_
          have o5 := hX 3 (a)
          refine i_icmp_ne (tgt := 56) Z (by omega) dX1_before_43 (by decide) (fun c43 => ?_) (fun c43 => ?_)
          · refine i_const Z dX1_before_56 ?_
            refine lv_istore (lv' := [(5, .int (iI (0))), (0, .ref (ad 0)), (1, .int (iI (q))), (2, .int (iI (a))), (4, .int (iI (i))), (3, .int (iI (k)))]) Z.1 Z.2.1 dX1_before_57 hl (by decide) rfl (fun ls hl => ?_)
            refine lv_aload_n Z.1 Z.2.1 dX1_before_59 rfl (lv_at hl 1 rfl) ?_
            refine lv_iload Z.1 Z.2.1 dX1_before_60 (lv_at hl 4 rfl) ?_
            refine lv_iload_n Z.1 Z.2.1 dX1_before_62 rfl (lv_at hl 2 rfl) ?_
            refine g_calli (As := [.int (iI (i)), .int (iI (q))]) (rest := []) (q := (RX1, TX1, 12)) (ci := 1) Z h (metX1_isReady l D dA A ad X i q hX (by omega) (by omega)) (cwV 2 Z.2.2.2.2.1 (lw_V q286 q288 qs17 q23 q289) rfl rfl rfl (by decide +kernel) ⟨Nat.le_of_ble_eq_true rfl, Nat.le_of_ble_eq_true rfl⟩) rfl rfl rfl hl.1 rfl (Nat.le_of_ble_eq_true rfl) ⟨Nat.zero_le _, Nat.zero_le _⟩ dX1_before_63 (fun z63 X63 H locs hp63 h => ?_)
            obtain ⟨e9, hz63⟩ := hp63
            rw [e9] at h
            refine b_ifeq (tgt := 77) Z hz63 dX1_before_66 (by decide) (fun c66 => ?_) (fun c66 => ?_)
            · refine i_inc (lv' := [(4, .int (iI (i + 1))), (5, .int (iI (0))), (0, .ref (ad 0)), (1, .int (iI (q))), (2, .int (iI (a))), (3, .int (iI (k)))]) Z dX1_before_77 hl (k := 4) rfl (by decide) rfl (fun ls hl => ?_)
              refine lv_goto (tgt := 5) Z.1 Z.2.1 dX1_before_80 (by decide) ?_
              exact ih (i + 1) k _ _ _ (by omega) (by omega) (cn_st (by omega) hk (by unfold bq; omega)) h (lv_sub hl [2, 3, 4, 0, 5] rfl)
            · refine lv_iload Z.1 Z.2.1 dX1_before_69 (lv_at hl 0 rfl) ?_
              refine i_if_eq (tgt := 77) Z (by omega) dX1_before_71 (by decide) (fun c71 => ?_) (fun c71 => ?_)
              · refine i_inc (lv' := [(4, .int (iI (i + 1))), (5, .int (iI (0))), (0, .ref (ad 0)), (1, .int (iI (q))), (2, .int (iI (a))), (3, .int (iI (k)))]) Z dX1_before_77 hl (k := 4) rfl (by decide) rfl (fun ls hl => ?_)
                refine lv_goto (tgt := 5) Z.1 Z.2.1 dX1_before_80 (by decide) ?_
                exact ih (i + 1) k _ _ _ (by omega) (by omega) (cn_st (by omega) hk (by unfold bq; omega)) h (lv_sub hl [2, 3, 4, 0, 5] rfl)
              · exact absurd c71 (by decide)
          · refine lv_iload Z.1 Z.2.1 dX1_before_46 (lv_at hl 3 rfl) ?_
            refine lv_iload_n Z.1 Z.2.1 dX1_before_48 rfl (lv_at hl 2 rfl) ?_
            refine i_icmp_ge (tgt := 56) Z (by omega) dX1_before_49 (by decide) (fun c49 => ?_) (fun c49 => ?_)
            · refine i_const Z dX1_before_56 ?_
              refine lv_istore (lv' := [(5, .int (iI (0))), (0, .ref (ad 0)), (1, .int (iI (q))), (2, .int (iI (a))), (4, .int (iI (i))), (3, .int (iI (k)))]) Z.1 Z.2.1 dX1_before_57 hl (by decide) rfl (fun ls hl => ?_)
              refine lv_aload_n Z.1 Z.2.1 dX1_before_59 rfl (lv_at hl 1 rfl) ?_
              refine lv_iload Z.1 Z.2.1 dX1_before_60 (lv_at hl 4 rfl) ?_
              refine lv_iload_n Z.1 Z.2.1 dX1_before_62 rfl (lv_at hl 2 rfl) ?_
              refine g_calli (As := [.int (iI (i)), .int (iI (q))]) (rest := []) (q := (RX1, TX1, 12)) (ci := 1) Z h (metX1_isReady l D dA A ad X i q hX (by omega) (by omega)) (cwV 2 Z.2.2.2.2.1 (lw_V q286 q288 qs17 q23 q289) rfl rfl rfl (by decide +kernel) ⟨Nat.le_of_ble_eq_true rfl, Nat.le_of_ble_eq_true rfl⟩) rfl rfl rfl hl.1 rfl (Nat.le_of_ble_eq_true rfl) ⟨Nat.zero_le _, Nat.zero_le _⟩ dX1_before_63 (fun z63 X63 H locs hp63 h => ?_)
              obtain ⟨e9, hz63⟩ := hp63
              rw [e9] at h
              refine b_ifeq (tgt := 77) Z hz63 dX1_before_66 (by decide) (fun c66 => ?_) (fun c66 => ?_)
              · refine i_inc (lv' := [(4, .int (iI (i + 1))), (5, .int (iI (0))), (0, .ref (ad 0)), (1, .int (iI (q))), (2, .int (iI (a))), (3, .int (iI (k)))]) Z dX1_before_77 hl (k := 4) rfl (by decide) rfl (fun ls hl => ?_)
                refine lv_goto (tgt := 5) Z.1 Z.2.1 dX1_before_80 (by decide) ?_
                exact ih (i + 1) k _ _ _ (by omega) (by omega) (cn_st (by omega) hk (by unfold bq; omega)) h (lv_sub hl [2, 3, 4, 0, 5] rfl)
              · refine lv_iload Z.1 Z.2.1 dX1_before_69 (lv_at hl 0 rfl) ?_
                refine i_if_eq (tgt := 77) Z (by omega) dX1_before_71 (by decide) (fun c71 => ?_) (fun c71 => ?_)
                · refine i_inc (lv' := [(4, .int (iI (i + 1))), (5, .int (iI (0))), (0, .ref (ad 0)), (1, .int (iI (q))), (2, .int (iI (a))), (3, .int (iI (k)))]) Z dX1_before_77 hl (k := 4) rfl (by decide) rfl (fun ls hl => ?_)
                  refine lv_goto (tgt := 5) Z.1 Z.2.1 dX1_before_80 (by decide) ?_
                  exact ih (i + 1) k _ _ _ (by omega) (by omega) (cn_st (by omega) hk (by unfold bq; omega)) h (lv_sub hl [2, 3, 4, 0, 5] rfl)
                · exact absurd c71 (by decide)
            · refine i_const Z dX1_before_52 ?_
              refine lv_goto (tgt := 57) Z.1 Z.2.1 dX1_before_53 (by decide) ?_
              refine lv_istore (lv' := [(5, .int (iI (1))), (0, .ref (ad 0)), (1, .int (iI (q))), (2, .int (iI (a))), (4, .int (iI (i))), (3, .int (iI (k)))]) Z.1 Z.2.1 dX1_before_57 hl (by decide) rfl (fun ls hl => ?_)
              refine lv_aload_n Z.1 Z.2.1 dX1_before_59 rfl (lv_at hl 1 rfl) ?_
              refine lv_iload Z.1 Z.2.1 dX1_before_60 (lv_at hl 4 rfl) ?_
              refine lv_iload_n Z.1 Z.2.1 dX1_before_62 rfl (lv_at hl 2 rfl) ?_
              refine g_calli (As := [.int (iI (i)), .int (iI (q))]) (rest := []) (q := (RX1, TX1, 12)) (ci := 1) Z h (metX1_isReady l D dA A ad X i q hX (by omega) (by omega)) (cwV 2 Z.2.2.2.2.1 (lw_V q286 q288 qs17 q23 q289) rfl rfl rfl (by decide +kernel) ⟨Nat.le_of_ble_eq_true rfl, Nat.le_of_ble_eq_true rfl⟩) rfl rfl rfl hl.1 rfl (Nat.le_of_ble_eq_true rfl) ⟨Nat.zero_le _, Nat.zero_le _⟩ dX1_before_63 (fun z63 X63 H locs hp63 h => ?_)
              obtain ⟨e9, hz63⟩ := hp63
              rw [e9] at h
              refine b_ifeq (tgt := 77) Z hz63 dX1_before_66 (by decide) (fun c66 => ?_) (fun c66 => ?_)
              · refine i_inc (lv' := [(4, .int (iI (i + 1))), (5, .int (iI (1))), (0, .ref (ad 0)), (1, .int (iI (q))), (2, .int (iI (a))), (3, .int (iI (k)))]) Z dX1_before_77 hl (k := 4) rfl (by decide) rfl (fun ls hl => ?_)
                refine lv_goto (tgt := 5) Z.1 Z.2.1 dX1_before_80 (by decide) ?_
                exact ih (i + 1) k _ _ _ (by omega) (by omega) (cn_st (by omega) hk (by unfold bq; omega)) h (lv_sub hl [2, 3, 4, 0, 5] rfl)
              · refine lv_iload Z.1 Z.2.1 dX1_before_69 (lv_at hl 0 rfl) ?_
                refine i_if_eq (tgt := 77) Z (by omega) dX1_before_71 (by decide) (fun c71 => ?_) (fun c71 => ?_)
                · exact absurd c71 (by decide)
                · refine i_inc (lv' := [(3, .int (iI (k + 1))), (5, .int (iI (1))), (0, .ref (ad 0)), (1, .int (iI (q))), (2, .int (iI (a))), (4, .int (iI (i)))]) Z dX1_before_74 hl (k := 5) rfl (by decide) rfl (fun ls hl => ?_)
                  refine i_inc (lv' := [(4, .int (iI (i + 1))), (3, .int (iI (k + 1))), (5, .int (iI (1))), (0, .ref (ad 0)), (1, .int (iI (q))), (2, .int (iI (a)))]) Z dX1_before_77 hl (k := 5) rfl (by decide) rfl (fun ls hl => ?_)
                  refine lv_goto (tgt := 5) Z.1 Z.2.1 dX1_before_80 (by decide) ?_
                  exact ih (i + 1) (k + 1) _ _ _ (by omega) (by omega) (cn_st (by omega) hk (by unfold bq; omega)) h (lv_sub hl [3, 4, 5, 0, 1] rfl)
  exact loop ((X 0 0 - 0 + 1).toNat) 0 0 _ _ _ (by omega) (by omega) rfl h (lv_sub hl [2, 3, 4, 0, 1] rfl)
set_option maxHeartbeats 4000000 in
set_option maxRecDepth 100000 in
theorem metX1_peek (l : Launch) (D : va_G) (dA : ClassId) (A : Nat → Prop) (ad : Nat → Nat) (X : zS) (q j : Int) (hX : okX X) (b0 : 0 ≤ X 0 0 ∧ X 0 0 ≤ 40) (hq : -2147483648 ≤ q ∧ q ≤ 2147483647) (hj : -2147483648 ≤ j ∧ j ≤ 2147483647) : mMi l yX1_peek cX1_peek 4 (some .int) 2 47 D dA A ad [.ref (ad 0), .int (iI q), .int (iI j)] X (fun z X1 => X1 = X ∧ spPeek q j X z X1) := by
  refine g_start_i (by decide) ?_
  intro p e s m below meth c Z hr hlocks h
  have Z : gC RX1 D dA p s m ([.ref (ad 0), .int (iI q), .int (iI j)] : List Value).toArray c cX1_peek 4 := Z
  have hl := lv_entry ([.ref (ad 0), .int (iI q), .int (iI j)]) (n := 4) (Nat.le_of_ble_eq_true rfl)
  rw [lg_entry_eq]
  generalize (lg_sl ([.ref (ad 0), .int (iI q), .int (iI j)]) ++ List.replicate (4 - (lg_sl ([.ref (ad 0), .int (iI q), .int (iI j)])).length) Slot.unset).toArray = ls at hl ⊢
  have hl : lv_has ls 4 [(0, .ref (ad 0)), (1, .int (iI (q))), (2, .int (iI (j)))] := hl
  refine lv_aload_n Z.1 Z.2.1 dX1_peek_0 rfl (lv_at hl 0 rfl) ?_
  refine lv_iload_n Z.1 Z.2.1 dX1_peek_1 rfl (lv_at hl 1 rfl) ?_
  refine g_calli (As := [.int (iI (q))]) (rest := []) (q := (RX1, TX1, 12)) (ci := 1) Z h (metX1_three l D dA A ad X q (by omega)) (cwV 1 Z.2.2.2.2.1 (lw_V q270 q272 qs15 q23 q273) rfl rfl rfl (by decide +kernel) ⟨Nat.le_of_ble_eq_true rfl, Nat.le_of_ble_eq_true rfl⟩) rfl rfl rfl hl.1 rfl (Nat.le_of_ble_eq_true rfl) ⟨Nat.zero_le _, Nat.zero_le _⟩ dX1_peek_2 (fun z2 X2 H locs hp2 h => ?_)
  obtain ⟨e9, hz2⟩ := hp2
  rw [e9] at h
  refine b_ifne (tgt := 10) Z hz2 dX1_peek_5 (by decide) (fun c5 => ?_) (fun c5 => ?_)
  · refine i_const Z dX1_peek_10 ?_
    refine lv_istore_n (lv' := [(3, .int (iI (0))), (0, .ref (ad 0)), (1, .int (iI (q))), (2, .int (iI (j)))]) Z.1 Z.2.1 dX1_peek_11 rfl hl (by decide) rfl (fun ls hl => ?_)
    have loop : ∀ (n : Nat) (i : Int) (H : Heap) (locs : List Loc) (ls : Array Slot), (X 0 0 - i < (n : Int)) → (0 ≤ i ∧ i ≤ X 0 0) → (∀ a, 0 ≤ a → a < i → rdy X q a → rank X q a ≠ j) → gH D A (mWG dA ad (gG X)) s.heap H locs → lv_has ls 4 [(0, .ref (ad 0)), (1, .int (iI (q))), (2, .int (iI (j))), (3, .int (iI (i)))] → W p l e ({ frames := 2, cells := 0, slots := 0, locals := 47 } : Room) s m ([.ref (ad 0), .int (iI q), .int (iI j)] : List Value).toArray below meth c H locs 0 0 (MQ below (gQi D dA A (mWG dA ad) (fun z X1 => X1 = X ∧ spPeek q j X z X1)) ([.ref (ad 0), .int (iI q), .int (iI j)] : List Value).toArray s 0 0 A) (F0 m 12 ls []) := by
      intro n
      induction n with
      | zero =>
        intro i H locs ls hm hi hk h hl
        exfalso; omega
      | succ n ih =>
        intro i H locs ls hm hi hk h hl
        refine lv_iload_n Z.1 Z.2.1 dX1_peek_12 rfl (lv_at hl 3 rfl) ?_
        refine lv_aload_n Z.1 Z.2.1 dX1_peek_13 rfl (lv_at hl 0 rfl) ?_
        refine m_getI Z h 0 (by decide) q229 rfl (v := X 0 (0)) rfl dX1_peek_14 ?_
        have o1 := hX 0 (0)
        refine i_icmp_ge (tgt := 47) Z (by omega) dX1_peek_17 (by decide) (fun c17 => ?_) (fun c17 => ?_)
        · refine i_bipush Z dX1_peek_47 (by decide) ?_
          exact g_ireturn Z hr hlocks h rfl (⟨rfl, EQ.rf X, Or.inr (Or.inl ⟨by omega, fun a ha => hk a ha.1 (by have := ha.2.1; omega) ha, rfl⟩)⟩) dX1_peek_49
        · refine lv_aload_n Z.1 Z.2.1 dX1_peek_20 rfl (lv_at hl 0 rfl) ?_
          refine lv_iload_n Z.1 Z.2.1 dX1_peek_21 rfl (lv_at hl 3 rfl) ?_
          refine lv_iload_n Z.1 Z.2.1 dX1_peek_22 rfl (lv_at hl 1 rfl) ?_
          refine g_calli (As := [.int (iI (i)), .int (iI (q))]) (rest := []) (q := (RX1, TX1, 12)) (ci := 1) Z h (metX1_isReady l D dA A ad X i q hX (by omega) (by omega)) (cwV 2 Z.2.2.2.2.1 (lw_V q286 q288 qs17 q23 q289) rfl rfl rfl (by decide +kernel) ⟨Nat.le_of_ble_eq_true rfl, Nat.le_of_ble_eq_true rfl⟩) rfl rfl rfl hl.1 rfl (Nat.le_of_ble_eq_true rfl) ⟨Nat.zero_le _, Nat.zero_le _⟩ dX1_peek_23 (fun z23 X23 H locs hp23 h => ?_)
          obtain ⟨e9, hz23⟩ := hp23
          rw [e9] at h
          refine b_ifeq (tgt := 41) Z hz23 dX1_peek_26 (by decide) (fun c26 => ?_) (fun c26 => ?_)
          · refine i_inc (lv' := [(3, .int (iI (i + 1))), (0, .ref (ad 0)), (1, .int (iI (q))), (2, .int (iI (j)))]) Z dX1_peek_41 hl (k := 3) rfl (by decide) rfl (fun ls hl => ?_)
            refine lv_goto (tgt := 12) Z.1 Z.2.1 dX1_peek_44 (by decide) ?_
            exact ih (i + 1) _ _ _ (by omega) (by omega) (fun a h0 h1 hr9 => by by_cases e9 : a = i; (subst e9; first | omega | (exfalso; have := hr9.2.2.1; have := hr9.2.2.2; omega)); exact hk a h0 (by omega) hr9) h (lv_sub hl [1, 2, 3, 0] rfl)
          · refine lv_aload_n Z.1 Z.2.1 dX1_peek_29 rfl (lv_at hl 0 rfl) ?_
            refine lv_iload_n Z.1 Z.2.1 dX1_peek_30 rfl (lv_at hl 1 rfl) ?_
            refine lv_iload_n Z.1 Z.2.1 dX1_peek_31 rfl (lv_at hl 3 rfl) ?_
            refine g_calli (As := [.int (iI (q)), .int (iI (i))]) (rest := []) (q := (RX1, TX1, 12)) (ci := 1) Z h (metX1_before l D dA A ad X q i hX b0 (by omega) (by omega)) (cwV 2 Z.2.2.2.2.1 (lw_V q290 q292 qs18 q23 q293) rfl rfl rfl (by decide +kernel) ⟨Nat.le_of_ble_eq_true rfl, Nat.le_of_ble_eq_true rfl⟩) rfl rfl rfl hl.1 rfl (Nat.le_of_ble_eq_true rfl) ⟨Nat.zero_le _, Nat.zero_le _⟩ dX1_peek_32 (fun z32 X32 H locs hp32 h => ?_)
            obtain ⟨e9, ez32⟩ := hp32
            rw [e9] at h
            have r32 := rank_rng (X := X) (q := q) (a := i) b0.1
            rw [← ez32] at r32
            refine lv_iload_n Z.1 Z.2.1 dX1_peek_35 rfl (lv_at hl 2 rfl) ?_
            refine i_icmp_ne (tgt := 41) Z (by omega) dX1_peek_36 (by decide) (fun c36 => ?_) (fun c36 => ?_)
            · refine i_inc (lv' := [(3, .int (iI (i + 1))), (0, .ref (ad 0)), (1, .int (iI (q))), (2, .int (iI (j)))]) Z dX1_peek_41 hl (k := 3) rfl (by decide) rfl (fun ls hl => ?_)
              refine lv_goto (tgt := 12) Z.1 Z.2.1 dX1_peek_44 (by decide) ?_
              exact ih (i + 1) _ _ _ (by omega) (by omega) (fun a h0 h1 hr9 => by by_cases e9 : a = i; (subst e9; first | omega | (exfalso; have := hr9.2.2.1; have := hr9.2.2.2; omega)); exact hk a h0 (by omega) hr9) h (lv_sub hl [1, 2, 3, 0] rfl)
            · refine lv_iload_n Z.1 Z.2.1 dX1_peek_39 rfl (lv_at hl 3 rfl) ?_
              exact g_ireturn Z hr hlocks h rfl (⟨rfl, EQ.rf X, Or.inr (Or.inr ⟨by omega, ⟨by omega, by omega, by omega, by omega⟩, by omega⟩)⟩) dX1_peek_40
    exact loop ((X 0 0 - 0 + 1).toNat) 0 _ _ _ (by omega) (by omega) (fun a h0 h1 => by omega) h (lv_sub hl [1, 2, 3, 0] rfl)
  · refine i_const Z dX1_peek_8 ?_
    exact g_ireturn Z hr hlocks h rfl (⟨rfl, EQ.rf X, Or.inl ⟨by omega, rfl⟩⟩) dX1_peek_9
end
section
set_option maxHeartbeats 4000000 in
set_option maxRecDepth 100000 in
theorem metX1_refusal (l : Launch) (D : va_G) (dA : ClassId) (A : Nat → Prop) (ad : Nat → Nat) (X : zS) (q a : Int) (hX : okX X) (b0 : 0 ≤ X 0 0 ∧ X 0 0 ≤ 40) (hq : -2147483648 ≤ q ∧ q ≤ 2147483647) (ha : -2147483648 ≤ a ∧ a ≤ 2147483647) : mMi l yX1_refusal cX1_refusal 4 (some .int) 1 21 D dA A ad [.ref (ad 0), .int (iI q), .int (iI a)] X (fun z X1 => X1 = X ∧ ((¬ (0 ≤ q ∧ q < 3) ∧ z = -2) ∨ ((0 ≤ q ∧ q < 3) ∧ ¬ held X q a ∧ z = -6) ∨ ((0 ≤ q ∧ q < 3) ∧ held X q a ∧ z = 0))) := by
  refine g_start_i (by decide) ?_
  intro p e s m below meth c Z hr hlocks h
  have Z : gC RX1 D dA p s m ([.ref (ad 0), .int (iI q), .int (iI a)] : List Value).toArray c cX1_refusal 4 := Z
  have hl := lv_entry ([.ref (ad 0), .int (iI q), .int (iI a)]) (n := 4) (Nat.le_of_ble_eq_true rfl)
  rw [lg_entry_eq]
  generalize (lg_sl ([.ref (ad 0), .int (iI q), .int (iI a)]) ++ List.replicate (4 - (lg_sl ([.ref (ad 0), .int (iI q), .int (iI a)])).length) Slot.unset).toArray = ls at hl ⊢
  have hl : lv_has ls 4 [(0, .ref (ad 0)), (1, .int (iI (q))), (2, .int (iI (a)))] := hl
  refine lv_aload_n Z.1 Z.2.1 dX1_refusal_0 rfl (lv_at hl 0 rfl) ?_
  refine lv_iload_n Z.1 Z.2.1 dX1_refusal_1 rfl (lv_at hl 1 rfl) ?_
  refine g_calli (As := [.int (iI (q))]) (rest := []) (q := (RX1, TX1, 12)) (ci := 1) Z h (metX1_three l D dA A ad X q (by omega)) (cwV 1 Z.2.2.2.2.1 (lw_V q270 q272 qs15 q23 q273) rfl rfl rfl (by decide +kernel) ⟨Nat.le_of_ble_eq_true rfl, Nat.le_of_ble_eq_true rfl⟩) rfl rfl rfl hl.1 rfl (Nat.le_of_ble_eq_true rfl) ⟨Nat.zero_le _, Nat.zero_le _⟩ dX1_refusal_2 (fun z2 X2 H locs hp2 h => ?_)
  obtain ⟨e9, hz2⟩ := hp2
  rw [e9] at h
  refine b_ifne (tgt := 11) Z hz2 dX1_refusal_5 (by decide) (fun c5 => ?_) (fun c5 => ?_)
  · refine lv_iload_n Z.1 Z.2.1 dX1_refusal_11 rfl (lv_at hl 2 rfl) ?_
    refine i_if_lt (tgt := 47) Z (by omega) dX1_refusal_12 (by decide) (fun c12 => ?_) (fun c12 => ?_)
    · refine i_const Z dX1_refusal_47 ?_
      refine lv_istore_n (lv' := [(3, .int (iI (0))), (0, .ref (ad 0)), (1, .int (iI (q))), (2, .int (iI (a)))]) Z.1 Z.2.1 dX1_refusal_48 rfl hl (by decide) rfl (fun ls hl => ?_)
      refine lv_iload_n Z.1 Z.2.1 dX1_refusal_49 rfl (lv_at hl 0 rfl) ?_
      refine i_if_eq (tgt := 57) Z (by omega) dX1_refusal_50 (by decide) (fun c50 => ?_) (fun c50 => ?_)
      · refine i_bipush Z dX1_refusal_57 (by decide) ?_
        exact g_ireturn Z hr hlocks h rfl (⟨rfl, Or.inr (Or.inl ⟨by omega, fun w => by have w := w; unfold held at w; omega, rfl⟩)⟩) dX1_refusal_59
      · exact absurd c50 (by decide)
    · refine lv_iload_n Z.1 Z.2.1 dX1_refusal_15 rfl (lv_at hl 2 rfl) ?_
      refine lv_aload_n Z.1 Z.2.1 dX1_refusal_16 rfl (lv_at hl 0 rfl) ?_
      refine m_getI Z h 0 (by decide) q229 rfl (v := X 0 (0)) rfl dX1_refusal_17 ?_
      have o1 := hX 0 (0)
      refine i_icmp_ge (tgt := 47) Z (by omega) dX1_refusal_20 (by decide) (fun c20 => ?_) (fun c20 => ?_)
      · refine i_const Z dX1_refusal_47 ?_
        refine lv_istore_n (lv' := [(3, .int (iI (0))), (0, .ref (ad 0)), (1, .int (iI (q))), (2, .int (iI (a)))]) Z.1 Z.2.1 dX1_refusal_48 rfl hl (by decide) rfl (fun ls hl => ?_)
        refine lv_iload_n Z.1 Z.2.1 dX1_refusal_49 rfl (lv_at hl 0 rfl) ?_
        refine i_if_eq (tgt := 57) Z (by omega) dX1_refusal_50 (by decide) (fun c50 => ?_) (fun c50 => ?_)
        · refine i_bipush Z dX1_refusal_57 (by decide) ?_
          exact g_ireturn Z hr hlocks h rfl (⟨rfl, Or.inr (Or.inl ⟨by omega, fun w => by have w := w; unfold held at w; omega, rfl⟩)⟩) dX1_refusal_59
        · exact absurd c50 (by decide)
      · refine lv_aload_n Z.1 Z.2.1 dX1_refusal_23 rfl (lv_at hl 0 rfl) ?_
        refine m_get Z h 4 (by decide) q233 rfl dX1_refusal_24 ?_
        refine lv_iload_n Z.1 Z.2.1 dX1_refusal_27 rfl (lv_at hl 2 rfl) ?_
        refine g_ald Z h (m_at_4 dA ad) (by decide) (v := X 5 (a)) (by omega) rfl dX1_refusal_28 ?_
        have o2 := hX 5 (a)
        refine i_const Z dX1_refusal_29 ?_
        refine i_icmp_ne (tgt := 47) Z (by omega) dX1_refusal_30 (by decide) (fun c30 => ?_) (fun c30 => ?_)
        · refine i_const Z dX1_refusal_47 ?_
          refine lv_istore_n (lv' := [(3, .int (iI (0))), (0, .ref (ad 0)), (1, .int (iI (q))), (2, .int (iI (a)))]) Z.1 Z.2.1 dX1_refusal_48 rfl hl (by decide) rfl (fun ls hl => ?_)
          refine lv_iload_n Z.1 Z.2.1 dX1_refusal_49 rfl (lv_at hl 0 rfl) ?_
          refine i_if_eq (tgt := 57) Z (by omega) dX1_refusal_50 (by decide) (fun c50 => ?_) (fun c50 => ?_)
          · refine i_bipush Z dX1_refusal_57 (by decide) ?_
            exact g_ireturn Z hr hlocks h rfl (⟨rfl, Or.inr (Or.inl ⟨by omega, fun w => by have w := w; unfold held at w; omega, rfl⟩)⟩) dX1_refusal_59
          · exact absurd c50 (by decide)
        · refine lv_aload_n Z.1 Z.2.1 dX1_refusal_33 rfl (lv_at hl 0 rfl) ?_
          refine m_get Z h 6 (by decide) q235 rfl dX1_refusal_34 ?_
          refine lv_iload_n Z.1 Z.2.1 dX1_refusal_37 rfl (lv_at hl 2 rfl) ?_
          refine g_ald Z h (m_at_6 dA ad) (by decide) (v := X 6 (a)) (by omega) rfl dX1_refusal_38 ?_
          have o3 := hX 6 (a)
          refine lv_iload_n Z.1 Z.2.1 dX1_refusal_39 rfl (lv_at hl 1 rfl) ?_
          refine i_icmp_ne (tgt := 47) Z (by omega) dX1_refusal_40 (by decide) (fun c40 => ?_) (fun c40 => ?_)
          · refine i_const Z dX1_refusal_47 ?_
            refine lv_istore_n (lv' := [(3, .int (iI (0))), (0, .ref (ad 0)), (1, .int (iI (q))), (2, .int (iI (a)))]) Z.1 Z.2.1 dX1_refusal_48 rfl hl (by decide) rfl (fun ls hl => ?_)
            refine lv_iload_n Z.1 Z.2.1 dX1_refusal_49 rfl (lv_at hl 0 rfl) ?_
            refine i_if_eq (tgt := 57) Z (by omega) dX1_refusal_50 (by decide) (fun c50 => ?_) (fun c50 => ?_)
            · refine i_bipush Z dX1_refusal_57 (by decide) ?_
              exact g_ireturn Z hr hlocks h rfl (⟨rfl, Or.inr (Or.inl ⟨by omega, fun w => by have w := w; unfold held at w; omega, rfl⟩)⟩) dX1_refusal_59
            · exact absurd c50 (by decide)
          · refine i_const Z dX1_refusal_43 ?_
            refine lv_goto (tgt := 48) Z.1 Z.2.1 dX1_refusal_44 (by decide) ?_
            refine lv_istore_n (lv' := [(3, .int (iI (1))), (0, .ref (ad 0)), (1, .int (iI (q))), (2, .int (iI (a)))]) Z.1 Z.2.1 dX1_refusal_48 rfl hl (by decide) rfl (fun ls hl => ?_)
            refine lv_iload_n Z.1 Z.2.1 dX1_refusal_49 rfl (lv_at hl 0 rfl) ?_
            refine i_if_eq (tgt := 57) Z (by omega) dX1_refusal_50 (by decide) (fun c50 => ?_) (fun c50 => ?_)
            · exact absurd c50 (by decide)
            · refine i_const Z dX1_refusal_53 ?_
              refine lv_goto (tgt := 59) Z.1 Z.2.1 dX1_refusal_54 (by decide) ?_
              exact g_ireturn Z hr hlocks h rfl (⟨rfl, Or.inr (Or.inr ⟨by omega, ⟨by omega, by omega, by omega, by omega⟩, rfl⟩)⟩) dX1_refusal_59
  · refine i_bipush Z dX1_refusal_8 (by decide) ?_
    exact g_ireturn Z hr hlocks h rfl (⟨rfl, Or.inl ⟨by omega, rfl⟩⟩) dX1_refusal_10
set_option maxHeartbeats 4000000 in
set_option maxRecDepth 100000 in
theorem metX1_acknowledge (l : Launch) (D : va_G) (dA : ClassId) (A : Nat → Prop) (ad : Nat → Nat) (X : zS) (q a : Int) (hX : okX X) (b0 : 0 ≤ X 0 0 ∧ X 0 0 ≤ 40) (hq : -2147483648 ≤ q ∧ q ≤ 2147483647) (ha : -2147483648 ≤ a ∧ a ≤ 2147483647) : mMi l yX1_acknowledge cX1_acknowledge 4 (some .int) 2 44 D dA A ad [.ref (ad 0), .int (iI q), .int (iI a)] X (fun z X1 => spAck q a X z X1) := by
  refine g_start_i (by decide) ?_
  intro p e s m below meth c Z hr hlocks h
  have Z : gC RX1 D dA p s m ([.ref (ad 0), .int (iI q), .int (iI a)] : List Value).toArray c cX1_acknowledge 4 := Z
  have hl := lv_entry ([.ref (ad 0), .int (iI q), .int (iI a)]) (n := 4) (Nat.le_of_ble_eq_true rfl)
  rw [lg_entry_eq]
  generalize (lg_sl ([.ref (ad 0), .int (iI q), .int (iI a)]) ++ List.replicate (4 - (lg_sl ([.ref (ad 0), .int (iI q), .int (iI a)])).length) Slot.unset).toArray = ls at hl ⊢
  have hl : lv_has ls 4 [(0, .ref (ad 0)), (1, .int (iI (q))), (2, .int (iI (a)))] := hl
  refine lv_aload_n Z.1 Z.2.1 dX1_acknowledge_0 rfl (lv_at hl 0 rfl) ?_
  refine lv_iload_n Z.1 Z.2.1 dX1_acknowledge_1 rfl (lv_at hl 1 rfl) ?_
  refine lv_iload_n Z.1 Z.2.1 dX1_acknowledge_2 rfl (lv_at hl 2 rfl) ?_
  refine g_calli (As := [.int (iI (q)), .int (iI (a))]) (rest := []) (q := (RX1, TX1, 12)) (ci := 1) Z h (metX1_refusal l D dA A ad X q a hX b0 (by omega) (by omega)) (cwV 2 Z.2.2.2.2.1 (lw_V q298 q300 qs19 q23 q301) rfl rfl rfl (by decide +kernel) ⟨Nat.le_of_ble_eq_true rfl, Nat.le_of_ble_eq_true rfl⟩) rfl rfl rfl hl.1 rfl (Nat.le_of_ble_eq_true rfl) ⟨Nat.zero_le _, Nat.zero_le _⟩ dX1_acknowledge_3 (fun z3 X3 H locs hp3 h => ?_)
  obtain ⟨e9, hf⟩ := hp3
  rw [e9] at h
  have r3 : -6 ≤ z3 ∧ z3 ≤ 0 := by omega
  refine lv_istore_n (lv' := [(3, .int (iI (z3))), (0, .ref (ad 0)), (1, .int (iI (q))), (2, .int (iI (a)))]) Z.1 Z.2.1 dX1_acknowledge_6 rfl hl (by decide) rfl (fun ls hl => ?_)
  refine lv_iload_n Z.1 Z.2.1 dX1_acknowledge_7 rfl (lv_at hl 0 rfl) ?_
  refine i_if_ge (tgt := 13) Z (by omega) dX1_acknowledge_8 (by decide) (fun c8 => ?_) (fun c8 => ?_)
  · have hd : (0 ≤ q ∧ q < 3) ∧ held X q a := by rcases hf with ⟨_, w⟩ | ⟨_, _, w⟩ | ⟨w, w2, _⟩; omega; omega; exact ⟨w, w2⟩
    have hd2 := hd.2
    unfold held at hd2
    refine lv_aload_n Z.1 Z.2.1 dX1_acknowledge_13 rfl (lv_at hl 1 rfl) ?_
    refine m_get Z h 4 (by decide) q233 rfl dX1_acknowledge_14 ?_
    refine lv_iload_n Z.1 Z.2.1 dX1_acknowledge_17 rfl (lv_at hl 3 rfl) ?_
    refine i_const Z dX1_acknowledge_18 ?_
    refine g_ast Z h (m_at_4 dA ad) (m_set_4 dA ad) (by decide) (i := a) (v := 2) (by omega) dX1_acknowledge_19 (fun H locs h => ?_)
    have hX := okX_set hX 5 (a) (2) (by omega)
    refine lv_aload_n Z.1 Z.2.1 dX1_acknowledge_20 rfl (lv_at hl 1 rfl) ?_
    refine lv_iload_n Z.1 Z.2.1 dX1_acknowledge_21 rfl (lv_at hl 2 rfl) ?_
    refine g_calli (As := [.int (iI (q))]) (rest := []) (q := (RX1, TX1, 12)) (ci := 1) Z h (metX1_out l D dA A ad ((sU X 5 (a) (2))) q hX (by simpa [sU] using b0) (by omega)) (cwV 1 Z.2.2.2.2.1 (lw_V q278 q280 qs16 q23 q281) rfl rfl rfl (by decide +kernel) ⟨Nat.le_of_ble_eq_true rfl, Nat.le_of_ble_eq_true rfl⟩) rfl rfl rfl hl.1 rfl (Nat.le_of_ble_eq_true rfl) ⟨Nat.zero_le _, Nat.zero_le _⟩ dX1_acknowledge_22 (fun z22 X22 H locs hp22 h => ?_)
    obtain ⟨e9, ez22⟩ := hp22
    rw [e9] at h
    have r22 := outN_rng (X := (sU X 5 (a) (2))) (c := q) (by first | omega | (simp [sU]; omega))
    rw [← ez22] at r22
    exact g_ireturn Z hr hlocks h rfl (Or.inr (Or.inr ⟨hd.1, hd.2, ez22, EQ.rf _⟩)) dX1_acknowledge_25
  · refine lv_iload_n Z.1 Z.2.1 dX1_acknowledge_11 rfl (lv_at hl 0 rfl) ?_
    exact g_ireturn Z hr hlocks h rfl (by rcases hf with ⟨w, w2⟩ | ⟨w, w1, w2⟩ | ⟨w, w1, w2⟩; exact Or.inl ⟨w, w2, EQ.rf X⟩; exact Or.inr (Or.inl ⟨w, w1, w2, EQ.rf X⟩); omega) dX1_acknowledge_12
set_option maxHeartbeats 4000000 in
set_option maxRecDepth 100000 in
theorem metX1_refuse (l : Launch) (D : va_G) (dA : ClassId) (A : Nat → Prop) (ad : Nat → Nat) (X : zS) (q a : Int) (hX : okX X) (b0 : 0 ≤ X 0 0 ∧ X 0 0 ≤ 40) (b1 : ∀ a, 0 ≤ X 1 a ∧ X 1 a ≤ 2) (hq : -2147483648 ≤ q ∧ q ≤ 2147483647) (ha : -2147483648 ≤ a ∧ a ≤ 2147483647) : mMi l yX1_refuse cX1_refuse 4 (some .int) 2 44 D dA A ad [.ref (ad 0), .int (iI q), .int (iI a)] X (fun z X1 => spRef q a X z X1) := by
  refine g_start_i (by decide) ?_
  intro p e s m below meth c Z hr hlocks h
  have Z : gC RX1 D dA p s m ([.ref (ad 0), .int (iI q), .int (iI a)] : List Value).toArray c cX1_refuse 4 := Z
  have hl := lv_entry ([.ref (ad 0), .int (iI q), .int (iI a)]) (n := 4) (Nat.le_of_ble_eq_true rfl)
  rw [lg_entry_eq]
  generalize (lg_sl ([.ref (ad 0), .int (iI q), .int (iI a)]) ++ List.replicate (4 - (lg_sl ([.ref (ad 0), .int (iI q), .int (iI a)])).length) Slot.unset).toArray = ls at hl ⊢
  have hl : lv_has ls 4 [(0, .ref (ad 0)), (1, .int (iI (q))), (2, .int (iI (a)))] := hl
  refine lv_aload_n Z.1 Z.2.1 dX1_refuse_0 rfl (lv_at hl 0 rfl) ?_
  refine lv_iload_n Z.1 Z.2.1 dX1_refuse_1 rfl (lv_at hl 1 rfl) ?_
  refine lv_iload_n Z.1 Z.2.1 dX1_refuse_2 rfl (lv_at hl 2 rfl) ?_
  refine g_calli (As := [.int (iI (q)), .int (iI (a))]) (rest := []) (q := (RX1, TX1, 12)) (ci := 1) Z h (metX1_refusal l D dA A ad X q a hX b0 (by omega) (by omega)) (cwV 2 Z.2.2.2.2.1 (lw_V q298 q300 qs19 q23 q301) rfl rfl rfl (by decide +kernel) ⟨Nat.le_of_ble_eq_true rfl, Nat.le_of_ble_eq_true rfl⟩) rfl rfl rfl hl.1 rfl (Nat.le_of_ble_eq_true rfl) ⟨Nat.zero_le _, Nat.zero_le _⟩ dX1_refuse_3 (fun z3 X3 H locs hp3 h => ?_)
  obtain ⟨e9, hf⟩ := hp3
  rw [e9] at h
  have r3 : -6 ≤ z3 ∧ z3 ≤ 0 := by omega
  refine lv_istore_n (lv' := [(3, .int (iI (z3))), (0, .ref (ad 0)), (1, .int (iI (q))), (2, .int (iI (a)))]) Z.1 Z.2.1 dX1_refuse_6 rfl hl (by decide) rfl (fun ls hl => ?_)
  refine lv_iload_n Z.1 Z.2.1 dX1_refuse_7 rfl (lv_at hl 0 rfl) ?_
  refine i_if_ge (tgt := 13) Z (by omega) dX1_refuse_8 (by decide) (fun c8 => ?_) (fun c8 => ?_)
  · have hd : (0 ≤ q ∧ q < 3) ∧ held X q a := by rcases hf with ⟨_, w⟩ | ⟨_, _, w⟩ | ⟨w, w2, _⟩; omega; omega; exact ⟨w, w2⟩
    have hd2 := hd.2
    unfold held at hd2
    refine lv_aload_n Z.1 Z.2.1 dX1_refuse_13 rfl (lv_at hl 1 rfl) ?_
    refine lv_iload_n Z.1 Z.2.1 dX1_refuse_14 rfl (lv_at hl 3 rfl) ?_
    refine g_callv (As := [.int (iI (a))]) (rest := []) (q := (RX1, TX1, 12)) (ci := 1) Z h (metX1_comeBack l D dA A ad X a hX (by omega) (by first | omega | exact b1 _)) (cwV 1 Z.2.2.2.2.1 (lw_V q306 q308 qs20 q23 q309) rfl rfl rfl (by decide +kernel) ⟨Nat.le_of_ble_eq_true rfl, Nat.le_of_ble_eq_true rfl⟩) rfl rfl rfl hl.1 rfl (Nat.le_of_ble_eq_true rfl) ⟨Nat.zero_le _, Nat.zero_le _⟩ dX1_refuse_15 (fun X15 H locs hp15 h => ?_)
    obtain ⟨hX, e9⟩ := hp15
    rw [e9] at h hX
    refine lv_aload_n Z.1 Z.2.1 dX1_refuse_18 rfl (lv_at hl 1 rfl) ?_
    refine m_get Z h 4 (by decide) q233 rfl dX1_refuse_19 ?_
    refine lv_iload_n Z.1 Z.2.1 dX1_refuse_22 rfl (lv_at hl 3 rfl) ?_
    refine g_ald Z h (m_at_4 dA ad) (by decide) (v := back X a) (by omega) (by simp [sU]) dX1_refuse_23 ?_
    have o1 := hX 5 (a)
    rw [show (sU X 5 (a) (back X a)) 5 (a) = back X a from by simp [sU]] at o1
    exact g_ireturn Z hr hlocks h rfl (Or.inr (Or.inr ⟨hd.1, hd.2, rfl, EQ.rf _⟩)) dX1_refuse_24
  · refine lv_iload_n Z.1 Z.2.1 dX1_refuse_11 rfl (lv_at hl 0 rfl) ?_
    exact g_ireturn Z hr hlocks h rfl (by rcases hf with ⟨w, w2⟩ | ⟨w, w1, w2⟩ | ⟨w, w1, w2⟩; exact Or.inl ⟨w, w2, EQ.rf X⟩; exact Or.inr (Or.inl ⟨w, w1, w2, EQ.rf X⟩); omega) dX1_refuse_12
set_option maxHeartbeats 4000000 in
set_option maxRecDepth 100000 in
theorem metX1_renew (l : Launch) (D : va_G) (dA : ClassId) (A : Nat → Prop) (ad : Nat → Nat) (X : zS) (q a : Int) (N : Int) (hB : BS N X) (hN : N ≤ 64) (hq : -2147483648 ≤ q ∧ q ≤ 2147483647) (ha : -2147483648 ≤ a ∧ a ≤ 2147483647) : mMi l yX1_renew cX1_renew 4 (some .int) 2 44 D dA A ad [.ref (ad 0), .int (iI q), .int (iI a)] X (fun z X1 => spRen q a X z X1) := by
  refine g_start_i (by decide) ?_
  intro p e s m below meth c Z hr hlocks h
  have Z : gC RX1 D dA p s m ([.ref (ad 0), .int (iI q), .int (iI a)] : List Value).toArray c cX1_renew 4 := Z
  have hl := lv_entry ([.ref (ad 0), .int (iI q), .int (iI a)]) (n := 4) (Nat.le_of_ble_eq_true rfl)
  rw [lg_entry_eq]
  generalize (lg_sl ([.ref (ad 0), .int (iI q), .int (iI a)]) ++ List.replicate (4 - (lg_sl ([.ref (ad 0), .int (iI q), .int (iI a)])).length) Slot.unset).toArray = ls at hl ⊢
  have hl : lv_has ls 4 [(0, .ref (ad 0)), (1, .int (iI (q))), (2, .int (iI (a)))] := hl
  obtain ⟨hX, b0, b1, b3, b4, b5, b6, b7, b8, b12, b13, b19⟩ := hB
  refine lv_aload_n Z.1 Z.2.1 dX1_renew_0 rfl (lv_at hl 0 rfl) ?_
  refine lv_iload_n Z.1 Z.2.1 dX1_renew_1 rfl (lv_at hl 1 rfl) ?_
  refine lv_iload_n Z.1 Z.2.1 dX1_renew_2 rfl (lv_at hl 2 rfl) ?_
  refine g_calli (As := [.int (iI (q)), .int (iI (a))]) (rest := []) (q := (RX1, TX1, 12)) (ci := 1) Z h (metX1_refusal l D dA A ad X q a hX b0 (by omega) (by omega)) (cwV 2 Z.2.2.2.2.1 (lw_V q298 q300 qs19 q23 q301) rfl rfl rfl (by decide +kernel) ⟨Nat.le_of_ble_eq_true rfl, Nat.le_of_ble_eq_true rfl⟩) rfl rfl rfl hl.1 rfl (Nat.le_of_ble_eq_true rfl) ⟨Nat.zero_le _, Nat.zero_le _⟩ dX1_renew_3 (fun z3 X3 H locs hp3 h => ?_)
  obtain ⟨e9, hf⟩ := hp3
  rw [e9] at h
  have r3 : -6 ≤ z3 ∧ z3 ≤ 0 := by omega
  refine lv_istore_n (lv' := [(3, .int (iI (z3))), (0, .ref (ad 0)), (1, .int (iI (q))), (2, .int (iI (a)))]) Z.1 Z.2.1 dX1_renew_6 rfl hl (by decide) rfl (fun ls hl => ?_)
  refine lv_iload_n Z.1 Z.2.1 dX1_renew_7 rfl (lv_at hl 0 rfl) ?_
  refine i_if_ge (tgt := 13) Z (by omega) dX1_renew_8 (by decide) (fun c8 => ?_) (fun c8 => ?_)
  · have hd : (0 ≤ q ∧ q < 3) ∧ held X q a := by rcases hf with ⟨_, w⟩ | ⟨_, _, w⟩ | ⟨w, w2, _⟩; omega; omega; exact ⟨w, w2⟩
    have hd2 := hd.2
    unfold held at hd2
    have c1 := b1 a
    have c12 := b12 (X 1 a)
    refine lv_aload_n Z.1 Z.2.1 dX1_renew_13 rfl (lv_at hl 1 rfl) ?_
    refine m_get Z h 7 (by decide) q236 rfl dX1_renew_14 ?_
    refine lv_iload_n Z.1 Z.2.1 dX1_renew_17 rfl (lv_at hl 3 rfl) ?_
    refine lv_aload_n Z.1 Z.2.1 dX1_renew_18 rfl (lv_at hl 1 rfl) ?_
    refine m_getI Z h 11 (by decide) q240 rfl (v := X 19 (0)) rfl dX1_renew_19 ?_
    have o1 := hX 19 (0)
    refine lv_aload_n Z.1 Z.2.1 dX1_renew_22 rfl (lv_at hl 1 rfl) ?_
    refine m_get Z h 9 (by decide) q238 rfl dX1_renew_23 ?_
    refine lv_aload_n Z.1 Z.2.1 dX1_renew_26 rfl (lv_at hl 1 rfl) ?_
    refine m_get Z h 1 (by decide) q230 rfl dX1_renew_27 ?_
    refine lv_iload_n Z.1 Z.2.1 dX1_renew_30 rfl (lv_at hl 3 rfl) ?_
    refine g_ald Z h (m_at_1 dA ad) (by decide) (v := X 1 (a)) (by omega) rfl dX1_renew_31 ?_
    have o2 := hX 1 (a)
    refine g_ald Z h (m_at_9 dA ad) (by decide) (v := X 12 (X 1 (a))) (by omega) rfl dX1_renew_32 ?_
    have o3 := hX 12 (X 1 (a))
    refine i_add Z dX1_renew_33 ?_
    refine g_ast Z h (m_at_7 dA ad) (m_set_7 dA ad) (by decide) (i := a) (v := (X 19 (0)) + (X 12 (X 1 (a)))) (by omega) dX1_renew_34 (fun H locs h => ?_)
    have hX := okX_set hX 7 (a) ((X 19 (0)) + (X 12 (X 1 (a)))) (by omega)
    refine lv_aload_n Z.1 Z.2.1 dX1_renew_35 rfl (lv_at hl 1 rfl) ?_
    refine m_get Z h 7 (by decide) q236 rfl dX1_renew_36 ?_
    refine lv_iload_n Z.1 Z.2.1 dX1_renew_39 rfl (lv_at hl 3 rfl) ?_
    refine g_ald Z h (m_at_7 dA ad) (by decide) (v := (X 19 (0)) + (X 12 (X 1 (a)))) (by omega) (by simp [sU]) dX1_renew_40 ?_
    have o4 := hX 7 (a)
    rw [show (sU X 7 (a) ((X 19 (0)) + (X 12 (X 1 (a))))) 7 (a) = (X 19 (0)) + (X 12 (X 1 (a))) from by simp [sU]] at o4
    exact g_ireturn Z hr hlocks h rfl (Or.inr (Or.inr ⟨hd.1, hd.2, rfl, EQ.rf _⟩)) dX1_renew_41
  · refine lv_iload_n Z.1 Z.2.1 dX1_renew_11 rfl (lv_at hl 0 rfl) ?_
    exact g_ireturn Z hr hlocks h rfl (by rcases hf with ⟨w, w2⟩ | ⟨w, w1, w2⟩ | ⟨w, w1, w2⟩; exact Or.inl ⟨w, w2, EQ.rf X⟩; exact Or.inr (Or.inl ⟨w, w1, w2, EQ.rf X⟩); omega) dX1_renew_12
set_option maxHeartbeats 4000000 in
set_option maxRecDepth 100000 in
theorem metX1_publish (l : Launch) (D : va_G) (dA : ClassId) (A : Nat → Prop) (ad : Nat → Nat) (X : zS) (q b pr lf : Int) (N : Int) (hB : BS N X) (hN : N ≤ 64) (hq : -2147483648 ≤ q ∧ q ≤ 2147483647) (hb : -2147483648 ≤ b ∧ b ≤ 2147483647) (hpr : -2147483648 ≤ pr ∧ pr ≤ 2147483647) (hlf : -2147483648 ≤ lf ∧ lf ≤ 2147483647) : mMi l yX1_publish cX1_publish 5 (some .int) 1 21 D dA A ad [.ref (ad 0), .int (iI q), .int (iI b), .int (iI pr), .int (iI lf)] X (fun z X1 => spPub q b pr lf X z X1) := by
  refine g_start_i (by decide) ?_
  intro p e s m below meth c Z hr hlocks h
  have Z : gC RX1 D dA p s m ([.ref (ad 0), .int (iI q), .int (iI b), .int (iI pr), .int (iI lf)] : List Value).toArray c cX1_publish 5 := Z
  have hl := lv_entry ([.ref (ad 0), .int (iI q), .int (iI b), .int (iI pr), .int (iI lf)]) (n := 5) (Nat.le_of_ble_eq_true rfl)
  rw [lg_entry_eq]
  generalize (lg_sl ([.ref (ad 0), .int (iI q), .int (iI b), .int (iI pr), .int (iI lf)]) ++ List.replicate (5 - (lg_sl ([.ref (ad 0), .int (iI q), .int (iI b), .int (iI pr), .int (iI lf)])).length) Slot.unset).toArray = ls at hl ⊢
  have hl : lv_has ls 5 [(0, .ref (ad 0)), (1, .int (iI (q))), (2, .int (iI (b))), (3, .int (iI (pr))), (4, .int (iI (lf)))] := hl
  obtain ⟨hX, b0, b1, b3, b4, b5, b6, b7, b8, b12, b13, b19⟩ := hB
  refine lv_aload_n Z.1 Z.2.1 dX1_publish_0 rfl (lv_at hl 0 rfl) ?_
  refine lv_iload_n Z.1 Z.2.1 dX1_publish_1 rfl (lv_at hl 1 rfl) ?_
  refine g_calli (As := [.int (iI (q))]) (rest := []) (q := (RX1, TX1, 12)) (ci := 1) Z h (metX1_three l D dA A ad X q (by omega)) (cwV 1 Z.2.2.2.2.1 (lw_V q270 q272 qs15 q23 q273) rfl rfl rfl (by decide +kernel) ⟨Nat.le_of_ble_eq_true rfl, Nat.le_of_ble_eq_true rfl⟩) rfl rfl rfl hl.1 rfl (Nat.le_of_ble_eq_true rfl) ⟨Nat.zero_le _, Nat.zero_le _⟩ dX1_publish_2 (fun z2 X2 H locs hp2 h => ?_)
  obtain ⟨e9, hz2⟩ := hp2
  rw [e9] at h
  refine b_ifne (tgt := 10) Z hz2 dX1_publish_5 (by decide) (fun c5 => ?_) (fun c5 => ?_)
  · refine lv_iload_n Z.1 Z.2.1 dX1_publish_10 rfl (lv_at hl 3 rfl) ?_
    refine i_if_lt (tgt := 31) Z (by omega) dX1_publish_11 (by decide) (fun c11 => ?_) (fun c11 => ?_)
    · refine i_bipush Z dX1_publish_31 (by decide) ?_
      exact g_ireturn Z hr hlocks h rfl (Or.inr (Or.inl ⟨by omega, by omega, rfl, EQ.rf X⟩)) dX1_publish_33
    · refine lv_iload_n Z.1 Z.2.1 dX1_publish_14 rfl (lv_at hl 3 rfl) ?_
      refine i_const Z dX1_publish_15 ?_
      refine i_icmp_gt (tgt := 31) Z (by omega) dX1_publish_16 (by decide) (fun c16 => ?_) (fun c16 => ?_)
      · refine i_bipush Z dX1_publish_31 (by decide) ?_
        exact g_ireturn Z hr hlocks h rfl (Or.inr (Or.inl ⟨by omega, by omega, rfl, EQ.rf X⟩)) dX1_publish_33
      · refine lv_iload Z.1 Z.2.1 dX1_publish_19 (lv_at hl 4 rfl) ?_
        refine i_if_lt (tgt := 31) Z (by omega) dX1_publish_21 (by decide) (fun c21 => ?_) (fun c21 => ?_)
        · refine i_bipush Z dX1_publish_31 (by decide) ?_
          exact g_ireturn Z hr hlocks h rfl (Or.inr (Or.inl ⟨by omega, by omega, rfl, EQ.rf X⟩)) dX1_publish_33
        · refine lv_iload Z.1 Z.2.1 dX1_publish_24 (lv_at hl 4 rfl) ?_
          refine i_bipush Z dX1_publish_26 (by decide) ?_
          refine i_icmp_le (tgt := 34) Z (by omega) dX1_publish_28 (by decide) (fun c28 => ?_) (fun c28 => ?_)
          · refine lv_aload_n Z.1 Z.2.1 dX1_publish_34 rfl (lv_at hl 0 rfl) ?_
            refine m_getI Z h 0 (by decide) q229 rfl (v := X 0 (0)) rfl dX1_publish_35 ?_
            have o1 := hX 0 (0)
            refine i_bipush Z dX1_publish_38 (by decide) ?_
            refine i_icmp_ne (tgt := 46) Z (by omega) dX1_publish_40 (by decide) (fun c40 => ?_) (fun c40 => ?_)
            · refine lv_aload_n Z.1 Z.2.1 dX1_publish_46 rfl (lv_at hl 0 rfl) ?_
              refine m_get Z h 1 (by decide) q230 rfl dX1_publish_47 ?_
              refine lv_aload_n Z.1 Z.2.1 dX1_publish_50 rfl (lv_at hl 0 rfl) ?_
              refine m_getI Z h 0 (by decide) q229 rfl (v := X 0 (0)) rfl dX1_publish_51 ?_
              have o2 := hX 0 (0)
              refine lv_iload_n Z.1 Z.2.1 dX1_publish_54 rfl (lv_at hl 1 rfl) ?_
              refine g_ast Z h (m_at_1 dA ad) (m_set_1 dA ad) (by decide) (i := X 0 (0)) (v := q) (by omega) dX1_publish_55 (fun H locs h => ?_)
              have hX := okX_set hX 1 (X 0 (0)) (q) (by omega)
              refine lv_aload_n Z.1 Z.2.1 dX1_publish_56 rfl (lv_at hl 0 rfl) ?_
              refine m_get Z h 2 (by decide) q231 rfl dX1_publish_57 ?_
              refine lv_aload_n Z.1 Z.2.1 dX1_publish_60 rfl (lv_at hl 0 rfl) ?_
              refine m_getI Z h 0 (by decide) q229 rfl (v := X 0 (0)) (by simp [sU]) dX1_publish_61 ?_
              have o3 := hX 0 (0)
              rw [show (sU X 1 (X 0 (0)) (q)) 0 (0) = X 0 (0) from by simp [sU]] at o3
              refine lv_iload_n Z.1 Z.2.1 dX1_publish_64 rfl (lv_at hl 2 rfl) ?_
              refine g_ast Z h (m_at_2 dA ad) (m_set_2 dA ad) (by decide) (i := X 0 (0)) (v := b) (by omega) dX1_publish_65 (fun H locs h => ?_)
              have hX := okX_set hX 2 (X 0 (0)) (b) (by omega)
              refine lv_aload_n Z.1 Z.2.1 dX1_publish_66 rfl (lv_at hl 0 rfl) ?_
              refine m_get Z h 3 (by decide) q232 rfl dX1_publish_67 ?_
              refine lv_aload_n Z.1 Z.2.1 dX1_publish_70 rfl (lv_at hl 0 rfl) ?_
              refine m_getI Z h 0 (by decide) q229 rfl (v := X 0 (0)) (by simp [sU]) dX1_publish_71 ?_
              have o4 := hX 0 (0)
              rw [show (sU (sU X 1 (X 0 (0)) (q)) 2 (X 0 (0)) (b)) 0 (0) = X 0 (0) from by simp [sU]] at o4
              refine lv_iload_n Z.1 Z.2.1 dX1_publish_74 rfl (lv_at hl 3 rfl) ?_
              refine g_ast Z h (m_at_3 dA ad) (m_set_3 dA ad) (by decide) (i := X 0 (0)) (v := pr) (by omega) dX1_publish_75 (fun H locs h => ?_)
              have hX := okX_set hX 3 (X 0 (0)) (pr) (by omega)
              refine lv_aload_n Z.1 Z.2.1 dX1_publish_76 rfl (lv_at hl 0 rfl) ?_
              refine m_get Z h 4 (by decide) q233 rfl dX1_publish_77 ?_
              refine lv_aload_n Z.1 Z.2.1 dX1_publish_80 rfl (lv_at hl 0 rfl) ?_
              refine m_getI Z h 0 (by decide) q229 rfl (v := X 0 (0)) (by simp [sU]) dX1_publish_81 ?_
              have o5 := hX 0 (0)
              rw [show (sU (sU (sU X 1 (X 0 (0)) (q)) 2 (X 0 (0)) (b)) 3 (X 0 (0)) (pr)) 0 (0) = X 0 (0) from by simp [sU]] at o5
              refine i_const Z dX1_publish_84 ?_
              refine g_ast Z h (m_at_4 dA ad) (m_set_4 dA ad) (by decide) (i := X 0 (0)) (v := 0) (by omega) dX1_publish_85 (fun H locs h => ?_)
              have hX := okX_set hX 5 (X 0 (0)) (0) (by omega)
              refine lv_aload_n Z.1 Z.2.1 dX1_publish_86 rfl (lv_at hl 0 rfl) ?_
              refine m_get Z h 5 (by decide) q234 rfl dX1_publish_87 ?_
              refine lv_aload_n Z.1 Z.2.1 dX1_publish_90 rfl (lv_at hl 0 rfl) ?_
              refine m_getI Z h 0 (by decide) q229 rfl (v := X 0 (0)) (by simp [sU]) dX1_publish_91 ?_
              have o6 := hX 0 (0)
              rw [show (sU (sU (sU (sU X 1 (X 0 (0)) (q)) 2 (X 0 (0)) (b)) 3 (X 0 (0)) (pr)) 5 (X 0 (0)) (0)) 0 (0) = X 0 (0) from by simp [sU]] at o6
              refine i_const Z dX1_publish_94 ?_
              refine g_ast Z h (m_at_5 dA ad) (m_set_5 dA ad) (by decide) (i := X 0 (0)) (v := 0) (by omega) dX1_publish_95 (fun H locs h => ?_)
              have hX := okX_set hX 4 (X 0 (0)) (0) (by omega)
              refine lv_aload_n Z.1 Z.2.1 dX1_publish_96 rfl (lv_at hl 0 rfl) ?_
              refine m_get Z h 8 (by decide) q237 rfl dX1_publish_97 ?_
              refine lv_aload_n Z.1 Z.2.1 dX1_publish_100 rfl (lv_at hl 0 rfl) ?_
              refine m_getI Z h 0 (by decide) q229 rfl (v := X 0 (0)) (by simp [sU]) dX1_publish_101 ?_
              have o7 := hX 0 (0)
              rw [show (sU (sU (sU (sU (sU X 1 (X 0 (0)) (q)) 2 (X 0 (0)) (b)) 3 (X 0 (0)) (pr)) 5 (X 0 (0)) (0)) 4 (X 0 (0)) (0)) 0 (0) = X 0 (0) from by simp [sU]] at o7
              refine lv_iload Z.1 Z.2.1 dX1_publish_104 (lv_at hl 4 rfl) ?_
              refine i_if_le (tgt := 119) Z (by omega) dX1_publish_106 (by decide) (fun c106 => ?_) (fun c106 => ?_)
              · refine i_const Z dX1_publish_119 ?_
                refine g_ast Z h (m_at_8 dA ad) (m_set_8 dA ad) (by decide) (i := X 0 (0)) (v := -1) (by omega) dX1_publish_120 (fun H locs h => ?_)
                have hX := okX_set hX 8 (X 0 (0)) (-1) (by omega)
                refine lv_aload_n Z.1 Z.2.1 dX1_publish_121 rfl (lv_at hl 0 rfl) ?_
                refine i_dup Z dX1_publish_122 rfl ?_
                refine m_getI Z h 0 (by decide) q229 rfl (v := X 0 (0)) (by simp [sU]) dX1_publish_123 ?_
                have o8 := hX 0 (0)
                rw [show (sU (sU (sU (sU (sU (sU X 1 (X 0 (0)) (q)) 2 (X 0 (0)) (b)) 3 (X 0 (0)) (pr)) 5 (X 0 (0)) (0)) 4 (X 0 (0)) (0)) 8 (X 0 (0)) (-1)) 0 (0) = X 0 (0) from by simp [sU]] at o8
                refine i_const Z dX1_publish_126 ?_
                refine i_add Z dX1_publish_127 ?_
                refine m_put (v := (X 0 (0)) + 1) Z h 0 (by decide) q229 (m_put_0 dA ad) rfl (by decide +kernel) dX1_publish_128 (fun H locs h => ?_)
                have hX := okX_set hX 0 0 ((X 0 (0)) + 1) (by omega)
                refine lv_aload_n Z.1 Z.2.1 dX1_publish_131 rfl (lv_at hl 0 rfl) ?_
                refine m_getI Z h 0 (by decide) q229 rfl (v := (X 0 (0)) + 1) (by simp [sU]) dX1_publish_132 ?_
                have o9 := hX 0 (0)
                rw [show (sU (sU (sU (sU (sU (sU (sU X 1 (X 0 (0)) (q)) 2 (X 0 (0)) (b)) 3 (X 0 (0)) (pr)) 5 (X 0 (0)) (0)) 4 (X 0 (0)) (0)) 8 (X 0 (0)) (-1)) 0 (0) ((X 0 (0)) + 1)) 0 (0) = (X 0 (0)) + 1 from by simp [sU]] at o9
                refine i_const Z dX1_publish_135 ?_
                refine i_sub Z dX1_publish_136 ?_
                exact g_ireturn Z hr hlocks h rfl (Or.inr (Or.inr (Or.inr ⟨by omega, by omega, by omega, by omega, by unfold pubS; rw [if_neg (by omega)]; exact EQ.rf _⟩))) dX1_publish_137
              · refine lv_aload_n Z.1 Z.2.1 dX1_publish_109 rfl (lv_at hl 0 rfl) ?_
                refine m_getI Z h 11 (by decide) q240 rfl (v := X 19 (0)) (by simp [sU]) dX1_publish_110 ?_
                have o10 := hX 19 (0)
                rw [show (sU (sU (sU (sU (sU X 1 (X 0 (0)) (q)) 2 (X 0 (0)) (b)) 3 (X 0 (0)) (pr)) 5 (X 0 (0)) (0)) 4 (X 0 (0)) (0)) 19 (0) = X 19 (0) from by simp [sU]] at o10
                refine lv_iload Z.1 Z.2.1 dX1_publish_113 (lv_at hl 4 rfl) ?_
                refine i_add Z dX1_publish_115 ?_
                refine lv_goto (tgt := 120) Z.1 Z.2.1 dX1_publish_116 (by decide) ?_
                refine g_ast Z h (m_at_8 dA ad) (m_set_8 dA ad) (by decide) (i := X 0 (0)) (v := (X 19 (0)) + lf) (by omega) dX1_publish_120 (fun H locs h => ?_)
                have hX := okX_set hX 8 (X 0 (0)) ((X 19 (0)) + lf) (by omega)
                refine lv_aload_n Z.1 Z.2.1 dX1_publish_121 rfl (lv_at hl 0 rfl) ?_
                refine i_dup Z dX1_publish_122 rfl ?_
                refine m_getI Z h 0 (by decide) q229 rfl (v := X 0 (0)) (by simp [sU]) dX1_publish_123 ?_
                have o11 := hX 0 (0)
                rw [show (sU (sU (sU (sU (sU (sU X 1 (X 0 (0)) (q)) 2 (X 0 (0)) (b)) 3 (X 0 (0)) (pr)) 5 (X 0 (0)) (0)) 4 (X 0 (0)) (0)) 8 (X 0 (0)) ((X 19 (0)) + lf)) 0 (0) = X 0 (0) from by simp [sU]] at o11
                refine i_const Z dX1_publish_126 ?_
                refine i_add Z dX1_publish_127 ?_
                refine m_put (v := (X 0 (0)) + 1) Z h 0 (by decide) q229 (m_put_0 dA ad) rfl (by decide +kernel) dX1_publish_128 (fun H locs h => ?_)
                have hX := okX_set hX 0 0 ((X 0 (0)) + 1) (by omega)
                refine lv_aload_n Z.1 Z.2.1 dX1_publish_131 rfl (lv_at hl 0 rfl) ?_
                refine m_getI Z h 0 (by decide) q229 rfl (v := (X 0 (0)) + 1) (by simp [sU]) dX1_publish_132 ?_
                have o12 := hX 0 (0)
                rw [show (sU (sU (sU (sU (sU (sU (sU X 1 (X 0 (0)) (q)) 2 (X 0 (0)) (b)) 3 (X 0 (0)) (pr)) 5 (X 0 (0)) (0)) 4 (X 0 (0)) (0)) 8 (X 0 (0)) ((X 19 (0)) + lf)) 0 (0) ((X 0 (0)) + 1)) 0 (0) = (X 0 (0)) + 1 from by simp [sU]] at o12
                refine i_const Z dX1_publish_135 ?_
                refine i_sub Z dX1_publish_136 ?_
                exact g_ireturn Z hr hlocks h rfl (Or.inr (Or.inr (Or.inr ⟨by omega, by omega, by omega, by omega, by unfold pubS; rw [if_pos (by omega)]; exact EQ.rf _⟩))) dX1_publish_137
            · refine i_bipush Z dX1_publish_43 (by decide) ?_
              exact g_ireturn Z hr hlocks h rfl (Or.inr (Or.inr (Or.inl ⟨by omega, by omega, by omega, rfl, EQ.rf X⟩))) dX1_publish_45
          · refine i_bipush Z dX1_publish_31 (by decide) ?_
            exact g_ireturn Z hr hlocks h rfl (Or.inr (Or.inl ⟨by omega, by omega, rfl, EQ.rf X⟩)) dX1_publish_33
  · refine i_const Z dX1_publish_8 ?_
    exact g_ireturn Z hr hlocks h rfl (Or.inl ⟨by omega, rfl, EQ.rf X⟩) dX1_publish_9
set_option maxHeartbeats 4000000 in
set_option maxRecDepth 100000 in
theorem metX1_tune (l : Launch) (D : va_G) (dA : ClassId) (A : Nat → Prop) (ad : Nat → Nat) (X : zS) (q pa li : Int) (hX : okX X) (hq : -2147483648 ≤ q ∧ q ≤ 2147483647) (hpa : -2147483648 ≤ pa ∧ pa ≤ 2147483647) (hli : -2147483648 ≤ li ∧ li ≤ 2147483647) : mMi l yX1_tune cX1_tune 4 (some .int) 1 21 D dA A ad [.ref (ad 0), .int (iI q), .int (iI pa), .int (iI li)] X (fun z X1 => spTune q pa li X z X1) := by
  refine g_start_i (by decide) ?_
  intro p e s m below meth c Z hr hlocks h
  have Z : gC RX1 D dA p s m ([.ref (ad 0), .int (iI q), .int (iI pa), .int (iI li)] : List Value).toArray c cX1_tune 4 := Z
  have hl := lv_entry ([.ref (ad 0), .int (iI q), .int (iI pa), .int (iI li)]) (n := 4) (Nat.le_of_ble_eq_true rfl)
  rw [lg_entry_eq]
  generalize (lg_sl ([.ref (ad 0), .int (iI q), .int (iI pa), .int (iI li)]) ++ List.replicate (4 - (lg_sl ([.ref (ad 0), .int (iI q), .int (iI pa), .int (iI li)])).length) Slot.unset).toArray = ls at hl ⊢
  have hl : lv_has ls 4 [(0, .ref (ad 0)), (1, .int (iI (q))), (2, .int (iI (pa))), (3, .int (iI (li)))] := hl
  refine lv_aload_n Z.1 Z.2.1 dX1_tune_0 rfl (lv_at hl 0 rfl) ?_
  refine lv_iload_n Z.1 Z.2.1 dX1_tune_1 rfl (lv_at hl 1 rfl) ?_
  refine g_calli (As := [.int (iI (q))]) (rest := []) (q := (RX1, TX1, 12)) (ci := 1) Z h (metX1_three l D dA A ad X q (by omega)) (cwV 1 Z.2.2.2.2.1 (lw_V q270 q272 qs15 q23 q273) rfl rfl rfl (by decide +kernel) ⟨Nat.le_of_ble_eq_true rfl, Nat.le_of_ble_eq_true rfl⟩) rfl rfl rfl hl.1 rfl (Nat.le_of_ble_eq_true rfl) ⟨Nat.zero_le _, Nat.zero_le _⟩ dX1_tune_2 (fun z2 X2 H locs hp2 h => ?_)
  obtain ⟨e9, hz2⟩ := hp2
  rw [e9] at h
  refine b_ifne (tgt := 10) Z hz2 dX1_tune_5 (by decide) (fun c5 => ?_) (fun c5 => ?_)
  · refine lv_iload_n Z.1 Z.2.1 dX1_tune_10 rfl (lv_at hl 2 rfl) ?_
    refine i_const Z dX1_tune_11 ?_
    refine i_icmp_lt (tgt := 31) Z (by omega) dX1_tune_12 (by decide) (fun c12 => ?_) (fun c12 => ?_)
    · refine i_bipush Z dX1_tune_31 (by decide) ?_
      exact g_ireturn Z hr hlocks h rfl (Or.inr (Or.inl ⟨by omega, by omega, rfl, EQ.rf X⟩)) dX1_tune_33
    · refine lv_iload_n Z.1 Z.2.1 dX1_tune_15 rfl (lv_at hl 2 rfl) ?_
      refine i_bipush Z dX1_tune_16 (by decide) ?_
      refine i_icmp_gt (tgt := 31) Z (by omega) dX1_tune_18 (by decide) (fun c18 => ?_) (fun c18 => ?_)
      · refine i_bipush Z dX1_tune_31 (by decide) ?_
        exact g_ireturn Z hr hlocks h rfl (Or.inr (Or.inl ⟨by omega, by omega, rfl, EQ.rf X⟩)) dX1_tune_33
      · refine lv_iload_n Z.1 Z.2.1 dX1_tune_21 rfl (lv_at hl 3 rfl) ?_
        refine i_const Z dX1_tune_22 ?_
        refine i_icmp_lt (tgt := 31) Z (by omega) dX1_tune_23 (by decide) (fun c23 => ?_) (fun c23 => ?_)
        · refine i_bipush Z dX1_tune_31 (by decide) ?_
          exact g_ireturn Z hr hlocks h rfl (Or.inr (Or.inl ⟨by omega, by omega, rfl, EQ.rf X⟩)) dX1_tune_33
        · refine lv_iload_n Z.1 Z.2.1 dX1_tune_26 rfl (lv_at hl 3 rfl) ?_
          refine i_const Z dX1_tune_27 ?_
          refine i_icmp_le (tgt := 34) Z (by omega) dX1_tune_28 (by decide) (fun c28 => ?_) (fun c28 => ?_)
          · refine lv_aload_n Z.1 Z.2.1 dX1_tune_34 rfl (lv_at hl 0 rfl) ?_
            refine m_get Z h 9 (by decide) q238 rfl dX1_tune_35 ?_
            refine lv_iload_n Z.1 Z.2.1 dX1_tune_38 rfl (lv_at hl 1 rfl) ?_
            refine lv_iload_n Z.1 Z.2.1 dX1_tune_39 rfl (lv_at hl 2 rfl) ?_
            refine g_ast Z h (m_at_9 dA ad) (m_set_9 dA ad) (by decide) (i := q) (v := pa) (by omega) dX1_tune_40 (fun H locs h => ?_)
            have hX := okX_set hX 12 (q) (pa) (by omega)
            refine lv_aload_n Z.1 Z.2.1 dX1_tune_41 rfl (lv_at hl 0 rfl) ?_
            refine m_get Z h 10 (by decide) q239 rfl dX1_tune_42 ?_
            refine lv_iload_n Z.1 Z.2.1 dX1_tune_45 rfl (lv_at hl 1 rfl) ?_
            refine lv_iload_n Z.1 Z.2.1 dX1_tune_46 rfl (lv_at hl 3 rfl) ?_
            refine g_ast Z h (m_at_10 dA ad) (m_set_10 dA ad) (by decide) (i := q) (v := li) (by omega) dX1_tune_47 (fun H locs h => ?_)
            have hX := okX_set hX 13 (q) (li) (by omega)
            refine i_const Z dX1_tune_48 ?_
            exact g_ireturn Z hr hlocks h rfl (Or.inr (Or.inr ⟨by omega, by omega, rfl, EQ.rf _⟩)) dX1_tune_49
          · refine i_bipush Z dX1_tune_31 (by decide) ?_
            exact g_ireturn Z hr hlocks h rfl (Or.inr (Or.inl ⟨by omega, by omega, rfl, EQ.rf X⟩)) dX1_tune_33
  · refine i_const Z dX1_tune_8 ?_
    exact g_ireturn Z hr hlocks h rfl (Or.inl ⟨by omega, rfl, EQ.rf X⟩) dX1_tune_9
set_option maxHeartbeats 4000000 in
set_option maxRecDepth 100000 in
theorem metX1_clear (l : Launch) (D : va_G) (dA : ClassId) (A : Nat → Prop) (ad : Nat → Nat) (X : zS)  (hX : okX X) : mMv l yX1_clear cX1_clear 1 0 0 D dA A ad [.ref (ad 0)] X (fun X1 => EQ X1 (sU X 0 0 0)) := by
  refine g_start_v (by decide) ?_
  intro p e s m below meth c Z hr hlocks h
  have Z : gC RX1 D dA p s m ([.ref (ad 0)] : List Value).toArray c cX1_clear 1 := Z
  have hl := lv_entry ([.ref (ad 0)]) (n := 1) (Nat.le_of_ble_eq_true rfl)
  rw [lg_entry_eq]
  generalize (lg_sl ([.ref (ad 0)]) ++ List.replicate (1 - (lg_sl ([.ref (ad 0)])).length) Slot.unset).toArray = ls at hl ⊢
  have hl : lv_has ls 1 [(0, .ref (ad 0))] := hl
  refine lv_aload_n Z.1 Z.2.1 dX1_clear_0 rfl (lv_at hl 0 rfl) ?_
  refine i_const Z dX1_clear_1 ?_
  refine m_put (v := 0) Z h 0 (by decide) q229 (m_put_0 dA ad) rfl (by decide +kernel) dX1_clear_2 (fun H locs h => ?_)
  have hX := okX_set hX 0 0 (0) (by omega)
  exact g_return Z hr hlocks h (EQ.rf _) dX1_clear_5
set_option maxHeartbeats 4000000 in
set_option maxRecDepth 100000 in
theorem metX1_state (l : Launch) (D : va_G) (dA : ClassId) (A : Nat → Prop) (ad : Nat → Nat) (X : zS) (a : Int) (hX : okX X) (b0 : 0 ≤ X 0 0 ∧ X 0 0 ≤ 40) (ha : -2147483648 ≤ a ∧ a ≤ 2147483647) : mMi l yX1_state cX1_state 2 (some .int) 0 0 D dA A ad [.ref (ad 0), .int (iI a)] X (fun z X1 => spSt a X z X1) := by
  refine g_start_i (by decide) ?_
  intro p e s m below meth c Z hr hlocks h
  have Z : gC RX1 D dA p s m ([.ref (ad 0), .int (iI a)] : List Value).toArray c cX1_state 2 := Z
  have hl := lv_entry ([.ref (ad 0), .int (iI a)]) (n := 2) (Nat.le_of_ble_eq_true rfl)
  rw [lg_entry_eq]
  generalize (lg_sl ([.ref (ad 0), .int (iI a)]) ++ List.replicate (2 - (lg_sl ([.ref (ad 0), .int (iI a)])).length) Slot.unset).toArray = ls at hl ⊢
  have hl : lv_has ls 2 [(0, .ref (ad 0)), (1, .int (iI (a)))] := hl
  refine lv_iload_n Z.1 Z.2.1 dX1_state_0 rfl (lv_at hl 1 rfl) ?_
  refine i_if_lt (tgt := 21) Z (by omega) dX1_state_1 (by decide) (fun c1 => ?_) (fun c1 => ?_)
  · refine i_bipush Z dX1_state_21 (by decide) ?_
    exact g_ireturn Z hr hlocks h rfl (⟨EQ.rf X, Or.inr ⟨by omega, rfl⟩⟩) dX1_state_23
  · refine lv_iload_n Z.1 Z.2.1 dX1_state_4 rfl (lv_at hl 1 rfl) ?_
    refine lv_aload_n Z.1 Z.2.1 dX1_state_5 rfl (lv_at hl 0 rfl) ?_
    refine m_getI Z h 0 (by decide) q229 rfl (v := X 0 (0)) rfl dX1_state_6 ?_
    have o1 := hX 0 (0)
    refine i_icmp_ge (tgt := 21) Z (by omega) dX1_state_9 (by decide) (fun c9 => ?_) (fun c9 => ?_)
    · refine i_bipush Z dX1_state_21 (by decide) ?_
      exact g_ireturn Z hr hlocks h rfl (⟨EQ.rf X, Or.inr ⟨by omega, rfl⟩⟩) dX1_state_23
    · refine lv_aload_n Z.1 Z.2.1 dX1_state_12 rfl (lv_at hl 0 rfl) ?_
      refine m_get Z h 4 (by decide) q233 rfl dX1_state_13 ?_
      refine lv_iload_n Z.1 Z.2.1 dX1_state_16 rfl (lv_at hl 1 rfl) ?_
      refine g_ald Z h (m_at_4 dA ad) (by decide) (v := X 5 (a)) (by omega) rfl dX1_state_17 ?_
      have o2 := hX 5 (a)
      refine lv_goto (tgt := 23) Z.1 Z.2.1 dX1_state_18 (by decide) ?_
      exact g_ireturn Z hr hlocks h rfl (⟨EQ.rf X, Or.inl ⟨by omega, rfl⟩⟩) dX1_state_23
set_option maxHeartbeats 4000000 in
set_option maxRecDepth 100000 in
theorem metX1_nextDeadline (l : Launch) (D : va_G) (dA : ClassId) (A : Nat → Prop) (ad : Nat → Nat) (X : zS)  (hX : okX X) (b0 : 0 ≤ X 0 0 ∧ X 0 0 ≤ 40) (b7 : ∀ a, 0 ≤ X 7 a) : mMi l yX1_nextDeadline cX1_nextDeadline 3 (some .int) 0 0 D dA A ad [.ref (ad 0)] X (fun z X1 => spNext X z X1) := by
  refine g_start_i (by decide) ?_
  intro p e s m below meth c Z hr hlocks h
  have Z : gC RX1 D dA p s m ([.ref (ad 0)] : List Value).toArray c cX1_nextDeadline 3 := Z
  have hl := lv_entry ([.ref (ad 0)]) (n := 3) (Nat.le_of_ble_eq_true rfl)
  rw [lg_entry_eq]
  generalize (lg_sl ([.ref (ad 0)]) ++ List.replicate (3 - (lg_sl ([.ref (ad 0)])).length) Slot.unset).toArray = ls at hl ⊢
  have hl : lv_has ls 3 [(0, .ref (ad 0))] := hl
  refine i_bipush Z dX1_nextDeadline_0 (by decide) ?_
  refine lv_istore_n (lv' := [(1, .int (iI (-5))), (0, .ref (ad 0))]) Z.1 Z.2.1 dX1_nextDeadline_2 rfl hl (by decide) rfl (fun ls hl => ?_)
  refine i_const Z dX1_nextDeadline_3 ?_
  refine lv_istore_n (lv' := [(2, .int (iI (0))), (1, .int (iI (-5))), (0, .ref (ad 0))]) Z.1 Z.2.1 dX1_nextDeadline_4 rfl hl (by decide) rfl (fun ls hl => ?_)
  have loop : ∀ (n : Nat) (i : Int) (k : Int) (H : Heap) (locs : List Loc) (ls : Array Slot), (X 0 0 - i < (n : Int)) → (0 ≤ i ∧ i ≤ X 0 0) → (nx X i k) → gH D A (mWG dA ad (gG X)) s.heap H locs → lv_has ls 3 [(0, .ref (ad 0)), (2, .int (iI (i))), (1, .int (iI (k)))] → W p l e ({ frames := 0, cells := 0, slots := 0, locals := 0 } : Room) s m ([.ref (ad 0)] : List Value).toArray below meth c H locs 0 0 (MQ below (gQi D dA A (mWG dA ad) (fun z X1 => spNext X z X1)) ([.ref (ad 0)] : List Value).toArray s 0 0 A) (F0 m 5 ls []) := by
    intro n
    induction n with
    | zero =>
      intro i k H locs ls hm hi hk h hl
      exfalso; omega
    | succ n ih =>
      intro i k H locs ls hm hi hk h hl
      have rk := nx_rng hk hX
      refine lv_iload_n Z.1 Z.2.1 dX1_nextDeadline_5 rfl (lv_at hl 1 rfl) ?_
      refine lv_aload_n Z.1 Z.2.1 dX1_nextDeadline_6 rfl (lv_at hl 0 rfl) ?_
      refine m_getI Z h 0 (by decide) q229 rfl (v := X 0 (0)) rfl dX1_nextDeadline_7 ?_
      have o1 := hX 0 (0)
      refine i_icmp_ge (tgt := 52) Z (by omega) dX1_nextDeadline_10 (by decide) (fun c10 => ?_) (fun c10 => ?_)
      · refine lv_iload_n Z.1 Z.2.1 dX1_nextDeadline_52 rfl (lv_at hl 2 rfl) ?_
        exact g_ireturn Z hr hlocks h rfl (⟨EQ.rf X, by rw [show X 0 0 = i by omega]; exact hk⟩) dX1_nextDeadline_53
      · refine lv_aload_n Z.1 Z.2.1 dX1_nextDeadline_13 rfl (lv_at hl 0 rfl) ?_
        refine m_get Z h 4 (by decide) q233 rfl dX1_nextDeadline_14 ?_
        refine lv_iload_n Z.1 Z.2.1 dX1_nextDeadline_17 rfl (lv_at hl 1 rfl) ?_
        refine g_ald Z h (m_at_4 dA ad) (by decide) (v := X 5 (i)) (by omega) rfl dX1_nextDeadline_18 ?_
        have o2 := hX 5 (i)
        refine i_const Z dX1_nextDeadline_19 ?_
        refine i_icmp_ne (tgt := 46) Z (by omega) dX1_nextDeadline_20 (by decide) (fun c20 => ?_) (fun c20 => ?_)
        · refine i_inc (lv' := [(2, .int (iI (i + 1))), (0, .ref (ad 0)), (1, .int (iI (k)))]) Z dX1_nextDeadline_46 hl (k := 1) rfl (by decide) rfl (fun ls hl => ?_)
          refine lv_goto (tgt := 5) Z.1 Z.2.1 dX1_nextDeadline_49 (by decide) ?_
          exact ih (i + 1) k _ _ _ (by omega) (by omega) (by first | exact nx_s hk (by omega) | exact nx_t hk (by omega) (by omega) (by omega) b7 | exact nx_k hk (by omega) (by omega)) h (lv_sub hl [1, 0, 2] rfl)
        · refine lv_iload_n Z.1 Z.2.1 dX1_nextDeadline_23 rfl (lv_at hl 2 rfl) ?_
          refine i_bipush Z dX1_nextDeadline_24 (by decide) ?_
          refine i_icmp_eq (tgt := 39) Z (by omega) dX1_nextDeadline_26 (by decide) (fun c26 => ?_) (fun c26 => ?_)
          · refine lv_aload_n Z.1 Z.2.1 dX1_nextDeadline_39 rfl (lv_at hl 0 rfl) ?_
            refine m_get Z h 7 (by decide) q236 rfl dX1_nextDeadline_40 ?_
            refine lv_iload_n Z.1 Z.2.1 dX1_nextDeadline_43 rfl (lv_at hl 1 rfl) ?_
            refine g_ald Z h (m_at_7 dA ad) (by decide) (v := X 7 (i)) (by omega) rfl dX1_nextDeadline_44 ?_
            have o3 := hX 7 (i)
            refine lv_istore_n (lv' := [(1, .int (iI (X 7 (i)))), (0, .ref (ad 0)), (2, .int (iI (i)))]) Z.1 Z.2.1 dX1_nextDeadline_45 rfl hl (by decide) rfl (fun ls hl => ?_)
            refine i_inc (lv' := [(2, .int (iI (i + 1))), (1, .int (iI (X 7 (i)))), (0, .ref (ad 0))]) Z dX1_nextDeadline_46 hl (k := 2) rfl (by decide) rfl (fun ls hl => ?_)
            refine lv_goto (tgt := 5) Z.1 Z.2.1 dX1_nextDeadline_49 (by decide) ?_
            exact ih (i + 1) (X 7 (i)) _ _ _ (by omega) (by omega) (by first | exact nx_s hk (by omega) | exact nx_t hk (by omega) (by omega) (by omega) b7 | exact nx_k hk (by omega) (by omega)) h (lv_sub hl [2, 0, 1] rfl)
          · refine lv_aload_n Z.1 Z.2.1 dX1_nextDeadline_29 rfl (lv_at hl 0 rfl) ?_
            refine m_get Z h 7 (by decide) q236 rfl dX1_nextDeadline_30 ?_
            refine lv_iload_n Z.1 Z.2.1 dX1_nextDeadline_33 rfl (lv_at hl 1 rfl) ?_
            refine g_ald Z h (m_at_7 dA ad) (by decide) (v := X 7 (i)) (by omega) rfl dX1_nextDeadline_34 ?_
            have o4 := hX 7 (i)
            refine lv_iload_n Z.1 Z.2.1 dX1_nextDeadline_35 rfl (lv_at hl 2 rfl) ?_
            refine i_icmp_ge (tgt := 46) Z (by omega) dX1_nextDeadline_36 (by decide) (fun c36 => ?_) (fun c36 => ?_)
            · refine i_inc (lv' := [(2, .int (iI (i + 1))), (0, .ref (ad 0)), (1, .int (iI (k)))]) Z dX1_nextDeadline_46 hl (k := 1) rfl (by decide) rfl (fun ls hl => ?_)
              refine lv_goto (tgt := 5) Z.1 Z.2.1 dX1_nextDeadline_49 (by decide) ?_
              exact ih (i + 1) k _ _ _ (by omega) (by omega) (by first | exact nx_s hk (by omega) | exact nx_t hk (by omega) (by omega) (by omega) b7 | exact nx_k hk (by omega) (by omega)) h (lv_sub hl [1, 0, 2] rfl)
            · refine lv_aload_n Z.1 Z.2.1 dX1_nextDeadline_39 rfl (lv_at hl 0 rfl) ?_
              refine m_get Z h 7 (by decide) q236 rfl dX1_nextDeadline_40 ?_
              refine lv_iload_n Z.1 Z.2.1 dX1_nextDeadline_43 rfl (lv_at hl 1 rfl) ?_
              refine g_ald Z h (m_at_7 dA ad) (by decide) (v := X 7 (i)) (by omega) rfl dX1_nextDeadline_44 ?_
              have o5 := hX 7 (i)
              refine lv_istore_n (lv' := [(1, .int (iI (X 7 (i)))), (0, .ref (ad 0)), (2, .int (iI (i)))]) Z.1 Z.2.1 dX1_nextDeadline_45 rfl hl (by decide) rfl (fun ls hl => ?_)
              refine i_inc (lv' := [(2, .int (iI (i + 1))), (1, .int (iI (X 7 (i)))), (0, .ref (ad 0))]) Z dX1_nextDeadline_46 hl (k := 2) rfl (by decide) rfl (fun ls hl => ?_)
              refine lv_goto (tgt := 5) Z.1 Z.2.1 dX1_nextDeadline_49 (by decide) ?_
              exact ih (i + 1) (X 7 (i)) _ _ _ (by omega) (by omega) (by first | exact nx_s hk (by omega) | exact nx_t hk (by omega) (by omega) (by omega) b7 | exact nx_k hk (by omega) (by omega)) h (lv_sub hl [2, 0, 1] rfl)
  exact loop ((X 0 0 - 0 + 1).toNat) 0 (-5) _ _ _ (by omega) (by omega) nx_0 h (lv_sub hl [2, 0, 1] rfl)
set_option maxHeartbeats 4000000 in
set_option maxRecDepth 100000 in
theorem metX1_take (l : Launch) (D : va_G) (dA : ClassId) (A : Nat → Prop) (ad : Nat → Nat) (X : zS) (q c0 : Int) (N : Int) (hB : BS N X) (hN : N ≤ 64) (hq : -2147483648 ≤ q ∧ q ≤ 2147483647) (hc : -2147483648 ≤ c0 ∧ c0 ≤ 2147483647) : mMi l yX1_take cX1_take 4 (some .int) 3 70 D dA A ad [.ref (ad 0), .int (iI q), .int (iI c0)] X (fun z X1 => spTake q c0 X z X1) := by
  refine g_start_i (by decide) ?_
  intro p e s m below meth c Z hr hlocks h
  have Z : gC RX1 D dA p s m ([.ref (ad 0), .int (iI q), .int (iI c0)] : List Value).toArray c cX1_take 4 := Z
  have hl := lv_entry ([.ref (ad 0), .int (iI q), .int (iI c0)]) (n := 4) (Nat.le_of_ble_eq_true rfl)
  rw [lg_entry_eq]
  generalize (lg_sl ([.ref (ad 0), .int (iI q), .int (iI c0)]) ++ List.replicate (4 - (lg_sl ([.ref (ad 0), .int (iI q), .int (iI c0)])).length) Slot.unset).toArray = ls at hl ⊢
  have hl : lv_has ls 4 [(0, .ref (ad 0)), (1, .int (iI (q))), (2, .int (iI (c0)))] := hl
  obtain ⟨hX, b0, b1, b3, b4, b5, b6, b7, b8, b12, b13, b19⟩ := hB
  refine lv_aload_n Z.1 Z.2.1 dX1_take_0 rfl (lv_at hl 0 rfl) ?_
  refine lv_iload_n Z.1 Z.2.1 dX1_take_1 rfl (lv_at hl 1 rfl) ?_
  refine g_calli (As := [.int (iI (q))]) (rest := []) (q := (RX1, TX1, 12)) (ci := 1) Z h (metX1_three l D dA A ad X q (by omega)) (cwV 1 Z.2.2.2.2.1 (lw_V q270 q272 qs15 q23 q273) rfl rfl rfl (by decide +kernel) ⟨Nat.le_of_ble_eq_true rfl, Nat.le_of_ble_eq_true rfl⟩) rfl rfl rfl hl.1 rfl (Nat.le_of_ble_eq_true rfl) ⟨Nat.zero_le _, Nat.zero_le _⟩ dX1_take_2 (fun z2 X2 H locs hp2 h => ?_)
  obtain ⟨e9, hz2⟩ := hp2
  rw [e9] at h
  refine b_ifne (tgt := 10) Z hz2 dX1_take_5 (by decide) (fun c5 => ?_) (fun c5 => ?_)
  · refine lv_aload_n Z.1 Z.2.1 dX1_take_10 rfl (lv_at hl 0 rfl) ?_
    refine lv_iload_n Z.1 Z.2.1 dX1_take_11 rfl (lv_at hl 2 rfl) ?_
    refine g_calli (As := [.int (iI (c0))]) (rest := []) (q := (RX1, TX1, 12)) (ci := 1) Z h (metX1_three l D dA A ad X c0 (by omega)) (cwV 1 Z.2.2.2.2.1 (lw_V q270 q272 qs15 q23 q273) rfl rfl rfl (by decide +kernel) ⟨Nat.le_of_ble_eq_true rfl, Nat.le_of_ble_eq_true rfl⟩) rfl rfl rfl hl.1 rfl (Nat.le_of_ble_eq_true rfl) ⟨Nat.zero_le _, Nat.zero_le _⟩ dX1_take_12 (fun z12 X12 H locs hp12 h => ?_)
    obtain ⟨e9, hz12⟩ := hp12
    rw [e9] at h
    refine b_ifne (tgt := 21) Z hz12 dX1_take_15 (by decide) (fun c15 => ?_) (fun c15 => ?_)
    · refine lv_aload_n Z.1 Z.2.1 dX1_take_21 rfl (lv_at hl 0 rfl) ?_
      refine lv_iload_n Z.1 Z.2.1 dX1_take_22 rfl (lv_at hl 2 rfl) ?_
      refine g_calli (As := [.int (iI (c0))]) (rest := []) (q := (RX1, TX1, 12)) (ci := 1) Z h (metX1_out l D dA A ad X c0 hX (b0) (by omega)) (cwV 1 Z.2.2.2.2.1 (lw_V q278 q280 qs16 q23 q281) rfl rfl rfl (by decide +kernel) ⟨Nat.le_of_ble_eq_true rfl, Nat.le_of_ble_eq_true rfl⟩) rfl rfl rfl hl.1 rfl (Nat.le_of_ble_eq_true rfl) ⟨Nat.zero_le _, Nat.zero_le _⟩ dX1_take_23 (fun z23 X23 H locs hp23 h => ?_)
      obtain ⟨e9, ez23⟩ := hp23
      rw [e9] at h
      have r23 := outN_rng (X := X) (c := c0) (by first | omega | (simp [sU]; omega))
      rw [← ez23] at r23
      refine i_const Z dX1_take_26 ?_
      refine i_icmp_ne (tgt := 33) Z (by omega) dX1_take_27 (by decide) (fun c27 => ?_) (fun c27 => ?_)
      · refine lv_aload_n Z.1 Z.2.1 dX1_take_33 rfl (lv_at hl 0 rfl) ?_
        refine lv_iload_n Z.1 Z.2.1 dX1_take_34 rfl (lv_at hl 1 rfl) ?_
        refine i_const Z dX1_take_35 ?_
        refine g_calli (As := [.int (iI (q)), .int (iI (0))]) (rest := []) (q := (RX1, TX1, 12)) (ci := 1) Z h (metX1_peek l D dA A ad X q 0 hX b0 (by omega) (by omega)) (cwV 2 Z.2.2.2.2.1 (lw_V q282 q283 q284 q23 q285) rfl rfl rfl (by decide +kernel) ⟨Nat.le_of_ble_eq_true rfl, Nat.le_of_ble_eq_true rfl⟩) rfl rfl rfl hl.1 rfl (Nat.le_of_ble_eq_true rfl) ⟨Nat.zero_le _, Nat.zero_le _⟩ dX1_take_36 (fun z36 X36 H locs hp36 h => ?_)
        obtain ⟨e9, _, hk⟩ := hp36
        rw [e9] at h
        have hz : -5 ≤ z36 ∧ z36 < 40 := by
          rcases hk with ⟨w, _⟩ | ⟨_, _, w⟩ | ⟨_, w, _⟩
          · omega
          · omega
          · have := w.1; have := w.2.1; omega
        refine lv_istore_n (lv' := [(3, .int (iI (z36))), (0, .ref (ad 0)), (1, .int (iI (q))), (2, .int (iI (c0)))]) Z.1 Z.2.1 dX1_take_39 rfl hl (by decide) rfl (fun ls hl => ?_)
        refine lv_iload_n Z.1 Z.2.1 dX1_take_40 rfl (lv_at hl 0 rfl) ?_
        refine i_if_ge (tgt := 47) Z (by omega) dX1_take_41 (by decide) (fun c41 => ?_) (fun c41 => ?_)
        · have hfr : frst X q z36 := by
            rcases hk with ⟨w, _⟩ | ⟨_, _, w⟩ | ⟨_, w, w2⟩
            · omega
            · omega
            · exact rank_0 w w2
          have c4 := b4 z36
          have c12 := b12 q
          refine lv_aload_n Z.1 Z.2.1 dX1_take_47 rfl (lv_at hl 1 rfl) ?_
          refine m_get Z h 4 (by decide) q233 rfl dX1_take_48 ?_
          refine lv_iload_n Z.1 Z.2.1 dX1_take_51 rfl (lv_at hl 0 rfl) ?_
          refine i_const Z dX1_take_52 ?_
          refine g_ast Z h (m_at_4 dA ad) (m_set_4 dA ad) (by decide) (i := z36) (v := 1) (by omega) dX1_take_53 (fun H locs h => ?_)
          have hX := okX_set hX 5 (z36) (1) (by omega)
          refine lv_aload_n Z.1 Z.2.1 dX1_take_54 rfl (lv_at hl 1 rfl) ?_
          refine m_get Z h 5 (by decide) q234 rfl dX1_take_55 ?_
          refine lv_iload_n Z.1 Z.2.1 dX1_take_58 rfl (lv_at hl 0 rfl) ?_
          refine i_dup2 Z dX1_take_59 rfl rfl ?_
          refine g_ald Z h (m_at_5 dA ad) (by decide) (v := X 4 (z36)) (by omega) (by simp [sU]) dX1_take_60 ?_
          have o1 := hX 4 (z36)
          rw [show (sU X 5 (z36) (1)) 4 (z36) = X 4 (z36) from by simp [sU]] at o1
          refine i_const Z dX1_take_61 ?_
          refine i_add Z dX1_take_62 ?_
          refine g_ast Z h (m_at_5 dA ad) (m_set_5 dA ad) (by decide) (i := z36) (v := (X 4 (z36)) + 1) (by omega) dX1_take_63 (fun H locs h => ?_)
          have hX := okX_set hX 4 (z36) ((X 4 (z36)) + 1) (by omega)
          refine lv_aload_n Z.1 Z.2.1 dX1_take_64 rfl (lv_at hl 1 rfl) ?_
          refine m_get Z h 6 (by decide) q235 rfl dX1_take_65 ?_
          refine lv_iload_n Z.1 Z.2.1 dX1_take_68 rfl (lv_at hl 0 rfl) ?_
          refine lv_iload_n Z.1 Z.2.1 dX1_take_69 rfl (lv_at hl 3 rfl) ?_
          refine g_ast Z h (m_at_6 dA ad) (m_set_6 dA ad) (by decide) (i := z36) (v := c0) (by omega) dX1_take_70 (fun H locs h => ?_)
          have hX := okX_set hX 6 (z36) (c0) (by omega)
          refine lv_aload_n Z.1 Z.2.1 dX1_take_71 rfl (lv_at hl 1 rfl) ?_
          refine m_get Z h 7 (by decide) q236 rfl dX1_take_72 ?_
          refine lv_iload_n Z.1 Z.2.1 dX1_take_75 rfl (lv_at hl 0 rfl) ?_
          refine lv_aload_n Z.1 Z.2.1 dX1_take_76 rfl (lv_at hl 1 rfl) ?_
          refine m_getI Z h 11 (by decide) q240 rfl (v := X 19 (0)) (by simp [sU]) dX1_take_77 ?_
          have o2 := hX 19 (0)
          rw [show (sU (sU (sU X 5 (z36) (1)) 4 (z36) ((X 4 (z36)) + 1)) 6 (z36) (c0)) 19 (0) = X 19 (0) from by simp [sU]] at o2
          refine lv_aload_n Z.1 Z.2.1 dX1_take_80 rfl (lv_at hl 1 rfl) ?_
          refine m_get Z h 9 (by decide) q238 rfl dX1_take_81 ?_
          refine lv_iload_n Z.1 Z.2.1 dX1_take_84 rfl (lv_at hl 2 rfl) ?_
          refine g_ald Z h (m_at_9 dA ad) (by decide) (v := X 12 (q)) (by omega) (by simp [sU]) dX1_take_85 ?_
          have o3 := hX 12 (q)
          rw [show (sU (sU (sU X 5 (z36) (1)) 4 (z36) ((X 4 (z36)) + 1)) 6 (z36) (c0)) 12 (q) = X 12 (q) from by simp [sU]] at o3
          refine i_add Z dX1_take_86 ?_
          refine g_ast Z h (m_at_7 dA ad) (m_set_7 dA ad) (by decide) (i := z36) (v := (X 19 (0)) + (X 12 (q))) (by omega) dX1_take_87 (fun H locs h => ?_)
          have hX := okX_set hX 7 (z36) ((X 19 (0)) + (X 12 (q))) (by omega)
          refine lv_iload_n Z.1 Z.2.1 dX1_take_88 rfl (lv_at hl 0 rfl) ?_
          exact g_ireturn Z hr hlocks h rfl (Or.inr (Or.inr (Or.inr (Or.inr ⟨by omega, by omega, by omega, hfr, EQ.rf _⟩)))) dX1_take_89
        · have hno : ∀ a, ¬ rdy X q a := by
            rcases hk with ⟨w, _⟩ | ⟨_, w, _⟩ | ⟨_, w, _⟩
            · omega
            · intro a ha
              obtain ⟨b, hb1, hb2⟩ := first_ex b0.1 ha
              exact w b hb1 hb2
            · have := w.1; omega
          refine i_bipush Z dX1_take_44 (by decide) ?_
          exact g_ireturn Z hr hlocks h rfl (Or.inr (Or.inr (Or.inr (Or.inl ⟨by omega, by omega, by omega, hno, rfl, EQ.rf X⟩)))) dX1_take_46
      · refine i_bipush Z dX1_take_30 (by decide) ?_
        exact g_ireturn Z hr hlocks h rfl (Or.inr (Or.inr (Or.inl ⟨by omega, by omega, by omega, rfl, EQ.rf X⟩))) dX1_take_32
    · refine i_bipush Z dX1_take_18 (by decide) ?_
      exact g_ireturn Z hr hlocks h rfl (Or.inr (Or.inl ⟨by omega, by omega, rfl, EQ.rf X⟩)) dX1_take_20
  · refine i_const Z dX1_take_8 ?_
    exact g_ireturn Z hr hlocks h rfl (Or.inl ⟨by omega, rfl, EQ.rf X⟩) dX1_take_9
set_option maxHeartbeats 4000000 in
set_option maxRecDepth 100000 in
theorem metX1_lose (l : Launch) (D : va_G) (dA : ClassId) (A : Nat → Prop) (ad : Nat → Nat) (X : zS) (q : Int) (N : Int) (hB : BS N X) (hN : N ≤ 64) (hq : -2147483648 ≤ q ∧ q ≤ 2147483647) : mMi l yX1_lose cX1_lose 4 (some .int) 1 23 D dA A ad [.ref (ad 0), .int (iI q)] X (fun z X1 => spLose q X z X1) := by
  refine g_start_i (by decide) ?_
  intro p e s m below meth c Z hr hlocks h
  have Z : gC RX1 D dA p s m ([.ref (ad 0), .int (iI q)] : List Value).toArray c cX1_lose 4 := Z
  have hl := lv_entry ([.ref (ad 0), .int (iI q)]) (n := 4) (Nat.le_of_ble_eq_true rfl)
  rw [lg_entry_eq]
  generalize (lg_sl ([.ref (ad 0), .int (iI q)]) ++ List.replicate (4 - (lg_sl ([.ref (ad 0), .int (iI q)])).length) Slot.unset).toArray = ls at hl ⊢
  have hl : lv_has ls 4 [(0, .ref (ad 0)), (1, .int (iI (q)))] := hl
  obtain ⟨hX, b0, b1, b3, b4, b5, b6, b7, b8, b12, b13, b19⟩ := hB
  refine lv_aload_n Z.1 Z.2.1 dX1_lose_0 rfl (lv_at hl 0 rfl) ?_
  refine lv_iload_n Z.1 Z.2.1 dX1_lose_1 rfl (lv_at hl 1 rfl) ?_
  refine g_calli (As := [.int (iI (q))]) (rest := []) (q := (RX1, TX1, 12)) (ci := 1) Z h (metX1_three l D dA A ad X q (by omega)) (cwV 1 Z.2.2.2.2.1 (lw_V q270 q272 qs15 q23 q273) rfl rfl rfl (by decide +kernel) ⟨Nat.le_of_ble_eq_true rfl, Nat.le_of_ble_eq_true rfl⟩) rfl rfl rfl hl.1 rfl (Nat.le_of_ble_eq_true rfl) ⟨Nat.zero_le _, Nat.zero_le _⟩ dX1_lose_2 (fun z2 X2 H locs hp2 h => ?_)
  obtain ⟨e9, hz2⟩ := hp2
  rw [e9] at h
  refine b_ifne (tgt := 11) Z hz2 dX1_lose_5 (by decide) (fun c5 => ?_) (fun c5 => ?_)
  · refine lv_aload_n Z.1 Z.2.1 dX1_lose_11 rfl (lv_at hl 0 rfl) ?_
    refine lv_iload_n Z.1 Z.2.1 dX1_lose_12 rfl (lv_at hl 1 rfl) ?_
    refine g_calli (As := [.int (iI (q))]) (rest := []) (q := (RX1, TX1, 12)) (ci := 1) Z h (metX1_out l D dA A ad X q hX (b0) (by omega)) (cwV 1 Z.2.2.2.2.1 (lw_V q278 q280 qs16 q23 q281) rfl rfl rfl (by decide +kernel) ⟨Nat.le_of_ble_eq_true rfl, Nat.le_of_ble_eq_true rfl⟩) rfl rfl rfl hl.1 rfl (Nat.le_of_ble_eq_true rfl) ⟨Nat.zero_le _, Nat.zero_le _⟩ dX1_lose_13 (fun z13 X13 H locs hp13 h => ?_)
    obtain ⟨e9, ez13⟩ := hp13
    rw [e9] at h
    have r13 := outN_rng (X := X) (c := q) (by first | omega | (simp [sU]; omega))
    rw [← ez13] at r13
    refine lv_istore_n (lv' := [(2, .int (iI (z13))), (0, .ref (ad 0)), (1, .int (iI (q)))]) Z.1 Z.2.1 dX1_lose_16 rfl hl (by decide) rfl (fun ls hl => ?_)
    refine i_const Z dX1_lose_17 ?_
    refine lv_istore_n (lv' := [(3, .int (iI (0))), (2, .int (iI (z13))), (0, .ref (ad 0)), (1, .int (iI (q)))]) Z.1 Z.2.1 dX1_lose_18 rfl hl (by decide) rfl (fun ls hl => ?_)
    have loop : ∀ (n : Nat) (i : Int) (Y : zS) (H : Heap) (locs : List Loc) (ls : Array Slot), (X 0 0 - i < (n : Int)) → (okX Y) → (Y = loP X q i) → (0 ≤ i ∧ i ≤ X 0 0) → gH D A (mWG dA ad (gG Y)) s.heap H locs → lv_has ls 4 [(0, .ref (ad 0)), (1, .int (iI (q))), (2, .int (iI (z13))), (3, .int (iI (i)))] → W p l e ({ frames := 1, cells := 0, slots := 0, locals := 23 } : Room) s m ([.ref (ad 0), .int (iI q)] : List Value).toArray below meth c H locs 0 0 (MQ below (gQi D dA A (mWG dA ad) (fun z X1 => spLose q X z X1)) ([.ref (ad 0), .int (iI q)] : List Value).toArray s 0 0 A) (F0 m 19 ls []) := by
      intro n
      induction n with
      | zero =>
        intro i Y H locs ls hm hX hY hi h hl
        exfalso; omega
      | succ n ih =>
        intro i Y H locs ls hm hX hY hi h hl
        have ek : ∀ k, k ≠ 5 → Y k = X k := fun k hk => by rw [hY]; exact loP_k hk
        have e5 : Y 5 i = X 5 i := by rw [hY]; exact loP_i
        have e0 : Y 0 0 = X 0 0 := by rw [ek 0 (by decide)]
        have e1 : Y 1 i = X 1 i := by rw [ek 1 (by decide)]
        have e6 : Y 6 i = X 6 i := by rw [ek 6 (by decide)]
        have eb : back Y i = back X i := by unfold back; rw [ek 13 (by decide), ek 1 (by decide), ek 4 (by decide)]
        have c1 := b1 i
        rw [← e1] at c1
        refine lv_iload_n Z.1 Z.2.1 dX1_lose_19 rfl (lv_at hl 3 rfl) ?_
        refine lv_aload_n Z.1 Z.2.1 dX1_lose_20 rfl (lv_at hl 0 rfl) ?_
        refine m_getI Z h 0 (by decide) q229 rfl (v := Y 0 (0)) rfl dX1_lose_21 ?_
        have o1 := hX 0 (0)
        refine i_icmp_ge (tgt := 58) Z (by omega) dX1_lose_24 (by decide) (fun c24 => ?_) (fun c24 => ?_)
        · refine lv_iload_n Z.1 Z.2.1 dX1_lose_58 rfl (lv_at hl 2 rfl) ?_
          exact g_ireturn Z hr hlocks h rfl (Or.inr ⟨by omega, ez13, by rw [hY, show i = X 0 0 by omega]; exact EQ.rf _⟩) dX1_lose_59
        · refine lv_aload_n Z.1 Z.2.1 dX1_lose_27 rfl (lv_at hl 0 rfl) ?_
          refine m_get Z h 4 (by decide) q233 rfl dX1_lose_28 ?_
          refine lv_iload_n Z.1 Z.2.1 dX1_lose_31 rfl (lv_at hl 3 rfl) ?_
          refine g_ald Z h (m_at_4 dA ad) (by decide) (v := Y 5 (i)) (by omega) rfl dX1_lose_32 ?_
          have o2 := hX 5 (i)
          refine i_const Z dX1_lose_33 ?_
          refine i_icmp_ne (tgt := 52) Z (by omega) dX1_lose_34 (by decide) (fun c34 => ?_) (fun c34 => ?_)
          · refine i_inc (lv' := [(3, .int (iI (i + 1))), (0, .ref (ad 0)), (1, .int (iI (q))), (2, .int (iI (z13)))]) Z dX1_lose_52 hl (k := 3) rfl (by decide) rfl (fun ls hl => ?_)
            refine lv_goto (tgt := 19) Z.1 Z.2.1 dX1_lose_55 (by decide) ?_
            exact ih (i + 1) Y _ _ _ (by omega) hX (by rw [hY]; exact loP_f (by omega)) (by omega) h (lv_sub hl [1, 2, 3, 0] rfl)
          · refine lv_aload_n Z.1 Z.2.1 dX1_lose_37 rfl (lv_at hl 0 rfl) ?_
            refine m_get Z h 6 (by decide) q235 rfl dX1_lose_38 ?_
            refine lv_iload_n Z.1 Z.2.1 dX1_lose_41 rfl (lv_at hl 3 rfl) ?_
            refine g_ald Z h (m_at_6 dA ad) (by decide) (v := Y 6 (i)) (by omega) rfl dX1_lose_42 ?_
            have o3 := hX 6 (i)
            refine lv_iload_n Z.1 Z.2.1 dX1_lose_43 rfl (lv_at hl 1 rfl) ?_
            refine i_icmp_ne (tgt := 52) Z (by omega) dX1_lose_44 (by decide) (fun c44 => ?_) (fun c44 => ?_)
            · refine i_inc (lv' := [(3, .int (iI (i + 1))), (0, .ref (ad 0)), (1, .int (iI (q))), (2, .int (iI (z13)))]) Z dX1_lose_52 hl (k := 3) rfl (by decide) rfl (fun ls hl => ?_)
              refine lv_goto (tgt := 19) Z.1 Z.2.1 dX1_lose_55 (by decide) ?_
              exact ih (i + 1) Y _ _ _ (by omega) hX (by rw [hY]; exact loP_f (by omega)) (by omega) h (lv_sub hl [1, 2, 3, 0] rfl)
            · refine lv_aload_n Z.1 Z.2.1 dX1_lose_47 rfl (lv_at hl 0 rfl) ?_
              refine lv_iload_n Z.1 Z.2.1 dX1_lose_48 rfl (lv_at hl 3 rfl) ?_
              refine g_callv (As := [.int (iI (i))]) (rest := []) (q := (RX1, TX1, 12)) (ci := 1) Z h (metX1_comeBack l D dA A ad Y i hX (by omega) (by first | omega | exact b1 _)) (cwV 1 Z.2.2.2.2.1 (lw_V q306 q308 qs20 q23 q309) rfl rfl rfl (by decide +kernel) ⟨Nat.le_of_ble_eq_true rfl, Nat.le_of_ble_eq_true rfl⟩) rfl rfl rfl hl.1 rfl (Nat.le_of_ble_eq_true rfl) ⟨Nat.zero_le _, Nat.zero_le _⟩ dX1_lose_49 (fun X49 H locs hp49 h => ?_)
              obtain ⟨hX, e9⟩ := hp49
              rw [e9] at h hX
              refine i_inc (lv' := [(3, .int (iI (i + 1))), (0, .ref (ad 0)), (1, .int (iI (q))), (2, .int (iI (z13)))]) Z dX1_lose_52 hl (k := 3) rfl (by decide) rfl (fun ls hl => ?_)
              refine lv_goto (tgt := 19) Z.1 Z.2.1 dX1_lose_55 (by decide) ?_
              exact ih (i + 1) ((sU Y 5 (i) (back Y i))) _ _ _ (by omega) hX (by rw [eb, hY]; exact loP_t (by omega) (by omega)) (by omega) h (lv_sub hl [1, 2, 3, 0] rfl)
    exact loop ((X 0 0 - 0 + 1).toNat) 0 X _ _ _ (by omega) hX loP_0.symm (by omega) h (lv_sub hl [2, 3, 1, 0] rfl)
  · refine i_bipush Z dX1_lose_8 (by decide) ?_
    exact g_ireturn Z hr hlocks h rfl (Or.inl ⟨by omega, rfl, EQ.rf X⟩) dX1_lose_10
set_option maxHeartbeats 4000000 in
set_option maxRecDepth 100000 in
theorem metX1_revive (l : Launch) (D : va_G) (dA : ClassId) (A : Nat → Prop) (ad : Nat → Nat) (X : zS) (q : Int) (hX : okX X) (b0 : 0 ≤ X 0 0 ∧ X 0 0 ≤ 40) (hq : -2147483648 ≤ q ∧ q ≤ 2147483647) : mMi l yX1_revive cX1_revive 4 (some .int) 1 21 D dA A ad [.ref (ad 0), .int (iI q)] X (fun z X1 => spRev q X z X1) := by
  refine g_start_i (by decide) ?_
  intro p e s m below meth c Z hr hlocks h
  have Z : gC RX1 D dA p s m ([.ref (ad 0), .int (iI q)] : List Value).toArray c cX1_revive 4 := Z
  have hl := lv_entry ([.ref (ad 0), .int (iI q)]) (n := 4) (Nat.le_of_ble_eq_true rfl)
  rw [lg_entry_eq]
  generalize (lg_sl ([.ref (ad 0), .int (iI q)]) ++ List.replicate (4 - (lg_sl ([.ref (ad 0), .int (iI q)])).length) Slot.unset).toArray = ls at hl ⊢
  have hl : lv_has ls 4 [(0, .ref (ad 0)), (1, .int (iI (q)))] := hl
  refine lv_aload_n Z.1 Z.2.1 dX1_revive_0 rfl (lv_at hl 0 rfl) ?_
  refine lv_iload_n Z.1 Z.2.1 dX1_revive_1 rfl (lv_at hl 1 rfl) ?_
  refine g_calli (As := [.int (iI (q))]) (rest := []) (q := (RX1, TX1, 12)) (ci := 1) Z h (metX1_three l D dA A ad X q (by omega)) (cwV 1 Z.2.2.2.2.1 (lw_V q270 q272 qs15 q23 q273) rfl rfl rfl (by decide +kernel) ⟨Nat.le_of_ble_eq_true rfl, Nat.le_of_ble_eq_true rfl⟩) rfl rfl rfl hl.1 rfl (Nat.le_of_ble_eq_true rfl) ⟨Nat.zero_le _, Nat.zero_le _⟩ dX1_revive_2 (fun z2 X2 H locs hp2 h => ?_)
  obtain ⟨e9, hz2⟩ := hp2
  rw [e9] at h
  refine b_ifne (tgt := 10) Z hz2 dX1_revive_5 (by decide) (fun c5 => ?_) (fun c5 => ?_)
  · refine i_const Z dX1_revive_10 ?_
    refine lv_istore_n (lv' := [(2, .int (iI (0))), (0, .ref (ad 0)), (1, .int (iI (q)))]) Z.1 Z.2.1 dX1_revive_11 rfl hl (by decide) rfl (fun ls hl => ?_)
    refine i_const Z dX1_revive_12 ?_
    refine lv_istore_n (lv' := [(3, .int (iI (0))), (2, .int (iI (0))), (0, .ref (ad 0)), (1, .int (iI (q)))]) Z.1 Z.2.1 dX1_revive_13 rfl hl (by decide) rfl (fun ls hl => ?_)
    have loop : ∀ (n : Nat) (i : Int) (k : Int) (Y : zS) (H : Heap) (locs : List Loc) (ls : Array Slot), (X 0 0 - i < (n : Int)) → (okX Y) → (Y = reP X q i) → (0 ≤ i ∧ i ≤ X 0 0) → (k = cn (fun a => X 1 a = q ∧ X 5 a = 3) i) → gH D A (mWG dA ad (gG Y)) s.heap H locs → lv_has ls 4 [(0, .ref (ad 0)), (1, .int (iI (q))), (2, .int (iI (k))), (3, .int (iI (i)))] → W p l e ({ frames := 1, cells := 0, slots := 0, locals := 21 } : Room) s m ([.ref (ad 0), .int (iI q)] : List Value).toArray below meth c H locs 0 0 (MQ below (gQi D dA A (mWG dA ad) (fun z X1 => spRev q X z X1)) ([.ref (ad 0), .int (iI q)] : List Value).toArray s 0 0 A) (F0 m 14 ls []) := by
      intro n
      induction n with
      | zero =>
        intro i k Y H locs ls hm hX hY hi hk h hl
        exfalso; omega
      | succ n ih =>
        intro i k Y H locs ls hm hX hY hi hk h hl
        have ek : ∀ k, k ≠ 5 → k ≠ 4 → Y k = X k := fun k hk hk4 => by rw [hY]; exact reP_k hk hk4
        have ei : ∀ k, Y k i = X k i := fun k => by rw [hY]; exact reP_i
        have e5 : Y 5 i = X 5 i := ei 5
        have e0 : Y 0 0 = X 0 0 := by rw [ek 0 (by decide) (by decide)]
        have e1 : Y 1 i = X 1 i := ei 1
        refine lv_iload_n Z.1 Z.2.1 dX1_revive_14 rfl (lv_at hl 3 rfl) ?_
        refine lv_aload_n Z.1 Z.2.1 dX1_revive_15 rfl (lv_at hl 0 rfl) ?_
        refine m_getI Z h 0 (by decide) q229 rfl (v := Y 0 (0)) rfl dX1_revive_16 ?_
        have o1 := hX 0 (0)
        refine i_icmp_ge (tgt := 65) Z (by omega) dX1_revive_19 (by decide) (fun c19 => ?_) (fun c19 => ?_)
        · refine lv_iload_n Z.1 Z.2.1 dX1_revive_65 rfl (lv_at hl 2 rfl) ?_
          exact g_ireturn Z hr hlocks h rfl (Or.inr ⟨by omega, by rw [show X 0 0 = i by omega]; exact hk, by rw [hY, show i = X 0 0 by omega]; exact EQ.rf _⟩) dX1_revive_66
        · refine lv_aload_n Z.1 Z.2.1 dX1_revive_22 rfl (lv_at hl 0 rfl) ?_
          refine m_get Z h 1 (by decide) q230 rfl dX1_revive_23 ?_
          refine lv_iload_n Z.1 Z.2.1 dX1_revive_26 rfl (lv_at hl 3 rfl) ?_
          refine g_ald Z h (m_at_1 dA ad) (by decide) (v := Y 1 (i)) (by omega) rfl dX1_revive_27 ?_
          have o2 := hX 1 (i)
          refine lv_iload_n Z.1 Z.2.1 dX1_revive_28 rfl (lv_at hl 1 rfl) ?_
          refine i_icmp_ne (tgt := 59) Z (by omega) dX1_revive_29 (by decide) (fun c29 => ?_) (fun c29 => ?_)
          · refine i_inc (lv' := [(3, .int (iI (i + 1))), (0, .ref (ad 0)), (1, .int (iI (q))), (2, .int (iI (k)))]) Z dX1_revive_59 hl (k := 3) rfl (by decide) rfl (fun ls hl => ?_)
            refine lv_goto (tgt := 14) Z.1 Z.2.1 dX1_revive_62 (by decide) ?_
            exact ih (i + 1) k Y _ _ _ (by omega) hX (by rw [hY]; exact reP_f (by omega)) (by omega) (cn_st (by omega) hk (by omega)) h (lv_sub hl [1, 2, 3, 0] rfl)
          · refine lv_aload_n Z.1 Z.2.1 dX1_revive_32 rfl (lv_at hl 0 rfl) ?_
            refine m_get Z h 4 (by decide) q233 rfl dX1_revive_33 ?_
            refine lv_iload_n Z.1 Z.2.1 dX1_revive_36 rfl (lv_at hl 3 rfl) ?_
            refine g_ald Z h (m_at_4 dA ad) (by decide) (v := Y 5 (i)) (by omega) rfl dX1_revive_37 ?_
            have o3 := hX 5 (i)
            refine i_const Z dX1_revive_38 ?_
            refine i_icmp_ne (tgt := 59) Z (by omega) dX1_revive_39 (by decide) (fun c39 => ?_) (fun c39 => ?_)
            · refine i_inc (lv' := [(3, .int (iI (i + 1))), (0, .ref (ad 0)), (1, .int (iI (q))), (2, .int (iI (k)))]) Z dX1_revive_59 hl (k := 3) rfl (by decide) rfl (fun ls hl => ?_)
              refine lv_goto (tgt := 14) Z.1 Z.2.1 dX1_revive_62 (by decide) ?_
              exact ih (i + 1) k Y _ _ _ (by omega) hX (by rw [hY]; exact reP_f (by omega)) (by omega) (cn_st (by omega) hk (by omega)) h (lv_sub hl [1, 2, 3, 0] rfl)
            · refine lv_aload_n Z.1 Z.2.1 dX1_revive_42 rfl (lv_at hl 0 rfl) ?_
              refine m_get Z h 4 (by decide) q233 rfl dX1_revive_43 ?_
              refine lv_iload_n Z.1 Z.2.1 dX1_revive_46 rfl (lv_at hl 3 rfl) ?_
              refine i_const Z dX1_revive_47 ?_
              refine g_ast Z h (m_at_4 dA ad) (m_set_4 dA ad) (by decide) (i := i) (v := 0) (by omega) dX1_revive_48 (fun H locs h => ?_)
              have hX := okX_set hX 5 (i) (0) (by omega)
              refine lv_aload_n Z.1 Z.2.1 dX1_revive_49 rfl (lv_at hl 0 rfl) ?_
              refine m_get Z h 5 (by decide) q234 rfl dX1_revive_50 ?_
              refine lv_iload_n Z.1 Z.2.1 dX1_revive_53 rfl (lv_at hl 3 rfl) ?_
              refine i_const Z dX1_revive_54 ?_
              refine g_ast Z h (m_at_5 dA ad) (m_set_5 dA ad) (by decide) (i := i) (v := 0) (by omega) dX1_revive_55 (fun H locs h => ?_)
              have hX := okX_set hX 4 (i) (0) (by omega)
              refine i_inc (lv' := [(2, .int (iI (k + 1))), (0, .ref (ad 0)), (1, .int (iI (q))), (3, .int (iI (i)))]) Z dX1_revive_56 hl (k := 2) rfl (by decide) rfl (fun ls hl => ?_)
              refine i_inc (lv' := [(3, .int (iI (i + 1))), (2, .int (iI (k + 1))), (0, .ref (ad 0)), (1, .int (iI (q)))]) Z dX1_revive_59 hl (k := 3) rfl (by decide) rfl (fun ls hl => ?_)
              refine lv_goto (tgt := 14) Z.1 Z.2.1 dX1_revive_62 (by decide) ?_
              exact ih (i + 1) (k + 1) ((sU (sU Y 5 (i) (0)) 4 (i) (0))) _ _ _ (by omega) hX (by rw [hY]; exact reP_t (by omega) (by omega)) (by omega) (cn_st (by omega) hk (by omega)) h (lv_sub hl [2, 3, 1, 0] rfl)
    exact loop ((X 0 0 - 0 + 1).toNat) 0 0 X _ _ _ (by omega) hX reP_0.symm (by omega) rfl h (lv_sub hl [2, 3, 1, 0] rfl)
  · refine i_const Z dX1_revive_8 ?_
    exact g_ireturn Z hr hlocks h rfl (Or.inl ⟨by omega, rfl, EQ.rf X⟩) dX1_revive_9
set_option maxHeartbeats 4000000 in
set_option maxRecDepth 100000 in
theorem metX1_pass (l : Launch) (D : va_G) (dA : ClassId) (A : Nat → Prop) (ad : Nat → Nat) (X : zS) (n0 : Int) (N : Int) (hB : BS N X) (hN : N ≤ 64) (hq : -2147483648 ≤ n0 ∧ n0 ≤ 2147483647) : mMi l yX1_pass cX1_pass 4 (some .int) 1 21 D dA A ad [.ref (ad 0), .int (iI n0)] X (fun z X1 => spPass n0 X z X1) := by
  refine g_start_i (by decide) ?_
  intro p e s m below meth c Z hr hlocks h
  have Z : gC RX1 D dA p s m ([.ref (ad 0), .int (iI n0)] : List Value).toArray c cX1_pass 4 := Z
  have hl := lv_entry ([.ref (ad 0), .int (iI n0)]) (n := 4) (Nat.le_of_ble_eq_true rfl)
  rw [lg_entry_eq]
  generalize (lg_sl ([.ref (ad 0), .int (iI n0)]) ++ List.replicate (4 - (lg_sl ([.ref (ad 0), .int (iI n0)])).length) Slot.unset).toArray = ls at hl ⊢
  have hl : lv_has ls 4 [(0, .ref (ad 0)), (1, .int (iI (n0)))] := hl
  obtain ⟨hX, b0, b1, b3, b4, b5, b6, b7, b8, b12, b13, b19⟩ := hB
  obtain ⟨t, ht⟩ : ∃ t, t = X 19 0 + n0 := ⟨_, rfl⟩
  refine lv_iload_n Z.1 Z.2.1 dX1_pass_0 rfl (lv_at hl 1 rfl) ?_
  refine i_if_lt (tgt := 10) Z (by omega) dX1_pass_1 (by decide) (fun c1 => ?_) (fun c1 => ?_)
  · refine i_bipush Z dX1_pass_10 (by decide) ?_
    exact g_ireturn Z hr hlocks h rfl (Or.inl ⟨by omega, rfl, EQ.rf X⟩) dX1_pass_12
  · refine lv_iload_n Z.1 Z.2.1 dX1_pass_4 rfl (lv_at hl 1 rfl) ?_
    refine i_bipush Z dX1_pass_5 (by decide) ?_
    refine i_icmp_le (tgt := 13) Z (by omega) dX1_pass_7 (by decide) (fun c7 => ?_) (fun c7 => ?_)
    · refine lv_aload_n Z.1 Z.2.1 dX1_pass_13 rfl (lv_at hl 0 rfl) ?_
      refine i_dup Z dX1_pass_14 rfl ?_
      refine m_getI Z h 11 (by decide) q240 rfl (v := X 19 (0)) rfl dX1_pass_15 ?_
      have o1 := hX 19 (0)
      refine lv_iload_n Z.1 Z.2.1 dX1_pass_18 rfl (lv_at hl 1 rfl) ?_
      refine i_add Z dX1_pass_19 ?_
      refine m_put (v := (X 19 (0)) + n0) Z h 11 (by decide) q240 (m_put_11 dA ad) rfl (by decide +kernel) dX1_pass_20 (fun H locs h => ?_)
      have hX := okX_set hX 19 0 ((X 19 (0)) + n0) (by omega)
      refine i_const Z dX1_pass_23 ?_
      refine lv_istore_n (lv' := [(2, .int (iI (0))), (0, .ref (ad 0)), (1, .int (iI (n0)))]) Z.1 Z.2.1 dX1_pass_24 rfl hl (by decide) rfl (fun ls hl => ?_)
      refine i_const Z dX1_pass_25 ?_
      refine lv_istore_n (lv' := [(3, .int (iI (0))), (2, .int (iI (0))), (0, .ref (ad 0)), (1, .int (iI (n0)))]) Z.1 Z.2.1 dX1_pass_26 rfl hl (by decide) rfl (fun ls hl => ?_)
      have loop1 : ∀ (n : Nat) (i : Int) (k : Int) (Y : zS) (H : Heap) (locs : List Loc) (ls : Array Slot), (X 0 0 - i < (n : Int)) → (okX Y) → (Y = p1P X t i) → (0 ≤ i ∧ i ≤ X 0 0) → (k = cn (fun a => X 5 a = 1 ∧ X 7 a ≤ t) i) → gH D A (mWG dA ad (gG Y)) s.heap H locs → lv_has ls 4 [(0, .ref (ad 0)), (1, .int (iI (n0))), (2, .int (iI (k))), (3, .int (iI (i)))] → W p l e ({ frames := 1, cells := 0, slots := 0, locals := 21 } : Room) s m ([.ref (ad 0), .int (iI n0)] : List Value).toArray below meth c H locs 0 0 (MQ below (gQi D dA A (mWG dA ad) (fun z X1 => spPass n0 X z X1)) ([.ref (ad 0), .int (iI n0)] : List Value).toArray s 0 0 A) (F0 m 27 ls []) := by
        intro n
        induction n with
        | zero =>
          intro i k Y H locs ls hm hX hY hi hk h hl
          exfalso; omega
        | succ n ih =>
          intro i k Y H locs ls hm hX hY hi hk h hl
          have ek : ∀ k, k ≠ 5 → k ≠ 19 → Y k = X k := fun k hk hk4 => by rw [hY]; exact p1P_k hk hk4
          have e5 : Y 5 i = X 5 i := by rw [hY]; exact p1P_i
          have e0 : Y 0 0 = X 0 0 := by rw [ek 0 (by decide) (by decide)]
          have e7 : Y 7 i = X 7 i := by rw [ek 7 (by decide) (by decide)]
          have e1 : Y 1 i = X 1 i := by rw [ek 1 (by decide) (by decide)]
          have et : Y 19 0 = t := by rw [hY]; exact p1P_T
          have eb : back Y i = back X i := by unfold back; rw [ek 13 (by decide) (by decide), ek 1 (by decide) (by decide), ek 4 (by decide) (by decide)]
          have c1 := b1 i
          rw [← e1] at c1
          refine lv_iload_n Z.1 Z.2.1 dX1_pass_27 rfl (lv_at hl 3 rfl) ?_
          refine lv_aload_n Z.1 Z.2.1 dX1_pass_28 rfl (lv_at hl 0 rfl) ?_
          refine m_getI Z h 0 (by decide) q229 rfl (v := Y 0 (0)) rfl dX1_pass_29 ?_
          have o2 := hX 0 (0)
          refine i_icmp_ge (tgt := 72) Z (by omega) dX1_pass_32 (by decide) (fun c32 => ?_) (fun c32 => ?_)
          · refine i_const Z dX1_pass_72 ?_
            refine lv_istore_n (lv' := [(3, .int (iI (0))), (0, .ref (ad 0)), (1, .int (iI (n0))), (2, .int (iI (k)))]) Z.1 Z.2.1 dX1_pass_73 rfl hl (by decide) rfl (fun ls hl => ?_)
            have hc : k = cn (fun a => X 5 a = 1 ∧ X 7 a ≤ X 19 0 + n0) (X 0 0) := by rw [hk, show i = X 0 0 by omega, ht]
            have loop2 : ∀ (n : Nat) (i : Int) (Y : zS) (H : Heap) (locs : List Loc) (ls : Array Slot), (X 0 0 - i < (n : Int)) → (okX Y) → (Y = p2P X t i) → (0 ≤ i ∧ i ≤ X 0 0) → gH D A (mWG dA ad (gG Y)) s.heap H locs → lv_has ls 4 [(0, .ref (ad 0)), (1, .int (iI (n0))), (2, .int (iI (k))), (3, .int (iI (i)))] → W p l e ({ frames := 1, cells := 0, slots := 0, locals := 21 } : Room) s m ([.ref (ad 0), .int (iI n0)] : List Value).toArray below meth c H locs 0 0 (MQ below (gQi D dA A (mWG dA ad) (fun z X1 => spPass n0 X z X1)) ([.ref (ad 0), .int (iI n0)] : List Value).toArray s 0 0 A) (F0 m 74 ls []) := by
              intro n
              induction n with
              | zero =>
                intro i Y H locs ls hm hX hY hi h hl
                exfalso; omega
              | succ n ih =>
                intro i Y H locs ls hm hX hY hi h hl
                have ek : ∀ k, k ≠ 5 → k ≠ 19 → Y k = X k := fun k hk hk4 => by rw [hY]; exact p2P_k hk hk4
                have e0 : Y 0 0 = X 0 0 := by rw [ek 0 (by decide) (by decide)]
                have e8 : Y 8 i = X 8 i := by rw [ek 8 (by decide) (by decide)]
                have et : Y 19 0 = t := by rw [hY]; exact p2P_T
                have e5 : i < X 0 0 → Y 5 i = pa1 X t i := fun w => by rw [hY]; exact p2P_i hi.1 w
                refine lv_iload_n Z.1 Z.2.1 dX1_pass_74 rfl (lv_at hl 3 rfl) ?_
                refine lv_aload_n Z.1 Z.2.1 dX1_pass_75 rfl (lv_at hl 0 rfl) ?_
                refine m_getI Z h 0 (by decide) q229 rfl (v := Y 0 (0)) rfl dX1_pass_76 ?_
                have o3 := hX 0 (0)
                refine i_icmp_ge (tgt := 126) Z (by omega) dX1_pass_79 (by decide) (fun c79 => ?_) (fun c79 => ?_)
                · refine lv_iload_n Z.1 Z.2.1 dX1_pass_126 rfl (lv_at hl 2 rfl) ?_
                  exact g_ireturn Z hr hlocks h rfl (Or.inr ⟨by omega, hc, by rw [hY, show i = X 0 0 by omega, ht, p2P_n]; exact EQ.rf _⟩) dX1_pass_127
                · refine lv_aload_n Z.1 Z.2.1 dX1_pass_82 rfl (lv_at hl 0 rfl) ?_
                  refine m_get Z h 4 (by decide) q233 rfl dX1_pass_83 ?_
                  refine lv_iload_n Z.1 Z.2.1 dX1_pass_86 rfl (lv_at hl 3 rfl) ?_
                  refine g_ald Z h (m_at_4 dA ad) (by decide) (v := Y 5 (i)) (by omega) rfl dX1_pass_87 ?_
                  have o4 := hX 5 (i)
                  refine i_if_ne (tgt := 120) Z (by omega) dX1_pass_88 (by decide) (fun c88 => ?_) (fun c88 => ?_)
                  · refine i_inc (lv' := [(3, .int (iI (i + 1))), (0, .ref (ad 0)), (1, .int (iI (n0))), (2, .int (iI (k)))]) Z dX1_pass_120 hl (k := 3) rfl (by decide) rfl (fun ls hl => ?_)
                    refine lv_goto (tgt := 74) Z.1 Z.2.1 dX1_pass_123 (by decide) ?_
                    exact ih (i + 1) Y _ _ _ (by omega) hX (by rw [hY]; exact p2P_f (fun w => by rw [← e5 (by omega)] at w; omega)) (by omega) h (lv_sub hl [1, 2, 3, 0] rfl)
                  · refine lv_aload_n Z.1 Z.2.1 dX1_pass_91 rfl (lv_at hl 0 rfl) ?_
                    refine m_get Z h 8 (by decide) q237 rfl dX1_pass_92 ?_
                    refine lv_iload_n Z.1 Z.2.1 dX1_pass_95 rfl (lv_at hl 3 rfl) ?_
                    refine g_ald Z h (m_at_8 dA ad) (by decide) (v := Y 8 (i)) (by omega) rfl dX1_pass_96 ?_
                    have o5 := hX 8 (i)
                    refine i_if_lt (tgt := 120) Z (by omega) dX1_pass_97 (by decide) (fun c97 => ?_) (fun c97 => ?_)
                    · refine i_inc (lv' := [(3, .int (iI (i + 1))), (0, .ref (ad 0)), (1, .int (iI (n0))), (2, .int (iI (k)))]) Z dX1_pass_120 hl (k := 3) rfl (by decide) rfl (fun ls hl => ?_)
                      refine lv_goto (tgt := 74) Z.1 Z.2.1 dX1_pass_123 (by decide) ?_
                      exact ih (i + 1) Y _ _ _ (by omega) hX (by rw [hY]; exact p2P_f (fun w => by rw [← e5 (by omega)] at w; omega)) (by omega) h (lv_sub hl [1, 2, 3, 0] rfl)
                    · refine lv_aload_n Z.1 Z.2.1 dX1_pass_100 rfl (lv_at hl 0 rfl) ?_
                      refine m_get Z h 8 (by decide) q237 rfl dX1_pass_101 ?_
                      refine lv_iload_n Z.1 Z.2.1 dX1_pass_104 rfl (lv_at hl 3 rfl) ?_
                      refine g_ald Z h (m_at_8 dA ad) (by decide) (v := Y 8 (i)) (by omega) rfl dX1_pass_105 ?_
                      have o6 := hX 8 (i)
                      refine lv_aload_n Z.1 Z.2.1 dX1_pass_106 rfl (lv_at hl 0 rfl) ?_
                      refine m_getI Z h 11 (by decide) q240 rfl (v := Y 19 (0)) rfl dX1_pass_107 ?_
                      have o7 := hX 19 (0)
                      refine i_icmp_gt (tgt := 120) Z (by omega) dX1_pass_110 (by decide) (fun c110 => ?_) (fun c110 => ?_)
                      · refine i_inc (lv' := [(3, .int (iI (i + 1))), (0, .ref (ad 0)), (1, .int (iI (n0))), (2, .int (iI (k)))]) Z dX1_pass_120 hl (k := 3) rfl (by decide) rfl (fun ls hl => ?_)
                        refine lv_goto (tgt := 74) Z.1 Z.2.1 dX1_pass_123 (by decide) ?_
                        exact ih (i + 1) Y _ _ _ (by omega) hX (by rw [hY]; exact p2P_f (fun w => by rw [← e5 (by omega)] at w; omega)) (by omega) h (lv_sub hl [1, 2, 3, 0] rfl)
                      · refine lv_aload_n Z.1 Z.2.1 dX1_pass_113 rfl (lv_at hl 0 rfl) ?_
                        refine m_get Z h 4 (by decide) q233 rfl dX1_pass_114 ?_
                        refine lv_iload_n Z.1 Z.2.1 dX1_pass_117 rfl (lv_at hl 3 rfl) ?_
                        refine i_const Z dX1_pass_118 ?_
                        refine g_ast Z h (m_at_4 dA ad) (m_set_4 dA ad) (by decide) (i := i) (v := 2) (by omega) dX1_pass_119 (fun H locs h => ?_)
                        have hX := okX_set hX 5 (i) (2) (by omega)
                        refine i_inc (lv' := [(3, .int (iI (i + 1))), (0, .ref (ad 0)), (1, .int (iI (n0))), (2, .int (iI (k)))]) Z dX1_pass_120 hl (k := 3) rfl (by decide) rfl (fun ls hl => ?_)
                        refine lv_goto (tgt := 74) Z.1 Z.2.1 dX1_pass_123 (by decide) ?_
                        exact ih (i + 1) ((sU Y 5 (i) (2))) _ _ _ (by omega) hX (by rw [hY]; exact p2P_t (by omega) (by omega) ⟨by rw [← e5 (by omega)]; omega, by omega, by omega⟩) (by omega) h (lv_sub hl [1, 2, 3, 0] rfl)
            exact loop2 ((X 0 0 - 0 + 1).toNat) 0 Y _ _ _ (by omega) hX (by rw [hY, p2P_0, show i = X 0 0 by omega]) (by omega) h (lv_sub hl [1, 2, 3, 0] rfl)
          · refine lv_aload_n Z.1 Z.2.1 dX1_pass_35 rfl (lv_at hl 0 rfl) ?_
            refine m_get Z h 4 (by decide) q233 rfl dX1_pass_36 ?_
            refine lv_iload_n Z.1 Z.2.1 dX1_pass_39 rfl (lv_at hl 3 rfl) ?_
            refine g_ald Z h (m_at_4 dA ad) (by decide) (v := Y 5 (i)) (by omega) rfl dX1_pass_40 ?_
            have o8 := hX 5 (i)
            refine i_const Z dX1_pass_41 ?_
            refine i_icmp_ne (tgt := 66) Z (by omega) dX1_pass_42 (by decide) (fun c42 => ?_) (fun c42 => ?_)
            · refine i_inc (lv' := [(3, .int (iI (i + 1))), (0, .ref (ad 0)), (1, .int (iI (n0))), (2, .int (iI (k)))]) Z dX1_pass_66 hl (k := 3) rfl (by decide) rfl (fun ls hl => ?_)
              refine lv_goto (tgt := 27) Z.1 Z.2.1 dX1_pass_69 (by decide) ?_
              exact ih (i + 1) k Y _ _ _ (by omega) hX (by rw [hY]; exact p1P_f (by omega)) (by omega) (cn_st (by omega) hk (by omega)) h (lv_sub hl [1, 2, 3, 0] rfl)
            · refine lv_aload_n Z.1 Z.2.1 dX1_pass_45 rfl (lv_at hl 0 rfl) ?_
              refine m_get Z h 7 (by decide) q236 rfl dX1_pass_46 ?_
              refine lv_iload_n Z.1 Z.2.1 dX1_pass_49 rfl (lv_at hl 3 rfl) ?_
              refine g_ald Z h (m_at_7 dA ad) (by decide) (v := Y 7 (i)) (by omega) rfl dX1_pass_50 ?_
              have o9 := hX 7 (i)
              refine lv_aload_n Z.1 Z.2.1 dX1_pass_51 rfl (lv_at hl 0 rfl) ?_
              refine m_getI Z h 11 (by decide) q240 rfl (v := Y 19 (0)) rfl dX1_pass_52 ?_
              have o10 := hX 19 (0)
              refine i_icmp_gt (tgt := 66) Z (by omega) dX1_pass_55 (by decide) (fun c55 => ?_) (fun c55 => ?_)
              · refine i_inc (lv' := [(3, .int (iI (i + 1))), (0, .ref (ad 0)), (1, .int (iI (n0))), (2, .int (iI (k)))]) Z dX1_pass_66 hl (k := 3) rfl (by decide) rfl (fun ls hl => ?_)
                refine lv_goto (tgt := 27) Z.1 Z.2.1 dX1_pass_69 (by decide) ?_
                exact ih (i + 1) k Y _ _ _ (by omega) hX (by rw [hY]; exact p1P_f (by omega)) (by omega) (cn_st (by omega) hk (by omega)) h (lv_sub hl [1, 2, 3, 0] rfl)
              · refine lv_aload_n Z.1 Z.2.1 dX1_pass_58 rfl (lv_at hl 0 rfl) ?_
                refine lv_iload_n Z.1 Z.2.1 dX1_pass_59 rfl (lv_at hl 3 rfl) ?_
                refine g_callv (As := [.int (iI (i))]) (rest := []) (q := (RX1, TX1, 12)) (ci := 1) Z h (metX1_comeBack l D dA A ad Y i hX (by omega) (by first | omega | exact b1 _)) (cwV 1 Z.2.2.2.2.1 (lw_V q306 q308 qs20 q23 q309) rfl rfl rfl (by decide +kernel) ⟨Nat.le_of_ble_eq_true rfl, Nat.le_of_ble_eq_true rfl⟩) rfl rfl rfl hl.1 rfl (Nat.le_of_ble_eq_true rfl) ⟨Nat.zero_le _, Nat.zero_le _⟩ dX1_pass_60 (fun X60 H locs hp60 h => ?_)
                obtain ⟨hX, e9⟩ := hp60
                rw [e9] at h hX
                refine i_inc (lv' := [(2, .int (iI (k + 1))), (0, .ref (ad 0)), (1, .int (iI (n0))), (3, .int (iI (i)))]) Z dX1_pass_63 hl (k := 2) rfl (by decide) rfl (fun ls hl => ?_)
                refine i_inc (lv' := [(3, .int (iI (i + 1))), (2, .int (iI (k + 1))), (0, .ref (ad 0)), (1, .int (iI (n0)))]) Z dX1_pass_66 hl (k := 3) rfl (by decide) rfl (fun ls hl => ?_)
                refine lv_goto (tgt := 27) Z.1 Z.2.1 dX1_pass_69 (by decide) ?_
                exact ih (i + 1) (k + 1) ((sU Y 5 (i) (back Y i))) _ _ _ (by omega) hX (by rw [eb, hY]; exact p1P_t (by omega) (by omega)) (by omega) (cn_st (by omega) hk (by omega)) h (lv_sub hl [2, 3, 1, 0] rfl)
      exact loop1 ((X 0 0 - 0 + 1).toNat) 0 0 ((sU X 19 (0) ((X 19 (0)) + n0))) _ _ _ (by omega) hX (by rw [p1P_0, ht]) (by omega) rfl h (lv_sub hl [2, 3, 1, 0] rfl)
    · refine i_bipush Z dX1_pass_10 (by decide) ?_
      exact g_ireturn Z hr hlocks h rfl (Or.inl ⟨by omega, rfl, EQ.rf X⟩) dX1_pass_12
end
section
/-! the class's own tables: heaps by queue, lives, what is out -/
theorem bij_congr {h h2 ps ps2 : Int → Int} {n : Int} {S S2 : Int → Prop} (hB : Bij h ps n S) (e1 : ∀ j, 0 ≤ j → j < n → h2 j = h j) (e2 : ∀ a, S a → ps2 a = ps a) (e3 : ∀ a, S a ↔ S2 a) : Bij h2 ps2 n S2 := by
  obtain ⟨h0, h1, h3⟩ := hB
  refine ⟨h0, ?_, ?_⟩
  · intro j j0 j1
    rw [e1 j j0 j1]
    have q := h1 j j0 j1
    exact ⟨(e3 _).mp q.1, by rw [e2 _ q.1]; exact q.2⟩
  · intro a ha
    have ha := (e3 a).mpr ha
    obtain ⟨q0, q1, q2⟩ := h3 a ha
    rw [e2 a ha]
    exact ⟨q0, q1, by rw [e1 _ q0 q1]; exact q2⟩
theorem hp_congr {h h2 : Int → Int} {n : Int} {lt : Int → Int → Prop} (hH : Hp h n lt) (e1 : ∀ j, 0 ≤ j → j < n → h2 j = h j) : Hp h2 n lt := by
  intro j j0 j1
  rw [e1 j (by omega) j1, e1 ((j - 1) / 2) (by omega) (by omega)]
  exact hH j j0 j1
theorem bij_le1 {h ps : Int → Int} {n N a : Int} {S : Int → Prop} (hB : Bij h ps n S) (hS : ∀ b, S b → 0 ≤ b ∧ b < N) (a0 : 0 ≤ a) (a1 : a < N) (ha : ¬ S a) : n + 1 ≤ N := by
  have e := bij_n hB hS
  have e2 : cn (fun b => S b ∨ b = a) N = cn S N + 1 := cn_flip a0 a1 ha (Or.inr rfl) (fun i _ _ d => ⟨Or.inl, fun w => w.resolve_right d⟩)
  have := cn_rng (fun b => S b ∨ b = a) (z := N) (by omega)
  omega
def hsg (X : zS) (q : Int) : Int → Int := fun j => X 10 (q * 40 + j)
def plc (Y : zS) (q i x : Int) : zS := sU (sU Y 10 (q * 40 + i) x) 11 x i
theorem plc_h {Y : zS} {q i x : Int} : hsg (plc Y q i x) q = uI (hsg Y q) i x := by
  funext j
  unfold hsg plc
  rw [sU_k (by decide), sU_u]
  unfold uI
  by_cases e : j = i
  · subst e; rw [if_pos rfl, if_pos rfl]
  · rw [if_neg e, if_neg (by omega)]
theorem plc_p {Y : zS} {q i x : Int} : plc Y q i x 11 = uI (Y 11) x i := by
  unfold plc
  rw [sU_u, sU_k (by decide)]
theorem plc_k {Y : zS} {q i x : Int} {k : Nat} (h1 : k ≠ 10) (h2 : k ≠ 11) : plc Y q i x k = Y k := by
  unfold plc
  rw [sU_k h2, sU_k h1]
/-- what work on the queue q with the members T leaves -/
def FR (X Y : zS) (q : Int) (S : Int → Prop) : Prop := okX Y ∧ (∀ k, k ≠ 10 → k ≠ 11 → Y k = X k) ∧ (∀ j, (j < q * 40 ∨ q * 40 + 40 ≤ j) → Y 10 j = X 10 j) ∧ (∀ a, ¬ S a → Y 11 a = X 11 a)
theorem FR.rf {X : zS} {q : Int} {S : Int → Prop} (h : okX X) : FR X X q S := ⟨h, fun _ _ _ => rfl, fun _ _ => rfl, fun _ _ => rfl⟩
theorem FR.plc {X Y : zS} {q i x : Int} {S : Int → Prop} (h : FR X Y q S) (hi : 0 ≤ i ∧ i < 40) (hx : S x) (hb : 0 ≤ x ∧ x < 40) : FR X (plc Y q i x) q S := by
  obtain ⟨h1, h2, h3, h4⟩ := h
  refine ⟨okX_set (okX_set h1 10 _ x (by omega)) 11 x i (by omega), fun k a b => by rw [plc_k a b]; exact h2 k a b, fun j hj => ?_, fun a ha => ?_⟩
  · show sU (sU Y 10 (q * 40 + i) x) 11 x i 10 j = X 10 j
    rw [sU_k (by decide), sU_i (by omega)]
    exact h3 j hj
  · have hne : a ≠ x := fun w => ha (by rw [w]; exact hx)
    rw [plc_p, uI_n hne]
    exact h4 a ha
def HQs (X : zS) (S : Int → Int → Prop) : Prop := ∀ q, 0 ≤ q → q ≤ 2 → Bij (hsg X q) (X 11) (X 9 q) (S q) ∧ Hp (hsg X q) (X 9 q) (bq (X 3))
/-- each queue's heap holds its ready messages -/
def HQ (X : zS) : Prop := HQs X (rdy X)
/-- the same, but m is in none -/
def HQm (X : zS) (m : Int) : Prop := HQs X (fun q a => rdy X q a ∧ a ≠ m)
theorem HQ_q {X X2 Y : zS} {q n : Int} {S S2 : Int → Int → Prop} {T : Int → Prop} (hQ : HQs X S) (h40 : ∀ r, 0 ≤ r → r ≤ 2 → 0 ≤ X 9 r ∧ X 9 r ≤ 40) (hF : FR X2 Y q T) (e3 : X2 3 = X 3) (e9 : ∀ r, r ≠ q → X2 9 r = X 9 r) (e9q : X2 9 q = n) (e10 : X2 10 = X 10) (e11 : X2 11 = X 11) (hB : Bij (hsg Y q) (Y 11) n T) (hH : Hp (hsg Y q) n (bq (X 3))) (hT : ∀ r b, r ≠ q → S r b → ¬ T b) (hS : ∀ r b, r ≠ q → (S r b ↔ S2 r b)) (hSq : ∀ b, T b ↔ S2 q b) : HQs Y S2 := by
  obtain ⟨f1, f2, f3, f4⟩ := hF
  intro r r0 r1
  have e3Y : Y 3 = X 3 := by rw [f2 3 (by decide) (by decide), e3]
  rw [e3Y]
  by_cases e : r = q
  · subst e
    rw [show Y 9 r = n by rw [f2 9 (by decide) (by decide), e9q]]
    exact ⟨bij_congr hB (fun _ _ _ => rfl) (fun _ _ => rfl) hSq, hH⟩
  · rw [show Y 9 r = X 9 r by rw [f2 9 (by decide) (by decide), e9 r e]]
    have hc := hQ r r0 r1
    have hn := h40 r r0 r1
    have e1 : ∀ j, 0 ≤ j → j < X 9 r → hsg Y r j = hsg X r j := by
      intro j j0 j1
      unfold hsg
      rw [f3 _ (by omega), e10]
    exact ⟨bij_congr hc.1 e1 (fun a ha => by rw [f4 a (hT r a e ha), e11]) (fun a => hS r a e), hp_congr hc.2 e1⟩
theorem HQs.n40 {X : zS} {S : Int → Int → Prop} (hQ : HQs X S) (hc : 0 ≤ X 0 0 ∧ X 0 0 ≤ 40) (hS : ∀ r b, S r b → 0 ≤ b ∧ b < X 0 0) : ∀ r, 0 ≤ r → r ≤ 2 → 0 ≤ X 9 r ∧ X 9 r ≤ 40 := by
  intro r r0 r1
  have h := hQ r r0 r1
  have := bij_le h.1 hc.1 (hS r)
  exact ⟨h.1.1, by omega⟩
theorem HQ_congr {X Y : zS} {S S2 : Int → Int → Prop} (hQ : HQs X S) (e3 : Y 3 = X 3) (e9 : Y 9 = X 9) (e10 : Y 10 = X 10) (e11 : Y 11 = X 11) (hS : ∀ r b, S r b ↔ S2 r b) : HQs Y S2 := by
  intro r r0 r1
  have h := hQ r r0 r1
  rw [e3, e9, e11]
  have e : hsg Y r = hsg X r := by unfold hsg; rw [e10]
  rw [e]
  exact ⟨bij_congr h.1 (fun _ _ _ => rfl) (fun _ _ => rfl) (hS r), h.2⟩
/-- a message that isn't ready any more leaves the heaps whole -/
theorem HQm.out {X : zS} {m v : Int} (h : HQm X m) (hv : v ≠ 0) : HQ (sU X 5 m v) := by
  refine HQ_congr h (sU_k (by decide)) (sU_k (by decide)) (sU_k (by decide)) (sU_k (by decide)) (fun r b => ?_)
  unfold rdy
  rw [sU_k (by decide), sU_k (by decide), sU_u]
  by_cases e : b = m
  · subst e; rw [uI_s]; constructor
    · intro w; exact absurd rfl w.2
    · intro w; exact absurd w.2.2.2 hv
  · rw [uI_n e]; constructor
    · intro w; exact w.1
    · intro w; exact ⟨w, e⟩
/-- a message that isn't ready: the heaps are whole without it -/
theorem HQ.hm {X : zS} {m : Int} (h : HQ X) (hm : X 5 m ≠ 0) : HQm X m := by
  refine HQ_congr h rfl rfl rfl rfl (fun r b => ⟨fun w => ⟨w, fun e => hm (e ▸ w.2.2.2)⟩, fun w => w.1⟩)
theorem ready_made {X Y : zS} {m : Int} (hc : 0 ≤ X 0 0 ∧ X 0 0 ≤ 40) (hm : 0 ≤ m ∧ m < X 0 0) (h1 : 0 ≤ X 1 m ∧ X 1 m ≤ 2) (hQ : HQm X m) (hF : FR (sU (sU X 5 m 0) 9 (X 1 m) (X 9 (X 1 m) + 1)) Y (X 1 m) (fun b => (rdy X (X 1 m) b ∧ b ≠ m) ∨ b = m)) (hB : Bij (hsg Y (X 1 m)) (Y 11) (X 9 (X 1 m) + 1) (fun b => (rdy X (X 1 m) b ∧ b ≠ m) ∨ b = m)) (hH : Hp (hsg Y (X 1 m)) (X 9 (X 1 m) + 1) (bq (X 3))) :
    okX Y ∧ Y 5 = uI (X 5) m 0 ∧ (∀ k, k ≠ 5 → k ≠ 9 → k ≠ 10 → k ≠ 11 → Y k = X k) ∧ HQ Y := by
  have ek : ∀ k, k ≠ 5 → k ≠ 9 → k ≠ 10 → k ≠ 11 → Y k = X k := fun k a b c d => by rw [hF.2.1 k c d, sU_k b, sU_k a]
  have e5 : Y 5 = uI (X 5) m 0 := by rw [hF.2.1 5 (by decide) (by decide), sU_k (by decide), sU_u]
  refine ⟨hF.1, e5, ek, ?_⟩
  have hr : ∀ r b, rdy Y r b ↔ (rdy X r b ∧ b ≠ m) ∨ (b = m ∧ r = X 1 m) := by
    intro r b
    unfold rdy
    rw [ek 0 (by decide) (by decide) (by decide) (by decide), ek 1 (by decide) (by decide) (by decide) (by decide), e5]
    by_cases e : b = m
    · subst e
      rw [uI_s]
      constructor
      · intro w; exact Or.inr ⟨rfl, w.2.2.1.symm⟩
      · intro w
        rcases w with w | w
        · exact absurd rfl w.2
        · exact ⟨hm.1, hm.2, w.2.symm, rfl⟩
    · rw [uI_n e]
      constructor
      · intro w; exact Or.inl ⟨w, e⟩
      · intro w
        rcases w with w | w
        · exact w.1
        · exact absurd w.1 e
  refine HQ_q hQ (hQ.n40 hc (fun r b w => ⟨w.1.1, w.1.2.1⟩)) hF (by rw [sU_k (by decide), sU_k (by decide)]) (fun r hr9 => by rw [sU_i hr9, sU_k (by decide)]) sU_s (by rw [sU_k (by decide), sU_k (by decide)]) (by rw [sU_k (by decide), sU_k (by decide)]) hB hH ?_ ?_ ?_
  · intro r b hne w v
    rcases v with v | v
    · exact hne (by rw [← w.1.2.2.1, v.1.2.2.1])
    · exact w.2 v
  · intro r b hne
    rw [hr]
    constructor
    · intro w; exact Or.inl w
    · intro w
      rcases w with w | w
      · exact w
      · exact absurd w.2 hne
  · intro b
    rw [hr]
    constructor
    · intro w
      rcases w with w | w
      · exact Or.inl w
      · exact Or.inr ⟨w, rfl⟩
    · intro w
      rcases w with w | w
      · exact Or.inl w
      · exact Or.inr w.1
theorem taken_out {X Y : zS} {m : Int} (hc : 0 ≤ X 0 0 ∧ X 0 0 ≤ 40) (hQ : HQ X) (hF : FR (sU X 9 (X 1 m) (X 9 (X 1 m) - 1)) Y (X 1 m) (fun b => rdy X (X 1 m) b ∧ b ≠ m)) (hB : Bij (hsg Y (X 1 m)) (Y 11) (X 9 (X 1 m) - 1) (fun b => rdy X (X 1 m) b ∧ b ≠ m)) (hH : Hp (hsg Y (X 1 m)) (X 9 (X 1 m) - 1) (bq (X 3))) :
    okX Y ∧ (∀ k, k ≠ 9 → k ≠ 10 → k ≠ 11 → Y k = X k) ∧ HQm Y m := by
  have ek : ∀ k, k ≠ 9 → k ≠ 10 → k ≠ 11 → Y k = X k := fun k b c d => by rw [hF.2.1 k c d, sU_k b]
  refine ⟨hF.1, ek, ?_⟩
  have hr : ∀ r b, rdy Y r b ↔ rdy X r b := by
    intro r b
    unfold rdy
    rw [ek 0 (by decide) (by decide) (by decide), ek 1 (by decide) (by decide) (by decide), ek 5 (by decide) (by decide) (by decide)]
  refine HQ_q hQ (HQs.n40 hQ hc (fun r b w => ⟨w.1, w.2.1⟩)) hF (by rw [sU_k (by decide)]) (fun r hr9 => by rw [sU_i hr9]) sU_s (by rw [sU_k (by decide)]) (by rw [sU_k (by decide)]) hB hH ?_ ?_ ?_
  · intro r b hne w v
    exact hne (by rw [← w.2.2.1, v.1.2.2.1])
  · intro r b hne
    rw [hr]
    constructor
    · intro w
      refine ⟨w, fun e => hne ?_⟩
      rw [← w.2.2.1, e]
    · intro w; exact w.1
  · intro b
    rw [hr]
/-- the lives: a heap by their ends of messages that have one; no ready message but m is wanting -/
def LVm (X : zS) (m : Int) : Prop := ∃ (L : Int → Prop) (ps : Int → Int), Bij (X 18) ps (X 17 0) L ∧ Hp (X 18) (X 17 0) (bl (X 8)) ∧ (∀ b, L b → 0 ≤ b ∧ b < X 0 0 ∧ 0 ≤ X 8 b) ∧ (∀ b, 0 ≤ b → b < X 0 0 → X 5 b = 0 → 0 ≤ X 8 b → b ≠ m → L b)
def LV (X : zS) : Prop := ∃ (L : Int → Prop) (ps : Int → Int), Bij (X 18) ps (X 17 0) L ∧ Hp (X 18) (X 17 0) (bl (X 8)) ∧ (∀ b, L b → 0 ≤ b ∧ b < X 0 0 ∧ 0 ≤ X 8 b) ∧ (∀ b, 0 ≤ b → b < X 0 0 → X 5 b = 0 → 0 ≤ X 8 b → L b)
theorem LV.hm {X : zS} (h : LV X) (m : Int) : LVm X m := by
  obtain ⟨L, ps, h1, h2, h3, h4⟩ := h
  exact ⟨L, ps, h1, h2, h3, fun b a c d e _ => h4 b a c d e⟩
theorem LV_congr {X Y : zS} (h : LV X) (e17 : Y 17 0 = X 17 0) (e18 : Y 18 = X 18) (e8 : Y 8 = X 8) (e0 : Y 0 0 = X 0 0) (e5 : ∀ b, 0 ≤ b → b < X 0 0 → Y 5 b = 0 → X 5 b = 0) : LV Y := by
  obtain ⟨L, ps, h1, h2, h3, h4⟩ := h
  refine ⟨L, ps, by rw [e17, e18]; exact h1, by rw [e17, e18, e8]; exact h2, by rw [e0, e8]; exact h3, fun b b0 b1 b2 b3 => ?_⟩
  rw [e0] at b1
  rw [e8] at b3
  exact h4 b b0 b1 (e5 b b0 b1 b2) b3
theorem LVm_congr {X Y : zS} {m : Int} (h : LVm X m) (e17 : Y 17 0 = X 17 0) (e18 : Y 18 = X 18) (e8 : Y 8 = X 8) (e0 : Y 0 0 = X 0 0) (e5 : ∀ b, 0 ≤ b → b < X 0 0 → b ≠ m → Y 5 b = 0 → X 5 b = 0) : LVm Y m := by
  obtain ⟨L, ps, h1, h2, h3, h4⟩ := h
  refine ⟨L, ps, by rw [e17, e18]; exact h1, by rw [e17, e18, e8]; exact h2, by rw [e0, e8]; exact h3, fun b b0 b1 b2 b3 b4 => ?_⟩
  rw [e0] at b1
  rw [e8] at b3
  exact h4 b b0 b1 (e5 b b0 b1 b4 b2) b3 b4
def isOut (X : zS) (b : Int) : Prop := 0 ≤ b ∧ b < X 0 0 ∧ X 5 b = 1
/-- what is out: by deadline, and counted by consumer -/
def OL (X : zS) (T : Int → Prop) : Prop := (∃ ps : Int → Int, Bij (X 15) ps (X 14 0) T) ∧ (∀ i j, 0 ≤ i → i ≤ j → j < X 14 0 → X 7 (X 15 i) ≤ X 7 (X 15 j))
def HL (X : zS) : Prop := ∀ c, 0 ≤ c → c ≤ 2 → X 16 c = outN X c ∧ X 16 c ≤ 2
def OU (X : zS) : Prop := OL X (isOut X) ∧ HL X
def IN (N : Int) (X : zS) : Prop := BS N X ∧ HQ X ∧ LV X ∧ OU X
end
section
set_option maxHeartbeats 4000000 in
set_option maxRecDepth 100000 in
theorem metX0_before (l : Launch) (D : va_G) (dA : ClassId) (A : Nat → Prop) (ad : Nat → Nat) (X : zS) (a b : Int) (hX : okX X) (ha : 0 ≤ a ∧ a < 40) (hb : 0 ≤ b ∧ b < 40) : cMi l yX0_before cX0_before 3 (some .boolean) 0 0 D dA A ad [.ref (ad 0), .int (iI a), .int (iI b)] X (fun z X1 => X1 = X ∧ ((bq (X 3) a b ∧ z = 1) ∨ (¬ bq (X 3) a b ∧ z = 0))) := by
  refine g_start_i (by decide) ?_
  intro p e s m below meth c Z hr hlocks h
  have Z : gC RX0 D dA p s m ([.ref (ad 0), .int (iI a), .int (iI b)] : List Value).toArray c cX0_before 3 := Z
  have hl := lv_entry ([.ref (ad 0), .int (iI a), .int (iI b)]) (n := 3) (Nat.le_of_ble_eq_true rfl)
  rw [lg_entry_eq]
  generalize (lg_sl ([.ref (ad 0), .int (iI a), .int (iI b)]) ++ List.replicate (3 - (lg_sl ([.ref (ad 0), .int (iI a), .int (iI b)])).length) Slot.unset).toArray = ls at hl ⊢
  have hl : lv_has ls 3 [(0, .ref (ad 0)), (1, .int (iI (a))), (2, .int (iI (b)))] := hl
  refine lv_aload_n Z.1 Z.2.1 dX0_before_0 rfl (lv_at hl 0 rfl) ?_
  refine c_get Z h 3 (by decide) q35 rfl dX0_before_1 ?_
  refine lv_iload_n Z.1 Z.2.1 dX0_before_4 rfl (lv_at hl 1 rfl) ?_
  refine g_ald Z h (c_at_3 dA ad) (by decide) (v := X 3 (a)) (by omega) rfl dX0_before_5 ?_
  have o1 := hX 3 (a)
  refine lv_aload_n Z.1 Z.2.1 dX0_before_6 rfl (lv_at hl 0 rfl) ?_
  refine c_get Z h 3 (by decide) q35 rfl dX0_before_7 ?_
  refine lv_iload_n Z.1 Z.2.1 dX0_before_10 rfl (lv_at hl 2 rfl) ?_
  refine g_ald Z h (c_at_3 dA ad) (by decide) (v := X 3 (b)) (by omega) rfl dX0_before_11 ?_
  have o2 := hX 3 (b)
  refine i_icmp_eq (tgt := 38) Z (by omega) dX0_before_12 (by decide) (fun c12 => ?_) (fun c12 => ?_)
  · refine lv_iload_n Z.1 Z.2.1 dX0_before_38 rfl (lv_at hl 1 rfl) ?_
    refine lv_iload_n Z.1 Z.2.1 dX0_before_39 rfl (lv_at hl 2 rfl) ?_
    refine i_icmp_ge (tgt := 47) Z (by omega) dX0_before_40 (by decide) (fun c40 => ?_) (fun c40 => ?_)
    · refine i_const Z dX0_before_47 ?_
      exact g_ireturn Z hr hlocks h rfl (⟨rfl, by unfold bq; omega⟩) dX0_before_48
    · refine i_const Z dX0_before_43 ?_
      refine lv_goto (tgt := 48) Z.1 Z.2.1 dX0_before_44 (by decide) ?_
      exact g_ireturn Z hr hlocks h rfl (⟨rfl, by unfold bq; omega⟩) dX0_before_48
  · refine lv_aload_n Z.1 Z.2.1 dX0_before_15 rfl (lv_at hl 0 rfl) ?_
    refine c_get Z h 3 (by decide) q35 rfl dX0_before_16 ?_
    refine lv_iload_n Z.1 Z.2.1 dX0_before_19 rfl (lv_at hl 1 rfl) ?_
    refine g_ald Z h (c_at_3 dA ad) (by decide) (v := X 3 (a)) (by omega) rfl dX0_before_20 ?_
    have o3 := hX 3 (a)
    refine lv_aload_n Z.1 Z.2.1 dX0_before_21 rfl (lv_at hl 0 rfl) ?_
    refine c_get Z h 3 (by decide) q35 rfl dX0_before_22 ?_
    refine lv_iload_n Z.1 Z.2.1 dX0_before_25 rfl (lv_at hl 2 rfl) ?_
    refine g_ald Z h (c_at_3 dA ad) (by decide) (v := X 3 (b)) (by omega) rfl dX0_before_26 ?_
    have o4 := hX 3 (b)
    refine i_icmp_le (tgt := 34) Z (by omega) dX0_before_27 (by decide) (fun c27 => ?_) (fun c27 => ?_)
    · refine i_const Z dX0_before_34 ?_
      refine lv_goto (tgt := 48) Z.1 Z.2.1 dX0_before_35 (by decide) ?_
      exact g_ireturn Z hr hlocks h rfl (⟨rfl, by unfold bq; omega⟩) dX0_before_48
    · refine i_const Z dX0_before_30 ?_
      refine lv_goto (tgt := 48) Z.1 Z.2.1 dX0_before_31 (by decide) ?_
      exact g_ireturn Z hr hlocks h rfl (⟨rfl, by unfold bq; omega⟩) dX0_before_48
set_option maxHeartbeats 4000000 in
set_option maxRecDepth 100000 in
theorem metX0_diesBefore (l : Launch) (D : va_G) (dA : ClassId) (A : Nat → Prop) (ad : Nat → Nat) (X : zS) (a b : Int) (hX : okX X) (ha : 0 ≤ a ∧ a < 40) (hb : 0 ≤ b ∧ b < 40) : cMi l yX0_diesBefore cX0_diesBefore 3 (some .boolean) 0 0 D dA A ad [.ref (ad 0), .int (iI a), .int (iI b)] X (fun z X1 => X1 = X ∧ ((bl (X 8) a b ∧ z = 1) ∨ (¬ bl (X 8) a b ∧ z = 0))) := by
  refine g_start_i (by decide) ?_
  intro p e s m below meth c Z hr hlocks h
  have Z : gC RX0 D dA p s m ([.ref (ad 0), .int (iI a), .int (iI b)] : List Value).toArray c cX0_diesBefore 3 := Z
  have hl := lv_entry ([.ref (ad 0), .int (iI a), .int (iI b)]) (n := 3) (Nat.le_of_ble_eq_true rfl)
  rw [lg_entry_eq]
  generalize (lg_sl ([.ref (ad 0), .int (iI a), .int (iI b)]) ++ List.replicate (3 - (lg_sl ([.ref (ad 0), .int (iI a), .int (iI b)])).length) Slot.unset).toArray = ls at hl ⊢
  have hl : lv_has ls 3 [(0, .ref (ad 0)), (1, .int (iI (a))), (2, .int (iI (b)))] := hl
  refine lv_aload_n Z.1 Z.2.1 dX0_diesBefore_0 rfl (lv_at hl 0 rfl) ?_
  refine c_get Z h 8 (by decide) q40 rfl dX0_diesBefore_1 ?_
  refine lv_iload_n Z.1 Z.2.1 dX0_diesBefore_4 rfl (lv_at hl 1 rfl) ?_
  refine g_ald Z h (c_at_8 dA ad) (by decide) (v := X 8 (a)) (by omega) rfl dX0_diesBefore_5 ?_
  have o1 := hX 8 (a)
  refine lv_aload_n Z.1 Z.2.1 dX0_diesBefore_6 rfl (lv_at hl 0 rfl) ?_
  refine c_get Z h 8 (by decide) q40 rfl dX0_diesBefore_7 ?_
  refine lv_iload_n Z.1 Z.2.1 dX0_diesBefore_10 rfl (lv_at hl 2 rfl) ?_
  refine g_ald Z h (c_at_8 dA ad) (by decide) (v := X 8 (b)) (by omega) rfl dX0_diesBefore_11 ?_
  have o2 := hX 8 (b)
  refine i_icmp_eq (tgt := 38) Z (by omega) dX0_diesBefore_12 (by decide) (fun c12 => ?_) (fun c12 => ?_)
  · refine lv_iload_n Z.1 Z.2.1 dX0_diesBefore_38 rfl (lv_at hl 1 rfl) ?_
    refine lv_iload_n Z.1 Z.2.1 dX0_diesBefore_39 rfl (lv_at hl 2 rfl) ?_
    refine i_icmp_ge (tgt := 47) Z (by omega) dX0_diesBefore_40 (by decide) (fun c40 => ?_) (fun c40 => ?_)
    · refine i_const Z dX0_diesBefore_47 ?_
      exact g_ireturn Z hr hlocks h rfl (⟨rfl, by unfold bl; omega⟩) dX0_diesBefore_48
    · refine i_const Z dX0_diesBefore_43 ?_
      refine lv_goto (tgt := 48) Z.1 Z.2.1 dX0_diesBefore_44 (by decide) ?_
      exact g_ireturn Z hr hlocks h rfl (⟨rfl, by unfold bl; omega⟩) dX0_diesBefore_48
  · refine lv_aload_n Z.1 Z.2.1 dX0_diesBefore_15 rfl (lv_at hl 0 rfl) ?_
    refine c_get Z h 8 (by decide) q40 rfl dX0_diesBefore_16 ?_
    refine lv_iload_n Z.1 Z.2.1 dX0_diesBefore_19 rfl (lv_at hl 1 rfl) ?_
    refine g_ald Z h (c_at_8 dA ad) (by decide) (v := X 8 (a)) (by omega) rfl dX0_diesBefore_20 ?_
    have o3 := hX 8 (a)
    refine lv_aload_n Z.1 Z.2.1 dX0_diesBefore_21 rfl (lv_at hl 0 rfl) ?_
    refine c_get Z h 8 (by decide) q40 rfl dX0_diesBefore_22 ?_
    refine lv_iload_n Z.1 Z.2.1 dX0_diesBefore_25 rfl (lv_at hl 2 rfl) ?_
    refine g_ald Z h (c_at_8 dA ad) (by decide) (v := X 8 (b)) (by omega) rfl dX0_diesBefore_26 ?_
    have o4 := hX 8 (b)
    refine i_icmp_ge (tgt := 34) Z (by omega) dX0_diesBefore_27 (by decide) (fun c27 => ?_) (fun c27 => ?_)
    · refine i_const Z dX0_diesBefore_34 ?_
      refine lv_goto (tgt := 48) Z.1 Z.2.1 dX0_diesBefore_35 (by decide) ?_
      exact g_ireturn Z hr hlocks h rfl (⟨rfl, by unfold bl; omega⟩) dX0_diesBefore_48
    · refine i_const Z dX0_diesBefore_30 ?_
      refine lv_goto (tgt := 48) Z.1 Z.2.1 dX0_diesBefore_31 (by decide) ?_
      exact g_ireturn Z hr hlocks h rfl (⟨rfl, by unfold bl; omega⟩) dX0_diesBefore_48
set_option maxHeartbeats 4000000 in
set_option maxRecDepth 100000 in
theorem metX0_place (l : Launch) (D : va_G) (dA : ClassId) (A : Nat → Prop) (ad : Nat → Nat) (X : zS) (q i a : Int) (hX : okX X) (hq : 0 ≤ q ∧ q ≤ 2) (hi : 0 ≤ i ∧ i < 40) (ha : 0 ≤ a ∧ a < 40) : cMv l yX0_place cX0_place 4 0 0 D dA A ad [.ref (ad 0), .int (iI q), .int (iI i), .int (iI a)] X (fun X1 => X1 = plc X q i a) := by
  refine g_start_v (by decide) ?_
  intro p e s m below meth c Z hr hlocks h
  have Z : gC RX0 D dA p s m ([.ref (ad 0), .int (iI q), .int (iI i), .int (iI a)] : List Value).toArray c cX0_place 4 := Z
  have hl := lv_entry ([.ref (ad 0), .int (iI q), .int (iI i), .int (iI a)]) (n := 4) (Nat.le_of_ble_eq_true rfl)
  rw [lg_entry_eq]
  generalize (lg_sl ([.ref (ad 0), .int (iI q), .int (iI i), .int (iI a)]) ++ List.replicate (4 - (lg_sl ([.ref (ad 0), .int (iI q), .int (iI i), .int (iI a)])).length) Slot.unset).toArray = ls at hl ⊢
  have hl : lv_has ls 4 [(0, .ref (ad 0)), (1, .int (iI (q))), (2, .int (iI (i))), (3, .int (iI (a)))] := hl
  refine lv_aload_n Z.1 Z.2.1 dX0_place_0 rfl (lv_at hl 0 rfl) ?_
  refine c_get Z h 10 (by decide) q42 rfl dX0_place_1 ?_
  refine lv_iload_n Z.1 Z.2.1 dX0_place_4 rfl (lv_at hl 1 rfl) ?_
  refine i_bipush Z dX0_place_5 (by decide) ?_
  refine i_mul Z dX0_place_7 ?_
  refine lv_iload_n Z.1 Z.2.1 dX0_place_8 rfl (lv_at hl 2 rfl) ?_
  refine i_add Z dX0_place_9 ?_
  refine lv_iload_n Z.1 Z.2.1 dX0_place_10 rfl (lv_at hl 3 rfl) ?_
  refine g_ast Z h (c_at_10 dA ad) (c_set_10 dA ad) (by decide) (i := (q * 40) + i) (v := a) (by omega) dX0_place_11 (fun H locs h => ?_)
  have hX := okX_set hX 10 ((q * 40) + i) (a) (by omega)
  refine lv_aload_n Z.1 Z.2.1 dX0_place_12 rfl (lv_at hl 0 rfl) ?_
  refine c_get Z h 11 (by decide) q43 rfl dX0_place_13 ?_
  refine lv_iload_n Z.1 Z.2.1 dX0_place_16 rfl (lv_at hl 3 rfl) ?_
  refine lv_iload_n Z.1 Z.2.1 dX0_place_17 rfl (lv_at hl 2 rfl) ?_
  refine g_ast Z h (c_at_11 dA ad) (c_set_11 dA ad) (by decide) (i := a) (v := i) (by omega) dX0_place_18 (fun H locs h => ?_)
  have hX := okX_set hX 11 (a) (i) (by omega)
  exact g_return Z hr hlocks h (rfl) dX0_place_19
set_option maxHeartbeats 4000000 in
set_option maxRecDepth 100000 in
theorem metX0_rise (l : Launch) (D : va_G) (dA : ClassId) (A : Nat → Prop) (ad : Nat → Nat) (X : zS) (sz q i0 a : Int) (S : Int → Prop) (hX : okX X) (hq : 0 ≤ q ∧ q ≤ 2) (hsz : sz ≤ 40) (hS : ∀ b, S b → 0 ≤ b ∧ b < 40) (ha : S a) (hR : HoleR (hsg X q) sz i0 a (bq (X 3))) (hB0 : BijH (hsg X q) (X 11) sz S a i0)  : cMv l yX0_rise cX0_rise 5 1 23 D dA A ad [.ref (ad 0), .int (iI q), .int (iI i0), .int (iI a)] X (fun X1 => FR X X1 q S ∧ Bij (hsg X1 q) (X1 11) sz S ∧ Hp (hsg X1 q) sz (bq (X 3))) := by
  refine g_start_v (by decide) ?_
  intro p e s m below meth c Z hr hlocks h
  have Z : gC RX0 D dA p s m ([.ref (ad 0), .int (iI q), .int (iI i0), .int (iI a)] : List Value).toArray c cX0_rise 5 := Z
  have hl := lv_entry ([.ref (ad 0), .int (iI q), .int (iI i0), .int (iI a)]) (n := 5) (Nat.le_of_ble_eq_true rfl)
  rw [lg_entry_eq]
  generalize (lg_sl ([.ref (ad 0), .int (iI q), .int (iI i0), .int (iI a)]) ++ List.replicate (5 - (lg_sl ([.ref (ad 0), .int (iI q), .int (iI i0), .int (iI a)])).length) Slot.unset).toArray = ls at hl ⊢
  have hl : lv_has ls 5 [(0, .ref (ad 0)), (1, .int (iI (q))), (2, .int (iI (i0))), (3, .int (iI (a)))] := hl
  refine lv_iload_n Z.1 Z.2.1 dX0_rise_0 rfl (lv_at hl 2 rfl) ?_
  refine lv_istore (lv' := [(4, .int (iI (i0))), (0, .ref (ad 0)), (1, .int (iI (q))), (2, .int (iI (i0))), (3, .int (iI (a)))]) Z.1 Z.2.1 dX0_rise_1 hl (by decide) rfl (fun ls hl => ?_)
  have loop : ∀ (n : Nat) (i : Int) (Y : zS) (H : Heap) (locs : List Loc) (ls : Array Slot), (i < (n : Int)) → (FR X Y q S) → (HoleR (hsg Y q) sz i a (bq (X 3))) → (BijH (hsg Y q) (Y 11) sz S a i) → gH D A (cWG dA ad (gG Y)) s.heap H locs → lv_has ls 5 [(0, .ref (ad 0)), (1, .int (iI (q))), (3, .int (iI (a))), (4, .int (iI (i)))] → W p l e ({ frames := 1, cells := 0, slots := 0, locals := 23 } : Room) s m ([.ref (ad 0), .int (iI q), .int (iI i0), .int (iI a)] : List Value).toArray below meth c H locs 0 0 (MQ below (gQv D dA A (cWG dA ad) (fun X1 => FR X X1 q S ∧ Bij (hsg X1 q) (X1 11) sz S ∧ Hp (hsg X1 q) sz (bq (X 3)))) ([.ref (ad 0), .int (iI q), .int (iI i0), .int (iI a)] : List Value).toArray s 0 0 A) (F0 m 3 ls []) := by
    intro n
    induction n with
    | zero =>
      intro i Y H locs ls hm hF hH hBj h hl
      exfalso; have := hH.1; omega
    | succ n ih =>
      intro i Y H locs ls hm hF hH hBj h hl
      have hX := hF.1
      have e3 : Y 3 = X 3 := hF.2.1 3 (by decide) (by decide)
      have i0 := hH.1
      have i1 := hH.2.1
      have hab := hS a ha
      refine lv_iload Z.1 Z.2.1 dX0_rise_3 (lv_at hl 3 rfl) ?_
      refine i_if_le (tgt := 66) Z (by omega) dX0_rise_5 (by decide) (fun c5 => ?_) (fun c5 => ?_)
      · refine lv_aload_n Z.1 Z.2.1 dX0_rise_66 rfl (lv_at hl 0 rfl) ?_
        refine lv_iload_n Z.1 Z.2.1 dX0_rise_67 rfl (lv_at hl 1 rfl) ?_
        refine lv_iload Z.1 Z.2.1 dX0_rise_68 (lv_at hl 3 rfl) ?_
        refine lv_iload_n Z.1 Z.2.1 dX0_rise_70 rfl (lv_at hl 2 rfl) ?_
        refine g_callv (As := [.int (iI (q)), .int (iI (i)), .int (iI (a))]) (rest := []) (q := (RX0, TX0, 21)) (ci := 0) Z h (metX0_place l D dA A ad Y q i a hX (by omega) (by omega) (by omega)) (cwV 3 Z.2.2.2.2.1 (lw_V q116 q118 qs3 q22 q119) rfl rfl rfl (by decide +kernel) ⟨Nat.le_of_ble_eq_true rfl, Nat.le_of_ble_eq_true rfl⟩) rfl rfl rfl hl.1 rfl (Nat.le_of_ble_eq_true rfl) ⟨Nat.zero_le _, Nat.zero_le _⟩ dX0_rise_71 (fun X71 H locs hp71 h => ?_)
        rw [hp71] at h
        exact g_return Z hr hlocks h (⟨FR.plc hF (by omega) ha hab, by rw [plc_h, plc_p]; exact bijh_end hBj ha i0 i1, by rw [plc_h]; exact rise_end hH (by first | exact Or.inl (by omega) | exact Or.inr (by rw [← e3]; exact c29))⟩) dX0_rise_74
      · have hpp := hBj.1 ((i - 1) / 2) (by omega) (by omega) (by omega)
        have hpb : 0 ≤ Y 10 (q * 40 + (i - 1) / 2) ∧ Y 10 (q * 40 + (i - 1) / 2) < 40 := hS _ hpp.1
        refine lv_aload_n Z.1 Z.2.1 dX0_rise_8 rfl (lv_at hl 0 rfl) ?_
        refine lv_iload_n Z.1 Z.2.1 dX0_rise_9 rfl (lv_at hl 2 rfl) ?_
        refine lv_aload_n Z.1 Z.2.1 dX0_rise_10 rfl (lv_at hl 0 rfl) ?_
        refine c_get Z h 10 (by decide) q42 rfl dX0_rise_11 ?_
        refine lv_iload_n Z.1 Z.2.1 dX0_rise_14 rfl (lv_at hl 1 rfl) ?_
        refine i_bipush Z dX0_rise_15 (by decide) ?_
        refine i_mul Z dX0_rise_17 ?_
        refine lv_iload Z.1 Z.2.1 dX0_rise_18 (lv_at hl 3 rfl) ?_
        refine i_const Z dX0_rise_20 ?_
        refine i_sub Z dX0_rise_21 ?_
        refine i_const Z dX0_rise_22 ?_
        refine i_div Z (by omega) dX0_rise_23 ?_
        refine i_add Z dX0_rise_24 ?_
        refine g_ald Z h (c_at_10 dA ad) (by decide) (v := Y 10 ((q * 40) + ((i - 1) / 2))) (by omega) rfl dX0_rise_25 ?_
        have o1 := hX 10 ((q * 40) + ((i - 1) / 2))
        refine g_calli (As := [.int (iI (a)), .int (iI (Y 10 ((q * 40) + ((i - 1) / 2))))]) (rest := []) (q := (RX0, TX0, 21)) (ci := 0) Z h (metX0_before l D dA A ad Y a (Y 10 ((q * 40) + ((i - 1) / 2))) hX (by omega) (by omega)) (cwV 2 Z.2.2.2.2.1 (lw_V q112 q114 qs2 q22 q115) rfl rfl rfl (by decide +kernel) ⟨Nat.le_of_ble_eq_true rfl, Nat.le_of_ble_eq_true rfl⟩) rfl rfl rfl hl.1 rfl (Nat.le_of_ble_eq_true rfl) ⟨Nat.zero_le _, Nat.zero_le _⟩ dX0_rise_26 (fun z26 X26 H locs hp26 h => ?_)
        obtain ⟨ec9, hz26⟩ := hp26
        rw [ec9] at h
        refine b_ifeq (tgt := 66) Z hz26 dX0_rise_29 (by decide) (fun c29 => ?_) (fun c29 => ?_)
        · refine lv_aload_n Z.1 Z.2.1 dX0_rise_66 rfl (lv_at hl 0 rfl) ?_
          refine lv_iload_n Z.1 Z.2.1 dX0_rise_67 rfl (lv_at hl 1 rfl) ?_
          refine lv_iload Z.1 Z.2.1 dX0_rise_68 (lv_at hl 3 rfl) ?_
          refine lv_iload_n Z.1 Z.2.1 dX0_rise_70 rfl (lv_at hl 2 rfl) ?_
          refine g_callv (As := [.int (iI (q)), .int (iI (i)), .int (iI (a))]) (rest := []) (q := (RX0, TX0, 21)) (ci := 0) Z h (metX0_place l D dA A ad Y q i a hX (by omega) (by omega) (by omega)) (cwV 3 Z.2.2.2.2.1 (lw_V q116 q118 qs3 q22 q119) rfl rfl rfl (by decide +kernel) ⟨Nat.le_of_ble_eq_true rfl, Nat.le_of_ble_eq_true rfl⟩) rfl rfl rfl hl.1 rfl (Nat.le_of_ble_eq_true rfl) ⟨Nat.zero_le _, Nat.zero_le _⟩ dX0_rise_71 (fun X71 H locs hp71 h => ?_)
          rw [hp71] at h
          exact g_return Z hr hlocks h (⟨FR.plc hF (by omega) ha hab, by rw [plc_h, plc_p]; exact bijh_end hBj ha i0 i1, by rw [plc_h]; exact rise_end hH (by first | exact Or.inl (by omega) | exact Or.inr (by rw [← e3]; exact c29))⟩) dX0_rise_74
        · refine lv_aload_n Z.1 Z.2.1 dX0_rise_32 rfl (lv_at hl 0 rfl) ?_
          refine lv_iload_n Z.1 Z.2.1 dX0_rise_33 rfl (lv_at hl 1 rfl) ?_
          refine lv_iload Z.1 Z.2.1 dX0_rise_34 (lv_at hl 3 rfl) ?_
          refine lv_aload_n Z.1 Z.2.1 dX0_rise_36 rfl (lv_at hl 0 rfl) ?_
          refine c_get Z h 10 (by decide) q42 rfl dX0_rise_37 ?_
          refine lv_iload_n Z.1 Z.2.1 dX0_rise_40 rfl (lv_at hl 1 rfl) ?_
          refine i_bipush Z dX0_rise_41 (by decide) ?_
          refine i_mul Z dX0_rise_43 ?_
          refine lv_iload Z.1 Z.2.1 dX0_rise_44 (lv_at hl 3 rfl) ?_
          refine i_const Z dX0_rise_46 ?_
          refine i_sub Z dX0_rise_47 ?_
          refine i_const Z dX0_rise_48 ?_
          refine i_div Z (by omega) dX0_rise_49 ?_
          refine i_add Z dX0_rise_50 ?_
          refine g_ald Z h (c_at_10 dA ad) (by decide) (v := Y 10 ((q * 40) + ((i - 1) / 2))) (by omega) rfl dX0_rise_51 ?_
          have o2 := hX 10 ((q * 40) + ((i - 1) / 2))
          refine g_callv (As := [.int (iI (q)), .int (iI (i)), .int (iI (Y 10 ((q * 40) + ((i - 1) / 2))))]) (rest := []) (q := (RX0, TX0, 21)) (ci := 0) Z h (metX0_place l D dA A ad Y q i (Y 10 ((q * 40) + ((i - 1) / 2))) hX (by omega) (by omega) (by omega)) (cwV 3 Z.2.2.2.2.1 (lw_V q116 q118 qs3 q22 q119) rfl rfl rfl (by decide +kernel) ⟨Nat.le_of_ble_eq_true rfl, Nat.le_of_ble_eq_true rfl⟩) rfl rfl rfl hl.1 rfl (Nat.le_of_ble_eq_true rfl) ⟨Nat.zero_le _, Nat.zero_le _⟩ dX0_rise_52 (fun X52 H locs hp52 h => ?_)
          rw [hp52] at h
          refine lv_iload Z.1 Z.2.1 dX0_rise_55 (lv_at hl 3 rfl) ?_
          refine i_const Z dX0_rise_57 ?_
          refine i_sub Z dX0_rise_58 ?_
          refine i_const Z dX0_rise_59 ?_
          refine i_div Z (by omega) dX0_rise_60 ?_
          refine lv_istore (lv' := [(4, .int (iI ((i - 1) / 2))), (0, .ref (ad 0)), (1, .int (iI (q))), (3, .int (iI (a)))]) Z.1 Z.2.1 dX0_rise_61 hl (by decide) rfl (fun ls hl => ?_)
          refine lv_goto (tgt := 3) Z.1 Z.2.1 dX0_rise_63 (by decide) ?_
          exact ih ((i - 1) / 2) ((plc Y (q) (i) (Y 10 ((q * 40) + ((i - 1) / 2))))) _ _ _ (by omega) (FR.plc hF (by omega) hpp.1 hpb) (by rw [plc_h]; exact rise_step (bq_ord _) hH (by omega) (by rw [← e3]; exact c29)) (by rw [plc_h, plc_p]; exact bijh_move hBj i0 i1 (by omega) (by omega) (by omega)) h (lv_sub hl [1, 2, 3, 0] rfl)
  exact loop ((i0 + 1).toNat) i0 X _ _ _ (by omega) (FR.rf hX) hR hB0 h (lv_sub hl [1, 2, 4, 0] rfl)
set_option maxHeartbeats 4000000 in
set_option maxRecDepth 100000 in
theorem metX0_sink (l : Launch) (D : va_G) (dA : ClassId) (A : Nat → Prop) (ad : Nat → Nat) (X : zS) (sz q i0 a : Int) (S : Int → Prop) (hX : okX X) (hq : 0 ≤ q ∧ q ≤ 2) (hsz : sz ≤ 40) (hS : ∀ b, S b → 0 ≤ b ∧ b < 40) (ha : S a) (h9 : X 9 q = sz) (hR : HoleS (hsg X q) sz i0 a (bq (X 3))) (hB0 : BijH (hsg X q) (X 11) sz S a i0)  : cMv l yX0_sink cX0_sink 6 1 23 D dA A ad [.ref (ad 0), .int (iI q), .int (iI i0), .int (iI a)] X (fun X1 => FR X X1 q S ∧ Bij (hsg X1 q) (X1 11) sz S ∧ Hp (hsg X1 q) sz (bq (X 3))) := by
  refine g_start_v (by decide) ?_
  intro p e s m below meth c Z hr hlocks h
  have Z : gC RX0 D dA p s m ([.ref (ad 0), .int (iI q), .int (iI i0), .int (iI a)] : List Value).toArray c cX0_sink 6 := Z
  have hl := lv_entry ([.ref (ad 0), .int (iI q), .int (iI i0), .int (iI a)]) (n := 6) (Nat.le_of_ble_eq_true rfl)
  rw [lg_entry_eq]
  generalize (lg_sl ([.ref (ad 0), .int (iI q), .int (iI i0), .int (iI a)]) ++ List.replicate (6 - (lg_sl ([.ref (ad 0), .int (iI q), .int (iI i0), .int (iI a)])).length) Slot.unset).toArray = ls at hl ⊢
  have hl : lv_has ls 6 [(0, .ref (ad 0)), (1, .int (iI (q))), (2, .int (iI (i0))), (3, .int (iI (a)))] := hl
  refine lv_iload_n Z.1 Z.2.1 dX0_sink_0 rfl (lv_at hl 2 rfl) ?_
  refine lv_istore (lv' := [(4, .int (iI (i0))), (0, .ref (ad 0)), (1, .int (iI (q))), (2, .int (iI (i0))), (3, .int (iI (a)))]) Z.1 Z.2.1 dX0_sink_1 hl (by decide) rfl (fun ls hl => ?_)
  refine i_const Z dX0_sink_3 ?_
  refine lv_iload Z.1 Z.2.1 dX0_sink_4 (lv_at hl 0 rfl) ?_
  refine i_mul Z dX0_sink_6 ?_
  refine i_const Z dX0_sink_7 ?_
  refine i_add Z dX0_sink_8 ?_
  refine lv_istore (lv' := [(5, .int (iI ((2 * i0) + 1))), (4, .int (iI (i0))), (0, .ref (ad 0)), (1, .int (iI (q))), (2, .int (iI (i0))), (3, .int (iI (a)))]) Z.1 Z.2.1 dX0_sink_9 hl (by decide) rfl (fun ls hl => ?_)
  have loop : ∀ (n : Nat) (i : Int) (ch : Int) (Y : zS) (H : Heap) (locs : List Loc) (ls : Array Slot), (2 * sz - ch < (n : Int)) → (FR X Y q S) → (HoleS (hsg Y q) sz i a (bq (X 3))) → (BijH (hsg Y q) (Y 11) sz S a i) → (ch = 2 * i + 1 ∨ (ch = sz ∧ ∀ j, 0 < j → j < sz → (j - 1) / 2 = i → ¬ bq (X 3) (hsg Y q j) a)) → gH D A (cWG dA ad (gG Y)) s.heap H locs → lv_has ls 6 [(0, .ref (ad 0)), (1, .int (iI (q))), (3, .int (iI (a))), (4, .int (iI (i))), (5, .int (iI (ch)))] → W p l e ({ frames := 1, cells := 0, slots := 0, locals := 23 } : Room) s m ([.ref (ad 0), .int (iI q), .int (iI i0), .int (iI a)] : List Value).toArray below meth c H locs 0 0 (MQ below (gQv D dA A (cWG dA ad) (fun X1 => FR X X1 q S ∧ Bij (hsg X1 q) (X1 11) sz S ∧ Hp (hsg X1 q) sz (bq (X 3)))) ([.ref (ad 0), .int (iI q), .int (iI i0), .int (iI a)] : List Value).toArray s 0 0 A) (F0 m 11 ls []) := by
    intro n
    induction n with
    | zero =>
      intro i ch Y H locs ls hm hF hH hBj hc h hl
      exfalso; have := hH.1; have := hH.2.1; rcases hc with w | ⟨w, _⟩ <;> omega
    | succ n ih =>
      intro i ch Y H locs ls hm hF hH hBj hc h hl
      have hX := hF.1
      have e3 : Y 3 = X 3 := hF.2.1 3 (by decide) (by decide)
      have i0 := hH.1
      have i1 := hH.2.1
      have hab := hS a ha
      have e9 : Y 9 q = sz := by rw [hF.2.1 9 (by decide) (by decide)]; exact h9
      refine lv_iload Z.1 Z.2.1 dX0_sink_11 (lv_at hl 4 rfl) ?_
      refine lv_aload_n Z.1 Z.2.1 dX0_sink_13 rfl (lv_at hl 0 rfl) ?_
      refine c_get Z h 9 (by decide) q41 rfl dX0_sink_14 ?_
      refine lv_iload_n Z.1 Z.2.1 dX0_sink_17 rfl (lv_at hl 1 rfl) ?_
      refine g_ald Z h (c_at_9 dA ad) (by decide) (v := Y 9 (q)) (by omega) rfl dX0_sink_18 ?_
      have o1 := hX 9 (q)
      refine i_icmp_ge (tgt := 136) Z (by omega) dX0_sink_19 (by decide) (fun c19 => ?_) (fun c19 => ?_)
      · refine lv_aload_n Z.1 Z.2.1 dX0_sink_136 rfl (lv_at hl 0 rfl) ?_
        refine lv_iload_n Z.1 Z.2.1 dX0_sink_137 rfl (lv_at hl 1 rfl) ?_
        refine lv_iload Z.1 Z.2.1 dX0_sink_138 (lv_at hl 3 rfl) ?_
        refine lv_iload_n Z.1 Z.2.1 dX0_sink_140 rfl (lv_at hl 2 rfl) ?_
        refine g_callv (As := [.int (iI (q)), .int (iI (i)), .int (iI (a))]) (rest := []) (q := (RX0, TX0, 21)) (ci := 0) Z h (metX0_place l D dA A ad Y q i a hX (by omega) (by omega) (by omega)) (cwV 3 Z.2.2.2.2.1 (lw_V q116 q118 qs3 q22 q119) rfl rfl rfl (by decide +kernel) ⟨Nat.le_of_ble_eq_true rfl, Nat.le_of_ble_eq_true rfl⟩) rfl rfl rfl hl.1 rfl (Nat.le_of_ble_eq_true rfl) ⟨Nat.zero_le _, Nat.zero_le _⟩ dX0_sink_141 (fun X141 H locs hp141 h => ?_)
        rw [hp141] at h
        exact g_return Z hr hlocks h (⟨FR.plc hF (by omega) ha hab, by rw [plc_h, plc_p]; exact bijh_end hBj ha i0 i1, by rw [plc_h]; exact sink_end hH (fun j j0 j1 jq => by rcases hc with w | ⟨w, w2⟩; (exfalso; omega); exact w2 j j0 j1 jq)⟩) dX0_sink_144
      · have hch : ch = 2 * i + 1 := by rcases hc with w | ⟨w, _⟩ <;> omega
        have hp1 := hBj.1 ch (by omega) (by omega) (by omega)
        have hb1 : 0 ≤ Y 10 (q * 40 + ch) ∧ Y 10 (q * 40 + ch) < 40 := hS _ hp1.1
        refine lv_iload Z.1 Z.2.1 dX0_sink_22 (lv_at hl 4 rfl) ?_
        refine i_const Z dX0_sink_24 ?_
        refine i_add Z dX0_sink_25 ?_
        refine lv_aload_n Z.1 Z.2.1 dX0_sink_26 rfl (lv_at hl 0 rfl) ?_
        refine c_get Z h 9 (by decide) q41 rfl dX0_sink_27 ?_
        refine lv_iload_n Z.1 Z.2.1 dX0_sink_30 rfl (lv_at hl 1 rfl) ?_
        refine g_ald Z h (c_at_9 dA ad) (by decide) (v := Y 9 (q)) (by omega) rfl dX0_sink_31 ?_
        have o2 := hX 9 (q)
        refine i_icmp_ge (tgt := 71) Z (by omega) dX0_sink_32 (by decide) (fun c32 => ?_) (fun c32 => ?_)
        · have best : ∀ j, 0 < j → j < sz → (j - 1) / 2 = i → ¬ bq (X 3) (hsg Y q j) (hsg Y q (ch)) := by
            intro j j0 j1 jq
            rcases (show j = ch ∨ j = ch + 1 by omega) with e | e
            · rw [e]; exact bq_irr _ _
            · first | (exfalso; omega) | (rw [e, ← eA, ← e3]; exact c65)
          refine lv_aload_n Z.1 Z.2.1 dX0_sink_71 rfl (lv_at hl 0 rfl) ?_
          refine lv_aload_n Z.1 Z.2.1 dX0_sink_72 rfl (lv_at hl 0 rfl) ?_
          refine c_get Z h 10 (by decide) q42 rfl dX0_sink_73 ?_
          refine lv_iload_n Z.1 Z.2.1 dX0_sink_76 rfl (lv_at hl 1 rfl) ?_
          refine i_bipush Z dX0_sink_77 (by decide) ?_
          refine i_mul Z dX0_sink_79 ?_
          refine lv_iload Z.1 Z.2.1 dX0_sink_80 (lv_at hl 4 rfl) ?_
          refine i_add Z dX0_sink_82 ?_
          refine g_ald Z h (c_at_10 dA ad) (by decide) (v := Y 10 ((q * 40) + ch)) (by omega) rfl dX0_sink_83 ?_
          have o3 := hX 10 ((q * 40) + ch)
          refine lv_iload_n Z.1 Z.2.1 dX0_sink_84 rfl (lv_at hl 2 rfl) ?_
          refine g_calli (As := [.int (iI (Y 10 ((q * 40) + ch))), .int (iI (a))]) (rest := []) (q := (RX0, TX0, 21)) (ci := 0) Z h (metX0_before l D dA A ad Y (Y 10 ((q * 40) + ch)) a hX (by omega) (by omega)) (cwV 2 Z.2.2.2.2.1 (lw_V q112 q114 qs2 q22 q115) rfl rfl rfl (by decide +kernel) ⟨Nat.le_of_ble_eq_true rfl, Nat.le_of_ble_eq_true rfl⟩) rfl rfl rfl hl.1 rfl (Nat.le_of_ble_eq_true rfl) ⟨Nat.zero_le _, Nat.zero_le _⟩ dX0_sink_85 (fun z85 X85 H locs hp85 h => ?_)
          obtain ⟨ec9, hz85⟩ := hp85
          rw [ec9] at h
          refine b_ifeq (tgt := 125) Z hz85 dX0_sink_88 (by decide) (fun c88 => ?_) (fun c88 => ?_)
          · refine lv_aload_n Z.1 Z.2.1 dX0_sink_125 rfl (lv_at hl 0 rfl) ?_
            refine c_get Z h 9 (by decide) q41 rfl dX0_sink_126 ?_
            refine lv_iload_n Z.1 Z.2.1 dX0_sink_129 rfl (lv_at hl 1 rfl) ?_
            refine g_ald Z h (c_at_9 dA ad) (by decide) (v := Y 9 (q)) (by omega) rfl dX0_sink_130 ?_
            have o4 := hX 9 (q)
            refine lv_istore (lv' := [(5, .int (iI (Y 9 (q)))), (0, .ref (ad 0)), (1, .int (iI (q))), (3, .int (iI (a))), (4, .int (iI (i)))]) Z.1 Z.2.1 dX0_sink_131 hl (by decide) rfl (fun ls hl => ?_)
            refine lv_goto (tgt := 11) Z.1 Z.2.1 dX0_sink_133 (by decide) ?_
            exact ih i (Y 9 (q)) Y _ _ _ (by omega) hF hH hBj (Or.inr ⟨e9, fun j j0 j1 jq => (bq_ord _).2 _ _ _ (best j j0 j1 jq) (by rw [← e3]; exact c88)⟩) h (lv_sub hl [1, 2, 3, 4, 0] rfl)
          · refine lv_aload_n Z.1 Z.2.1 dX0_sink_91 rfl (lv_at hl 0 rfl) ?_
            refine lv_iload_n Z.1 Z.2.1 dX0_sink_92 rfl (lv_at hl 1 rfl) ?_
            refine lv_iload Z.1 Z.2.1 dX0_sink_93 (lv_at hl 3 rfl) ?_
            refine lv_aload_n Z.1 Z.2.1 dX0_sink_95 rfl (lv_at hl 0 rfl) ?_
            refine c_get Z h 10 (by decide) q42 rfl dX0_sink_96 ?_
            refine lv_iload_n Z.1 Z.2.1 dX0_sink_99 rfl (lv_at hl 1 rfl) ?_
            refine i_bipush Z dX0_sink_100 (by decide) ?_
            refine i_mul Z dX0_sink_102 ?_
            refine lv_iload Z.1 Z.2.1 dX0_sink_103 (lv_at hl 4 rfl) ?_
            refine i_add Z dX0_sink_105 ?_
            refine g_ald Z h (c_at_10 dA ad) (by decide) (v := Y 10 ((q * 40) + ch)) (by omega) rfl dX0_sink_106 ?_
            have o5 := hX 10 ((q * 40) + ch)
            refine g_callv (As := [.int (iI (q)), .int (iI (i)), .int (iI (Y 10 ((q * 40) + ch)))]) (rest := []) (q := (RX0, TX0, 21)) (ci := 0) Z h (metX0_place l D dA A ad Y q i (Y 10 ((q * 40) + ch)) hX (by omega) (by omega) (by omega)) (cwV 3 Z.2.2.2.2.1 (lw_V q116 q118 qs3 q22 q119) rfl rfl rfl (by decide +kernel) ⟨Nat.le_of_ble_eq_true rfl, Nat.le_of_ble_eq_true rfl⟩) rfl rfl rfl hl.1 rfl (Nat.le_of_ble_eq_true rfl) ⟨Nat.zero_le _, Nat.zero_le _⟩ dX0_sink_107 (fun X107 H locs hp107 h => ?_)
            rw [hp107] at h
            refine lv_iload Z.1 Z.2.1 dX0_sink_110 (lv_at hl 4 rfl) ?_
            refine lv_istore (lv' := [(4, .int (iI (ch))), (0, .ref (ad 0)), (1, .int (iI (q))), (3, .int (iI (a))), (5, .int (iI (ch)))]) Z.1 Z.2.1 dX0_sink_112 hl (by decide) rfl (fun ls hl => ?_)
            refine i_const Z dX0_sink_114 ?_
            refine lv_iload Z.1 Z.2.1 dX0_sink_115 (lv_at hl 0 rfl) ?_
            refine i_mul Z dX0_sink_117 ?_
            refine i_const Z dX0_sink_118 ?_
            refine i_add Z dX0_sink_119 ?_
            refine lv_istore (lv' := [(5, .int (iI ((2 * ch) + 1))), (4, .int (iI (ch))), (0, .ref (ad 0)), (1, .int (iI (q))), (3, .int (iI (a)))]) Z.1 Z.2.1 dX0_sink_120 hl (by decide) rfl (fun ls hl => ?_)
            refine lv_goto (tgt := 11) Z.1 Z.2.1 dX0_sink_122 (by decide) ?_
            exact ih ch ((2 * ch) + 1) ((plc Y (q) (i) (Y 10 ((q * 40) + ch)))) _ _ _ (by omega) (FR.plc hF (by omega) (hBj.1 (ch) (by omega) (by omega) (by omega)).1 (by omega)) (by rw [plc_h]; exact sink_step (bq_ord _) hH ⟨by omega, by omega⟩ (by omega) best (by rw [← e3]; exact c88)) (by rw [plc_h, plc_p]; exact bijh_move hBj i0 i1 (by omega) (by omega) (by omega)) (Or.inl rfl) h (lv_sub hl [2, 3, 4, 1, 0] rfl)
        · have hp2 := hBj.1 (ch + 1) (by omega) (by omega) (by omega)
          have eA : Y 10 (q * 40 + ch + 1) = hsg Y q (ch + 1) := by show Y 10 _ = Y 10 _; rw [Int.add_assoc]
          have hb2 : 0 ≤ Y 10 (q * 40 + (ch + 1)) ∧ Y 10 (q * 40 + (ch + 1)) < 40 := hS _ hp2.1
          have hb3 : 0 ≤ Y 10 (q * 40 + ch + 1) ∧ Y 10 (q * 40 + ch + 1) < 40 := by rw [eA]; exact hS _ hp2.1
          refine lv_aload_n Z.1 Z.2.1 dX0_sink_35 rfl (lv_at hl 0 rfl) ?_
          refine lv_aload_n Z.1 Z.2.1 dX0_sink_36 rfl (lv_at hl 0 rfl) ?_
          refine c_get Z h 10 (by decide) q42 rfl dX0_sink_37 ?_
          refine lv_iload_n Z.1 Z.2.1 dX0_sink_40 rfl (lv_at hl 1 rfl) ?_
          refine i_bipush Z dX0_sink_41 (by decide) ?_
          refine i_mul Z dX0_sink_43 ?_
          refine lv_iload Z.1 Z.2.1 dX0_sink_44 (lv_at hl 4 rfl) ?_
          refine i_add Z dX0_sink_46 ?_
          refine i_const Z dX0_sink_47 ?_
          refine i_add Z dX0_sink_48 ?_
          refine g_ald Z h (c_at_10 dA ad) (by decide) (v := Y 10 (((q * 40) + ch) + 1)) (by omega) rfl dX0_sink_49 ?_
          have o6 := hX 10 (((q * 40) + ch) + 1)
          refine lv_aload_n Z.1 Z.2.1 dX0_sink_50 rfl (lv_at hl 0 rfl) ?_
          refine c_get Z h 10 (by decide) q42 rfl dX0_sink_51 ?_
          refine lv_iload_n Z.1 Z.2.1 dX0_sink_54 rfl (lv_at hl 1 rfl) ?_
          refine i_bipush Z dX0_sink_55 (by decide) ?_
          refine i_mul Z dX0_sink_57 ?_
          refine lv_iload Z.1 Z.2.1 dX0_sink_58 (lv_at hl 4 rfl) ?_
          refine i_add Z dX0_sink_60 ?_
          refine g_ald Z h (c_at_10 dA ad) (by decide) (v := Y 10 ((q * 40) + ch)) (by omega) rfl dX0_sink_61 ?_
          have o7 := hX 10 ((q * 40) + ch)
          refine g_calli (As := [.int (iI (Y 10 (((q * 40) + ch) + 1))), .int (iI (Y 10 ((q * 40) + ch)))]) (rest := []) (q := (RX0, TX0, 21)) (ci := 0) Z h (metX0_before l D dA A ad Y (Y 10 (((q * 40) + ch) + 1)) (Y 10 ((q * 40) + ch)) hX (by omega) (by omega)) (cwV 2 Z.2.2.2.2.1 (lw_V q112 q114 qs2 q22 q115) rfl rfl rfl (by decide +kernel) ⟨Nat.le_of_ble_eq_true rfl, Nat.le_of_ble_eq_true rfl⟩) rfl rfl rfl hl.1 rfl (Nat.le_of_ble_eq_true rfl) ⟨Nat.zero_le _, Nat.zero_le _⟩ dX0_sink_62 (fun z62 X62 H locs hp62 h => ?_)
          obtain ⟨ec9, hz62⟩ := hp62
          rw [ec9] at h
          refine b_ifeq (tgt := 71) Z hz62 dX0_sink_65 (by decide) (fun c65 => ?_) (fun c65 => ?_)
          · have best : ∀ j, 0 < j → j < sz → (j - 1) / 2 = i → ¬ bq (X 3) (hsg Y q j) (hsg Y q (ch)) := by
              intro j j0 j1 jq
              rcases (show j = ch ∨ j = ch + 1 by omega) with e | e
              · rw [e]; exact bq_irr _ _
              · first | (exfalso; omega) | (rw [e, ← eA, ← e3]; exact c65)
            refine lv_aload_n Z.1 Z.2.1 dX0_sink_71 rfl (lv_at hl 0 rfl) ?_
            refine lv_aload_n Z.1 Z.2.1 dX0_sink_72 rfl (lv_at hl 0 rfl) ?_
            refine c_get Z h 10 (by decide) q42 rfl dX0_sink_73 ?_
            refine lv_iload_n Z.1 Z.2.1 dX0_sink_76 rfl (lv_at hl 1 rfl) ?_
            refine i_bipush Z dX0_sink_77 (by decide) ?_
            refine i_mul Z dX0_sink_79 ?_
            refine lv_iload Z.1 Z.2.1 dX0_sink_80 (lv_at hl 4 rfl) ?_
            refine i_add Z dX0_sink_82 ?_
            refine g_ald Z h (c_at_10 dA ad) (by decide) (v := Y 10 ((q * 40) + ch)) (by omega) rfl dX0_sink_83 ?_
            have o8 := hX 10 ((q * 40) + ch)
            refine lv_iload_n Z.1 Z.2.1 dX0_sink_84 rfl (lv_at hl 2 rfl) ?_
            refine g_calli (As := [.int (iI (Y 10 ((q * 40) + ch))), .int (iI (a))]) (rest := []) (q := (RX0, TX0, 21)) (ci := 0) Z h (metX0_before l D dA A ad Y (Y 10 ((q * 40) + ch)) a hX (by omega) (by omega)) (cwV 2 Z.2.2.2.2.1 (lw_V q112 q114 qs2 q22 q115) rfl rfl rfl (by decide +kernel) ⟨Nat.le_of_ble_eq_true rfl, Nat.le_of_ble_eq_true rfl⟩) rfl rfl rfl hl.1 rfl (Nat.le_of_ble_eq_true rfl) ⟨Nat.zero_le _, Nat.zero_le _⟩ dX0_sink_85 (fun z85 X85 H locs hp85 h => ?_)
            obtain ⟨ec9, hz85⟩ := hp85
            rw [ec9] at h
            refine b_ifeq (tgt := 125) Z hz85 dX0_sink_88 (by decide) (fun c88 => ?_) (fun c88 => ?_)
            · refine lv_aload_n Z.1 Z.2.1 dX0_sink_125 rfl (lv_at hl 0 rfl) ?_
              refine c_get Z h 9 (by decide) q41 rfl dX0_sink_126 ?_
              refine lv_iload_n Z.1 Z.2.1 dX0_sink_129 rfl (lv_at hl 1 rfl) ?_
              refine g_ald Z h (c_at_9 dA ad) (by decide) (v := Y 9 (q)) (by omega) rfl dX0_sink_130 ?_
              have o9 := hX 9 (q)
              refine lv_istore (lv' := [(5, .int (iI (Y 9 (q)))), (0, .ref (ad 0)), (1, .int (iI (q))), (3, .int (iI (a))), (4, .int (iI (i)))]) Z.1 Z.2.1 dX0_sink_131 hl (by decide) rfl (fun ls hl => ?_)
              refine lv_goto (tgt := 11) Z.1 Z.2.1 dX0_sink_133 (by decide) ?_
              exact ih i (Y 9 (q)) Y _ _ _ (by omega) hF hH hBj (Or.inr ⟨e9, fun j j0 j1 jq => (bq_ord _).2 _ _ _ (best j j0 j1 jq) (by rw [← e3]; exact c88)⟩) h (lv_sub hl [1, 2, 3, 4, 0] rfl)
            · refine lv_aload_n Z.1 Z.2.1 dX0_sink_91 rfl (lv_at hl 0 rfl) ?_
              refine lv_iload_n Z.1 Z.2.1 dX0_sink_92 rfl (lv_at hl 1 rfl) ?_
              refine lv_iload Z.1 Z.2.1 dX0_sink_93 (lv_at hl 3 rfl) ?_
              refine lv_aload_n Z.1 Z.2.1 dX0_sink_95 rfl (lv_at hl 0 rfl) ?_
              refine c_get Z h 10 (by decide) q42 rfl dX0_sink_96 ?_
              refine lv_iload_n Z.1 Z.2.1 dX0_sink_99 rfl (lv_at hl 1 rfl) ?_
              refine i_bipush Z dX0_sink_100 (by decide) ?_
              refine i_mul Z dX0_sink_102 ?_
              refine lv_iload Z.1 Z.2.1 dX0_sink_103 (lv_at hl 4 rfl) ?_
              refine i_add Z dX0_sink_105 ?_
              refine g_ald Z h (c_at_10 dA ad) (by decide) (v := Y 10 ((q * 40) + ch)) (by omega) rfl dX0_sink_106 ?_
              have o10 := hX 10 ((q * 40) + ch)
              refine g_callv (As := [.int (iI (q)), .int (iI (i)), .int (iI (Y 10 ((q * 40) + ch)))]) (rest := []) (q := (RX0, TX0, 21)) (ci := 0) Z h (metX0_place l D dA A ad Y q i (Y 10 ((q * 40) + ch)) hX (by omega) (by omega) (by omega)) (cwV 3 Z.2.2.2.2.1 (lw_V q116 q118 qs3 q22 q119) rfl rfl rfl (by decide +kernel) ⟨Nat.le_of_ble_eq_true rfl, Nat.le_of_ble_eq_true rfl⟩) rfl rfl rfl hl.1 rfl (Nat.le_of_ble_eq_true rfl) ⟨Nat.zero_le _, Nat.zero_le _⟩ dX0_sink_107 (fun X107 H locs hp107 h => ?_)
              rw [hp107] at h
              refine lv_iload Z.1 Z.2.1 dX0_sink_110 (lv_at hl 4 rfl) ?_
              refine lv_istore (lv' := [(4, .int (iI (ch))), (0, .ref (ad 0)), (1, .int (iI (q))), (3, .int (iI (a))), (5, .int (iI (ch)))]) Z.1 Z.2.1 dX0_sink_112 hl (by decide) rfl (fun ls hl => ?_)
              refine i_const Z dX0_sink_114 ?_
              refine lv_iload Z.1 Z.2.1 dX0_sink_115 (lv_at hl 0 rfl) ?_
              refine i_mul Z dX0_sink_117 ?_
              refine i_const Z dX0_sink_118 ?_
              refine i_add Z dX0_sink_119 ?_
              refine lv_istore (lv' := [(5, .int (iI ((2 * ch) + 1))), (4, .int (iI (ch))), (0, .ref (ad 0)), (1, .int (iI (q))), (3, .int (iI (a)))]) Z.1 Z.2.1 dX0_sink_120 hl (by decide) rfl (fun ls hl => ?_)
              refine lv_goto (tgt := 11) Z.1 Z.2.1 dX0_sink_122 (by decide) ?_
              exact ih ch ((2 * ch) + 1) ((plc Y (q) (i) (Y 10 ((q * 40) + ch)))) _ _ _ (by omega) (FR.plc hF (by omega) (hBj.1 (ch) (by omega) (by omega) (by omega)).1 (by omega)) (by rw [plc_h]; exact sink_step (bq_ord _) hH ⟨by omega, by omega⟩ (by omega) best (by rw [← e3]; exact c88)) (by rw [plc_h, plc_p]; exact bijh_move hBj i0 i1 (by omega) (by omega) (by omega)) (Or.inl rfl) h (lv_sub hl [2, 3, 4, 1, 0] rfl)
          · refine i_inc (lv' := [(5, .int (iI (ch + 1))), (0, .ref (ad 0)), (1, .int (iI (q))), (3, .int (iI (a))), (4, .int (iI (i)))]) Z dX0_sink_68 hl (k := 4) rfl (by decide) rfl (fun ls hl => ?_)
            have best : ∀ j, 0 < j → j < sz → (j - 1) / 2 = i → ¬ bq (X 3) (hsg Y q j) (hsg Y q (ch + 1)) := by
              intro j j0 j1 jq
              rcases (show j = ch ∨ j = ch + 1 by omega) with e | e
              · rw [e, ← eA, ← e3]; exact (bq_ord _).1 _ _ c65
              · rw [e]; exact bq_irr _ _
            refine lv_aload_n Z.1 Z.2.1 dX0_sink_71 rfl (lv_at hl 1 rfl) ?_
            refine lv_aload_n Z.1 Z.2.1 dX0_sink_72 rfl (lv_at hl 1 rfl) ?_
            refine c_get Z h 10 (by decide) q42 rfl dX0_sink_73 ?_
            refine lv_iload_n Z.1 Z.2.1 dX0_sink_76 rfl (lv_at hl 2 rfl) ?_
            refine i_bipush Z dX0_sink_77 (by decide) ?_
            refine i_mul Z dX0_sink_79 ?_
            refine lv_iload Z.1 Z.2.1 dX0_sink_80 (lv_at hl 0 rfl) ?_
            refine i_add Z dX0_sink_82 ?_
            refine g_ald Z h (c_at_10 dA ad) (by decide) (v := Y 10 ((q * 40) + (ch + 1))) (by omega) rfl dX0_sink_83 ?_
            have o11 := hX 10 ((q * 40) + (ch + 1))
            refine lv_iload_n Z.1 Z.2.1 dX0_sink_84 rfl (lv_at hl 3 rfl) ?_
            refine g_calli (As := [.int (iI (Y 10 ((q * 40) + (ch + 1)))), .int (iI (a))]) (rest := []) (q := (RX0, TX0, 21)) (ci := 0) Z h (metX0_before l D dA A ad Y (Y 10 ((q * 40) + (ch + 1))) a hX (by omega) (by omega)) (cwV 2 Z.2.2.2.2.1 (lw_V q112 q114 qs2 q22 q115) rfl rfl rfl (by decide +kernel) ⟨Nat.le_of_ble_eq_true rfl, Nat.le_of_ble_eq_true rfl⟩) rfl rfl rfl hl.1 rfl (Nat.le_of_ble_eq_true rfl) ⟨Nat.zero_le _, Nat.zero_le _⟩ dX0_sink_85 (fun z85 X85 H locs hp85 h => ?_)
            obtain ⟨ec9, hz85⟩ := hp85
            rw [ec9] at h
            refine b_ifeq (tgt := 125) Z hz85 dX0_sink_88 (by decide) (fun c88 => ?_) (fun c88 => ?_)
            · refine lv_aload_n Z.1 Z.2.1 dX0_sink_125 rfl (lv_at hl 1 rfl) ?_
              refine c_get Z h 9 (by decide) q41 rfl dX0_sink_126 ?_
              refine lv_iload_n Z.1 Z.2.1 dX0_sink_129 rfl (lv_at hl 2 rfl) ?_
              refine g_ald Z h (c_at_9 dA ad) (by decide) (v := Y 9 (q)) (by omega) rfl dX0_sink_130 ?_
              have o12 := hX 9 (q)
              refine lv_istore (lv' := [(5, .int (iI (Y 9 (q)))), (0, .ref (ad 0)), (1, .int (iI (q))), (3, .int (iI (a))), (4, .int (iI (i)))]) Z.1 Z.2.1 dX0_sink_131 hl (by decide) rfl (fun ls hl => ?_)
              refine lv_goto (tgt := 11) Z.1 Z.2.1 dX0_sink_133 (by decide) ?_
              exact ih i (Y 9 (q)) Y _ _ _ (by omega) hF hH hBj (Or.inr ⟨e9, fun j j0 j1 jq => (bq_ord _).2 _ _ _ (best j j0 j1 jq) (by rw [← e3]; exact c88)⟩) h (lv_sub hl [1, 2, 3, 4, 0] rfl)
            · refine lv_aload_n Z.1 Z.2.1 dX0_sink_91 rfl (lv_at hl 1 rfl) ?_
              refine lv_iload_n Z.1 Z.2.1 dX0_sink_92 rfl (lv_at hl 2 rfl) ?_
              refine lv_iload Z.1 Z.2.1 dX0_sink_93 (lv_at hl 4 rfl) ?_
              refine lv_aload_n Z.1 Z.2.1 dX0_sink_95 rfl (lv_at hl 1 rfl) ?_
              refine c_get Z h 10 (by decide) q42 rfl dX0_sink_96 ?_
              refine lv_iload_n Z.1 Z.2.1 dX0_sink_99 rfl (lv_at hl 2 rfl) ?_
              refine i_bipush Z dX0_sink_100 (by decide) ?_
              refine i_mul Z dX0_sink_102 ?_
              refine lv_iload Z.1 Z.2.1 dX0_sink_103 (lv_at hl 0 rfl) ?_
              refine i_add Z dX0_sink_105 ?_
              refine g_ald Z h (c_at_10 dA ad) (by decide) (v := Y 10 ((q * 40) + (ch + 1))) (by omega) rfl dX0_sink_106 ?_
              have o13 := hX 10 ((q * 40) + (ch + 1))
              refine g_callv (As := [.int (iI (q)), .int (iI (i)), .int (iI (Y 10 ((q * 40) + (ch + 1))))]) (rest := []) (q := (RX0, TX0, 21)) (ci := 0) Z h (metX0_place l D dA A ad Y q i (Y 10 ((q * 40) + (ch + 1))) hX (by omega) (by omega) (by omega)) (cwV 3 Z.2.2.2.2.1 (lw_V q116 q118 qs3 q22 q119) rfl rfl rfl (by decide +kernel) ⟨Nat.le_of_ble_eq_true rfl, Nat.le_of_ble_eq_true rfl⟩) rfl rfl rfl hl.1 rfl (Nat.le_of_ble_eq_true rfl) ⟨Nat.zero_le _, Nat.zero_le _⟩ dX0_sink_107 (fun X107 H locs hp107 h => ?_)
              rw [hp107] at h
              refine lv_iload Z.1 Z.2.1 dX0_sink_110 (lv_at hl 0 rfl) ?_
              refine lv_istore (lv' := [(4, .int (iI (ch + 1))), (5, .int (iI (ch + 1))), (0, .ref (ad 0)), (1, .int (iI (q))), (3, .int (iI (a)))]) Z.1 Z.2.1 dX0_sink_112 hl (by decide) rfl (fun ls hl => ?_)
              refine i_const Z dX0_sink_114 ?_
              refine lv_iload Z.1 Z.2.1 dX0_sink_115 (lv_at hl 0 rfl) ?_
              refine i_mul Z dX0_sink_117 ?_
              refine i_const Z dX0_sink_118 ?_
              refine i_add Z dX0_sink_119 ?_
              refine lv_istore (lv' := [(5, .int (iI ((2 * (ch + 1)) + 1))), (4, .int (iI (ch + 1))), (0, .ref (ad 0)), (1, .int (iI (q))), (3, .int (iI (a)))]) Z.1 Z.2.1 dX0_sink_120 hl (by decide) rfl (fun ls hl => ?_)
              refine lv_goto (tgt := 11) Z.1 Z.2.1 dX0_sink_122 (by decide) ?_
              exact ih (ch + 1) ((2 * (ch + 1)) + 1) ((plc Y (q) (i) (Y 10 ((q * 40) + (ch + 1))))) _ _ _ (by omega) (FR.plc hF (by omega) (hBj.1 (ch + 1) (by omega) (by omega) (by omega)).1 (by omega)) (by rw [plc_h]; exact sink_step (bq_ord _) hH ⟨by omega, by omega⟩ (by omega) best (by rw [← e3]; exact c88)) (by rw [plc_h, plc_p]; exact bijh_move hBj i0 i1 (by omega) (by omega) (by omega)) (Or.inl rfl) h (lv_sub hl [2, 3, 4, 1, 0] rfl)
  exact loop ((2 * sz - ((2 * i0) + 1) + 1).toNat) i0 ((2 * i0) + 1) X _ _ _ (by omega) (FR.rf hX) hR hB0 (Or.inl rfl) h (lv_sub hl [2, 3, 5, 1, 0] rfl)
set_option maxHeartbeats 4000000 in
set_option maxRecDepth 100000 in
theorem metX0_makeReady (l : Launch) (D : va_G) (dA : ClassId) (A : Nat → Prop) (ad : Nat → Nat) (X : zS) (a : Int) (hX : okX X) (hc : 0 ≤ X 0 0 ∧ X 0 0 ≤ 40) (hm : 0 ≤ a ∧ a < X 0 0) (h1 : 0 ≤ X 1 a ∧ X 1 a ≤ 2) (hQ : HQm X a) : cMv l yX0_makeReady cX0_makeReady 3 2 47 D dA A ad [.ref (ad 0), .int (iI a)] X (fun X1 => okX X1 ∧ X1 5 = uI (X 5) a 0 ∧ (∀ k, k ≠ 5 → k ≠ 9 → k ≠ 10 → k ≠ 11 → X1 k = X k) ∧ HQ X1) := by
  refine g_start_v (by decide) ?_
  intro p e s m below meth c Z hr hlocks h
  have Z : gC RX0 D dA p s m ([.ref (ad 0), .int (iI a)] : List Value).toArray c cX0_makeReady 3 := Z
  have hl := lv_entry ([.ref (ad 0), .int (iI a)]) (n := 3) (Nat.le_of_ble_eq_true rfl)
  rw [lg_entry_eq]
  generalize (lg_sl ([.ref (ad 0), .int (iI a)]) ++ List.replicate (3 - (lg_sl ([.ref (ad 0), .int (iI a)])).length) Slot.unset).toArray = ls at hl ⊢
  have hl : lv_has ls 3 [(0, .ref (ad 0)), (1, .int (iI (a)))] := hl
  have hqm := hQ (X 1 a) h1.1 h1.2
  have hn1 := bij_le1 hqm.1 (N := X 0 0) (fun b w => ⟨w.1.1, w.1.2.1⟩) hm.1 hm.2 (fun w => w.2 rfl)
  have hn0 := hqm.1.1
  obtain ⟨hBn, hRn⟩ := hole_new hqm.1 hqm.2 (m := a) (fun w => w.2 rfl)
  refine lv_aload_n Z.1 Z.2.1 dX0_makeReady_0 rfl (lv_at hl 0 rfl) ?_
  refine c_get Z h 1 (by decide) q33 rfl dX0_makeReady_1 ?_
  refine lv_iload_n Z.1 Z.2.1 dX0_makeReady_4 rfl (lv_at hl 1 rfl) ?_
  refine g_ald Z h (c_at_1 dA ad) (by decide) (v := X 1 (a)) (by omega) rfl dX0_makeReady_5 ?_
  have o1 := hX 1 (a)
  refine lv_istore_n (lv' := [(2, .int (iI (X 1 (a)))), (0, .ref (ad 0)), (1, .int (iI (a)))]) Z.1 Z.2.1 dX0_makeReady_6 rfl hl (by decide) rfl (fun ls hl => ?_)
  refine lv_aload_n Z.1 Z.2.1 dX0_makeReady_7 rfl (lv_at hl 1 rfl) ?_
  refine c_get Z h 5 (by decide) q37 rfl dX0_makeReady_8 ?_
  refine lv_iload_n Z.1 Z.2.1 dX0_makeReady_11 rfl (lv_at hl 2 rfl) ?_
  refine i_const Z dX0_makeReady_12 ?_
  refine g_ast Z h (c_at_5 dA ad) (c_set_5 dA ad) (by decide) (i := a) (v := 0) (by omega) dX0_makeReady_13 (fun H locs h => ?_)
  have hX := okX_set hX 5 (a) (0) (by omega)
  refine lv_aload_n Z.1 Z.2.1 dX0_makeReady_14 rfl (lv_at hl 1 rfl) ?_
  refine c_get Z h 9 (by decide) q41 rfl dX0_makeReady_15 ?_
  refine lv_iload_n Z.1 Z.2.1 dX0_makeReady_18 rfl (lv_at hl 0 rfl) ?_
  refine i_dup2 Z dX0_makeReady_19 rfl rfl ?_
  refine g_ald Z h (c_at_9 dA ad) (by decide) (v := X 9 (X 1 (a))) (by omega) (by simp [sU]) dX0_makeReady_20 ?_
  have o2 := hX 9 (X 1 (a))
  rw [show (sU X 5 (a) (0)) 9 (X 1 (a)) = X 9 (X 1 (a)) from by simp [sU]] at o2
  refine i_const Z dX0_makeReady_21 ?_
  refine i_add Z dX0_makeReady_22 ?_
  refine g_ast Z h (c_at_9 dA ad) (c_set_9 dA ad) (by decide) (i := X 1 (a)) (v := (X 9 (X 1 (a))) + 1) (by omega) dX0_makeReady_23 (fun H locs h => ?_)
  have hX := okX_set hX 9 (X 1 (a)) ((X 9 (X 1 (a))) + 1) (by omega)
  refine lv_aload_n Z.1 Z.2.1 dX0_makeReady_24 rfl (lv_at hl 1 rfl) ?_
  refine lv_iload_n Z.1 Z.2.1 dX0_makeReady_25 rfl (lv_at hl 0 rfl) ?_
  refine lv_aload_n Z.1 Z.2.1 dX0_makeReady_26 rfl (lv_at hl 1 rfl) ?_
  refine c_get Z h 9 (by decide) q41 rfl dX0_makeReady_27 ?_
  refine lv_iload_n Z.1 Z.2.1 dX0_makeReady_30 rfl (lv_at hl 0 rfl) ?_
  refine g_ald Z h (c_at_9 dA ad) (by decide) (v := (X 9 (X 1 (a))) + 1) (by omega) (by simp [sU]) dX0_makeReady_31 ?_
  have o3 := hX 9 (X 1 (a))
  rw [show (sU (sU X 5 (a) (0)) 9 (X 1 (a)) ((X 9 (X 1 (a))) + 1)) 9 (X 1 (a)) = (X 9 (X 1 (a))) + 1 from by simp [sU]] at o3
  refine i_const Z dX0_makeReady_32 ?_
  refine i_sub Z dX0_makeReady_33 ?_
  refine lv_iload_n Z.1 Z.2.1 dX0_makeReady_34 rfl (lv_at hl 2 rfl) ?_
  have eh : hsg (sU (sU X 5 (a) (0)) 9 (X 1 (a)) ((X 9 (X 1 (a))) + 1)) (X 1 a) = hsg X (X 1 a) := by unfold hsg; rw [sU_k (by decide), sU_k (by decide)]
  have e11 : (sU (sU X 5 (a) (0)) 9 (X 1 (a)) ((X 9 (X 1 (a))) + 1)) 11 = X 11 := by rw [sU_k (by decide), sU_k (by decide)]
  have e3 : (sU (sU X 5 (a) (0)) 9 (X 1 (a)) ((X 9 (X 1 (a))) + 1)) 3 = X 3 := by rw [sU_k (by decide), sU_k (by decide)]
  rw [show ((X 9 (X 1 (a))) + 1) - 1 = X 9 (X 1 a) by omega]
  refine g_callv (As := [.int (iI (X 1 a)), .int (iI (X 9 (X 1 a))), .int (iI (a))]) (rest := []) (q := (RX0, TX0, 21)) (ci := 0) Z h (metX0_rise l D dA A ad ((sU (sU X 5 (a) (0)) 9 (X 1 (a)) ((X 9 (X 1 (a))) + 1))) (X 9 (X 1 a) + 1) (X 1 a) (X 9 (X 1 a)) a (fun b => (rdy X (X 1 a) b ∧ b ≠ a) ∨ b = a) hX (by omega) (by omega) (fun b w => by rcases w with w | w; (have := w.1.1; have := w.1.2.1; omega); omega) (Or.inr rfl) (by rw [eh, e3]; exact hRn) (by rw [eh, e11]; exact hBn)) (cwV 3 Z.2.2.2.2.1 (lw_V q108 q110 qs1 q22 q111) rfl rfl rfl (by decide +kernel) ⟨Nat.le_of_ble_eq_true rfl, Nat.le_of_ble_eq_true rfl⟩) rfl rfl rfl hl.1 rfl (Nat.le_of_ble_eq_true rfl) ⟨Nat.zero_le _, Nat.zero_le _⟩ dX0_makeReady_35 (fun X35 H locs hp35 h => ?_)
  exact g_return Z hr hlocks h (ready_made hc hm h1 hQ hp35.1 hp35.2.1 (by have w := hp35.2.2; rw [e3] at w; exact w)) dX0_makeReady_38
set_option maxHeartbeats 4000000 in
set_option maxRecDepth 100000 in
theorem metX0_takeOut (l : Launch) (D : va_G) (dA : ClassId) (A : Nat → Prop) (ad : Nat → Nat) (X : zS) (a : Int) (hX : okX X) (hc : 0 ≤ X 0 0 ∧ X 0 0 ≤ 40) (h1 : 0 ≤ X 1 a ∧ X 1 a ≤ 2) (hQ : HQ X) (hr0 : rdy X (X 1 a) a) : cMv l yX0_takeOut cX0_takeOut 5 2 48 D dA A ad [.ref (ad 0), .int (iI a)] X (fun X1 => okX X1 ∧ (∀ k, k ≠ 9 → k ≠ 10 → k ≠ 11 → X1 k = X k) ∧ HQm X1 a) := by
  refine g_start_v (by decide) ?_
  intro p e s m below meth c Z hr hlocks h
  have Z : gC RX0 D dA p s m ([.ref (ad 0), .int (iI a)] : List Value).toArray c cX0_takeOut 5 := Z
  have hl := lv_entry ([.ref (ad 0), .int (iI a)]) (n := 5) (Nat.le_of_ble_eq_true rfl)
  rw [lg_entry_eq]
  generalize (lg_sl ([.ref (ad 0), .int (iI a)]) ++ List.replicate (5 - (lg_sl ([.ref (ad 0), .int (iI a)])).length) Slot.unset).toArray = ls at hl ⊢
  have hl : lv_has ls 5 [(0, .ref (ad 0)), (1, .int (iI (a)))] := hl
  have hqm := hQ (X 1 a) h1.1 h1.2
  have hn0 := hqm.1.2.2 a hr0
  have hn4 := bij_le hqm.1 hc.1 (fun b w => ⟨w.1, w.2.1⟩)
  have hS : ∀ b, (rdy X (X 1 a) b ∧ b ≠ a) → 0 ≤ b ∧ b < 40 := fun b w => by have := w.1.1; have := w.1.2.1; omega
  have hlst := (hqm.1.2.1 (X 9 (X 1 a) - 1) (by omega) (by omega)).1
  have hlb : 0 ≤ X 10 (X 1 a * 40 + (X 9 (X 1 a) - 1)) ∧ X 10 (X 1 a * 40 + (X 9 (X 1 a) - 1)) < 40 := by have w1 := hlst.1; have w2 := hlst.2.1; unfold hsg at w1 w2; omega
  have hm0 := hr0.1
  have hm1 := hr0.2.1
  refine lv_aload_n Z.1 Z.2.1 dX0_takeOut_0 rfl (lv_at hl 0 rfl) ?_
  refine c_get Z h 1 (by decide) q33 rfl dX0_takeOut_1 ?_
  refine lv_iload_n Z.1 Z.2.1 dX0_takeOut_4 rfl (lv_at hl 1 rfl) ?_
  refine g_ald Z h (c_at_1 dA ad) (by decide) (v := X 1 (a)) (by omega) rfl dX0_takeOut_5 ?_
  have o1 := hX 1 (a)
  refine lv_istore_n (lv' := [(2, .int (iI (X 1 (a)))), (0, .ref (ad 0)), (1, .int (iI (a)))]) Z.1 Z.2.1 dX0_takeOut_6 rfl hl (by decide) rfl (fun ls hl => ?_)
  refine lv_aload_n Z.1 Z.2.1 dX0_takeOut_7 rfl (lv_at hl 1 rfl) ?_
  refine c_get Z h 11 (by decide) q43 rfl dX0_takeOut_8 ?_
  refine lv_iload_n Z.1 Z.2.1 dX0_takeOut_11 rfl (lv_at hl 2 rfl) ?_
  refine g_ald Z h (c_at_11 dA ad) (by decide) (v := X 11 (a)) (by omega) rfl dX0_takeOut_12 ?_
  have o2 := hX 11 (a)
  refine lv_istore_n (lv' := [(3, .int (iI (X 11 (a)))), (2, .int (iI (X 1 (a)))), (0, .ref (ad 0)), (1, .int (iI (a)))]) Z.1 Z.2.1 dX0_takeOut_13 rfl hl (by decide) rfl (fun ls hl => ?_)
  refine lv_aload_n Z.1 Z.2.1 dX0_takeOut_14 rfl (lv_at hl 2 rfl) ?_
  refine c_get Z h 9 (by decide) q41 rfl dX0_takeOut_15 ?_
  refine lv_iload_n Z.1 Z.2.1 dX0_takeOut_18 rfl (lv_at hl 1 rfl) ?_
  refine i_dup2 Z dX0_takeOut_19 rfl rfl ?_
  refine g_ald Z h (c_at_9 dA ad) (by decide) (v := X 9 (X 1 (a))) (by omega) rfl dX0_takeOut_20 ?_
  have o3 := hX 9 (X 1 (a))
  refine i_const Z dX0_takeOut_21 ?_
  refine i_sub Z dX0_takeOut_22 ?_
  refine g_ast Z h (c_at_9 dA ad) (c_set_9 dA ad) (by decide) (i := X 1 (a)) (v := (X 9 (X 1 (a))) - 1) (by omega) dX0_takeOut_23 (fun H locs h => ?_)
  have hX := okX_set hX 9 (X 1 (a)) ((X 9 (X 1 (a))) - 1) (by omega)
  refine lv_aload_n Z.1 Z.2.1 dX0_takeOut_24 rfl (lv_at hl 2 rfl) ?_
  refine c_get Z h 10 (by decide) q42 rfl dX0_takeOut_25 ?_
  refine lv_iload_n Z.1 Z.2.1 dX0_takeOut_28 rfl (lv_at hl 1 rfl) ?_
  refine i_bipush Z dX0_takeOut_29 (by decide) ?_
  refine i_mul Z dX0_takeOut_31 ?_
  refine lv_aload_n Z.1 Z.2.1 dX0_takeOut_32 rfl (lv_at hl 2 rfl) ?_
  refine c_get Z h 9 (by decide) q41 rfl dX0_takeOut_33 ?_
  refine lv_iload_n Z.1 Z.2.1 dX0_takeOut_36 rfl (lv_at hl 1 rfl) ?_
  refine g_ald Z h (c_at_9 dA ad) (by decide) (v := (X 9 (X 1 (a))) - 1) (by omega) (by simp [sU]) dX0_takeOut_37 ?_
  have o4 := hX 9 (X 1 (a))
  rw [show (sU X 9 (X 1 (a)) ((X 9 (X 1 (a))) - 1)) 9 (X 1 (a)) = (X 9 (X 1 (a))) - 1 from by simp [sU]] at o4
  refine i_add Z dX0_takeOut_38 ?_
  refine g_ald Z h (c_at_10 dA ad) (by decide) (v := X 10 (((X 1 (a)) * 40) + ((X 9 (X 1 (a))) - 1))) (by omega) (by simp [sU]) dX0_takeOut_39 ?_
  have o5 := hX 10 (((X 1 (a)) * 40) + ((X 9 (X 1 (a))) - 1))
  rw [show (sU X 9 (X 1 (a)) ((X 9 (X 1 (a))) - 1)) 10 (((X 1 (a)) * 40) + ((X 9 (X 1 (a))) - 1)) = X 10 (((X 1 (a)) * 40) + ((X 9 (X 1 (a))) - 1)) from by simp [sU]] at o5
  refine lv_istore (lv' := [(4, .int (iI (X 10 (((X 1 (a)) * 40) + ((X 9 (X 1 (a))) - 1))))), (3, .int (iI (X 11 (a)))), (2, .int (iI (X 1 (a)))), (0, .ref (ad 0)), (1, .int (iI (a)))]) Z.1 Z.2.1 dX0_takeOut_40 hl (by decide) rfl (fun ls hl => ?_)
  refine lv_iload Z.1 Z.2.1 dX0_takeOut_42 (lv_at hl 0 rfl) ?_
  refine lv_iload_n Z.1 Z.2.1 dX0_takeOut_44 rfl (lv_at hl 4 rfl) ?_
  refine i_icmp_ne (tgt := 49) Z (by omega) dX0_takeOut_45 (by decide) (fun c45 => ?_) (fun c45 => ?_)
  · have eh : hsg (sU X 9 (X 1 a) (X 9 (X 1 a) - 1)) (X 1 a) = hsg X (X 1 a) := by unfold hsg; rw [sU_k (by decide)]
    have e11 : (sU X 9 (X 1 a) (X 9 (X 1 a) - 1)) 11 = X 11 := by rw [sU_k (by decide)]
    have e3 : (sU X 9 (X 1 a) (X 9 (X 1 a) - 1)) 3 = X 3 := by rw [sU_k (by decide)]
    have e9 : (sU X 9 (X 1 a) (X 9 (X 1 a) - 1)) 9 (X 1 a) = X 9 (X 1 a) - 1 := sU_s
    obtain ⟨d0, d1, dB, dS, dR, dK⟩ := hole_drop (bq_ord (X 3)) hqm.1 hqm.2 (by omega) hr0 (m := a) (by intro w; unfold hsg at w; omega)
    refine lv_iload_n Z.1 Z.2.1 dX0_takeOut_49 rfl (lv_at hl 1 rfl) ?_
    refine i_if_le (tgt := 88) Z (by omega) dX0_takeOut_50 (by decide) (fun c50 => ?_) (fun c50 => ?_)
    · refine lv_aload_n Z.1 Z.2.1 dX0_takeOut_88 rfl (lv_at hl 3 rfl) ?_
      refine lv_iload_n Z.1 Z.2.1 dX0_takeOut_89 rfl (lv_at hl 2 rfl) ?_
      refine lv_iload_n Z.1 Z.2.1 dX0_takeOut_90 rfl (lv_at hl 1 rfl) ?_
      refine lv_iload Z.1 Z.2.1 dX0_takeOut_91 (lv_at hl 0 rfl) ?_
      refine g_callv (As := [.int (iI (X 1 (a))), .int (iI (X 11 (a))), .int (iI (X 10 (((X 1 (a)) * 40) + ((X 9 (X 1 (a))) - 1))))]) (rest := []) (q := (RX0, TX0, 21)) (ci := 0) Z h (metX0_sink l D dA A ad ((sU X 9 (X 1 (a)) ((X 9 (X 1 (a))) - 1))) (X 9 (X 1 a) - 1) (X 1 a) (X 11 a) (X 10 (X 1 a * 40 + (X 9 (X 1 a) - 1))) (fun b => rdy X (X 1 a) b ∧ b ≠ a) hX (by omega) (by omega) hS ⟨dS, by intro w; unfold hsg at *; omega⟩ e9 (by rw [eh, e3]; exact (dK (fun w => by first | omega | exact c74 (by rw [e3]; exact w.2)))) (by rw [eh, e11]; exact dB)) (cwV 3 Z.2.2.2.2.1 (lw_V q139 q141 qs7 q22 q142) rfl rfl rfl (by decide +kernel) ⟨Nat.le_of_ble_eq_true rfl, Nat.le_of_ble_eq_true rfl⟩) rfl rfl rfl hl.1 rfl (Nat.le_of_ble_eq_true rfl) ⟨Nat.zero_le _, Nat.zero_le _⟩ dX0_takeOut_93 (fun X93 H locs hp93 h => ?_)
      exact g_return Z hr hlocks h (taken_out hc hQ hp93.1 hp93.2.1 (by have w := hp93.2.2; rw [e3] at w; exact w)) dX0_takeOut_96
    · have hpp := (hqm.1.2.1 ((X 11 a - 1) / 2) (by omega) (by omega)).1
      have hpb : 0 ≤ X 10 (X 1 a * 40 + (X 11 a - 1) / 2) ∧ X 10 (X 1 a * 40 + (X 11 a - 1) / 2) < 40 := by have w1 := hpp.1; have w2 := hpp.2.1; unfold hsg at w1 w2; omega
      refine lv_aload_n Z.1 Z.2.1 dX0_takeOut_53 rfl (lv_at hl 3 rfl) ?_
      refine lv_iload Z.1 Z.2.1 dX0_takeOut_54 (lv_at hl 0 rfl) ?_
      refine lv_aload_n Z.1 Z.2.1 dX0_takeOut_56 rfl (lv_at hl 3 rfl) ?_
      refine c_get Z h 10 (by decide) q42 rfl dX0_takeOut_57 ?_
      refine lv_iload_n Z.1 Z.2.1 dX0_takeOut_60 rfl (lv_at hl 2 rfl) ?_
      refine i_bipush Z dX0_takeOut_61 (by decide) ?_
      refine i_mul Z dX0_takeOut_63 ?_
      refine lv_iload_n Z.1 Z.2.1 dX0_takeOut_64 rfl (lv_at hl 1 rfl) ?_
      refine i_const Z dX0_takeOut_65 ?_
      refine i_sub Z dX0_takeOut_66 ?_
      refine i_const Z dX0_takeOut_67 ?_
      refine i_div Z (by omega) dX0_takeOut_68 ?_
      refine i_add Z dX0_takeOut_69 ?_
      refine g_ald Z h (c_at_10 dA ad) (by decide) (v := X 10 (((X 1 (a)) * 40) + (((X 11 (a)) - 1) / 2))) (by omega) (by simp [sU]) dX0_takeOut_70 ?_
      have o6 := hX 10 (((X 1 (a)) * 40) + (((X 11 (a)) - 1) / 2))
      rw [show (sU X 9 (X 1 (a)) ((X 9 (X 1 (a))) - 1)) 10 (((X 1 (a)) * 40) + (((X 11 (a)) - 1) / 2)) = X 10 (((X 1 (a)) * 40) + (((X 11 (a)) - 1) / 2)) from by simp [sU]] at o6
      refine g_calli (As := [.int (iI (X 10 (((X 1 (a)) * 40) + ((X 9 (X 1 (a))) - 1)))), .int (iI (X 10 (((X 1 (a)) * 40) + (((X 11 (a)) - 1) / 2))))]) (rest := []) (q := (RX0, TX0, 21)) (ci := 0) Z h (metX0_before l D dA A ad ((sU X 9 (X 1 (a)) ((X 9 (X 1 (a))) - 1))) (X 10 (((X 1 (a)) * 40) + ((X 9 (X 1 (a))) - 1))) (X 10 (((X 1 (a)) * 40) + (((X 11 (a)) - 1) / 2))) hX (by omega) (by omega)) (cwV 2 Z.2.2.2.2.1 (lw_V q112 q114 qs2 q22 q115) rfl rfl rfl (by decide +kernel) ⟨Nat.le_of_ble_eq_true rfl, Nat.le_of_ble_eq_true rfl⟩) rfl rfl rfl hl.1 rfl (Nat.le_of_ble_eq_true rfl) ⟨Nat.zero_le _, Nat.zero_le _⟩ dX0_takeOut_71 (fun z71 X71 H locs hp71 h => ?_)
      obtain ⟨e8, hz71⟩ := hp71
      rw [e8] at h
      refine b_ifeq (tgt := 88) Z hz71 dX0_takeOut_74 (by decide) (fun c74 => ?_) (fun c74 => ?_)
      · refine lv_aload_n Z.1 Z.2.1 dX0_takeOut_88 rfl (lv_at hl 3 rfl) ?_
        refine lv_iload_n Z.1 Z.2.1 dX0_takeOut_89 rfl (lv_at hl 2 rfl) ?_
        refine lv_iload_n Z.1 Z.2.1 dX0_takeOut_90 rfl (lv_at hl 1 rfl) ?_
        refine lv_iload Z.1 Z.2.1 dX0_takeOut_91 (lv_at hl 0 rfl) ?_
        refine g_callv (As := [.int (iI (X 1 (a))), .int (iI (X 11 (a))), .int (iI (X 10 (((X 1 (a)) * 40) + ((X 9 (X 1 (a))) - 1))))]) (rest := []) (q := (RX0, TX0, 21)) (ci := 0) Z h (metX0_sink l D dA A ad ((sU X 9 (X 1 (a)) ((X 9 (X 1 (a))) - 1))) (X 9 (X 1 a) - 1) (X 1 a) (X 11 a) (X 10 (X 1 a * 40 + (X 9 (X 1 a) - 1))) (fun b => rdy X (X 1 a) b ∧ b ≠ a) hX (by omega) (by omega) hS ⟨dS, by intro w; unfold hsg at *; omega⟩ e9 (by rw [eh, e3]; exact (dK (fun w => by first | omega | exact c74 (by rw [e3]; exact w.2)))) (by rw [eh, e11]; exact dB)) (cwV 3 Z.2.2.2.2.1 (lw_V q139 q141 qs7 q22 q142) rfl rfl rfl (by decide +kernel) ⟨Nat.le_of_ble_eq_true rfl, Nat.le_of_ble_eq_true rfl⟩) rfl rfl rfl hl.1 rfl (Nat.le_of_ble_eq_true rfl) ⟨Nat.zero_le _, Nat.zero_le _⟩ dX0_takeOut_93 (fun X93 H locs hp93 h => ?_)
        exact g_return Z hr hlocks h (taken_out hc hQ hp93.1 hp93.2.1 (by have w := hp93.2.2; rw [e3] at w; exact w)) dX0_takeOut_96
      · refine lv_aload_n Z.1 Z.2.1 dX0_takeOut_77 rfl (lv_at hl 3 rfl) ?_
        refine lv_iload_n Z.1 Z.2.1 dX0_takeOut_78 rfl (lv_at hl 2 rfl) ?_
        refine lv_iload_n Z.1 Z.2.1 dX0_takeOut_79 rfl (lv_at hl 1 rfl) ?_
        refine lv_iload Z.1 Z.2.1 dX0_takeOut_80 (lv_at hl 0 rfl) ?_
        refine g_callv (As := [.int (iI (X 1 (a))), .int (iI (X 11 (a))), .int (iI (X 10 (((X 1 (a)) * 40) + ((X 9 (X 1 (a))) - 1))))]) (rest := []) (q := (RX0, TX0, 21)) (ci := 0) Z h (metX0_rise l D dA A ad ((sU X 9 (X 1 (a)) ((X 9 (X 1 (a))) - 1))) (X 9 (X 1 a) - 1) (X 1 a) (X 11 a) (X 10 (X 1 a * 40 + (X 9 (X 1 a) - 1))) (fun b => rdy X (X 1 a) b ∧ b ≠ a) hX (by omega) (by omega) hS ⟨dS, by intro w; unfold hsg at *; omega⟩ (by rw [eh, e3]; exact (dR ⟨by omega, by rw [← e3]; exact c74⟩)) (by rw [eh, e11]; exact dB)) (cwV 3 Z.2.2.2.2.1 (lw_V q108 q110 qs1 q22 q111) rfl rfl rfl (by decide +kernel) ⟨Nat.le_of_ble_eq_true rfl, Nat.le_of_ble_eq_true rfl⟩) rfl rfl rfl hl.1 rfl (Nat.le_of_ble_eq_true rfl) ⟨Nat.zero_le _, Nat.zero_le _⟩ dX0_takeOut_82 (fun X82 H locs hp82 h => ?_)
        refine lv_goto (tgt := 96) Z.1 Z.2.1 dX0_takeOut_85 (by decide) ?_
        exact g_return Z hr hlocks h (taken_out hc hQ hp82.1 hp82.2.1 (by have w := hp82.2.2; rw [e3] at w; exact w)) dX0_takeOut_96
  · obtain ⟨l1, l2⟩ := hole_last hqm.1 hqm.2 (by omega) (m := a) (by unfold hsg; omega)
    exact g_return Z hr hlocks h (taken_out hc hQ (FR.rf hX) (by rw [show hsg (sU X 9 (X 1 a) (X 9 (X 1 a) - 1)) (X 1 a) = hsg X (X 1 a) by unfold hsg; rw [sU_k (by decide)], sU_k (by decide)]; exact l1) (by rw [show hsg (sU X 9 (X 1 a) (X 9 (X 1 a) - 1)) (X 1 a) = hsg X (X 1 a) by unfold hsg; rw [sU_k (by decide)]]; exact l2)) dX0_takeOut_48
end
section
/-! the list of what is out: one leaves, one comes -/
theorem bij_shift {h h2 ps : Int → Int} {n p a : Int} {S : Int → Prop} (hB : Bij h ps n S) (p0 : 0 ≤ p) (p1 : p < n) (hp : h p = a) (e : ∀ j, 0 ≤ j → j < n - 1 → h2 j = if j < p then h j else h (j + 1)) : Bij h2 (fun b => if ps b < p then ps b else ps b - 1) (n - 1) (fun b => S b ∧ b ≠ a) := by
  have hI := hB
  obtain ⟨h0, h1, h3⟩ := hB
  refine ⟨by omega, ?_, ?_⟩
  · intro j j0 j1
    rw [e j j0 j1]
    by_cases c : j < p
    · rw [if_pos c]
      have q := h1 j j0 (by omega)
      refine ⟨⟨q.1, fun w => ?_⟩, ?_⟩
      · have := bij_inj hI (i := j) (j := p) j0 (by omega) p0 p1 (by rw [w, hp])
        omega
      · show (if ps (h j) < p then ps (h j) else ps (h j) - 1) = j
        rw [q.2, if_pos c]
    · rw [if_neg c]
      have q := h1 (j + 1) (by omega) (by omega)
      refine ⟨⟨q.1, fun w => ?_⟩, ?_⟩
      · have := bij_inj hI (i := j + 1) (j := p) (by omega) (by omega) p0 p1 (by rw [w, hp])
        omega
      · show (if ps (h (j + 1)) < p then ps (h (j + 1)) else ps (h (j + 1)) - 1) = j
        rw [q.2, if_neg (by omega)]
        omega
  · intro b hb
    obtain ⟨q0, q1, q2⟩ := h3 b hb.1
    have hne : ps b ≠ p := fun w => hb.2 (by rw [← q2, w, hp])
    show 0 ≤ (if ps b < p then ps b else ps b - 1) ∧ (if ps b < p then ps b else ps b - 1) < n - 1 ∧ h2 (if ps b < p then ps b else ps b - 1) = b
    by_cases c : ps b < p
    · rw [if_pos c]
      refine ⟨q0, by omega, ?_⟩
      rw [e _ q0 (by omega), if_pos c]
      exact q2
    · rw [if_neg c]
      refine ⟨by omega, by omega, ?_⟩
      rw [e _ (by omega) (by omega), if_neg (by omega), show ps b - 1 + 1 = ps b by omega]
      exact q2
theorem bij_ins {h h2 ps : Int → Int} {n p a : Int} {S : Int → Prop} (hB : Bij h ps n S) (p0 : 0 ≤ p) (p1 : p ≤ n) (ha : ¬ S a) (e : ∀ j, 0 ≤ j → j ≤ n → h2 j = if j < p then h j else if j = p then a else h (j - 1)) : Bij h2 (fun b => @ite Int (b = a) (Int.instDecidableEq b a) p (if ps b < p then ps b else ps b + 1)) (n + 1) (fun b => S b ∨ b = a) := by
  obtain ⟨h0, h1, h3⟩ := hB
  refine ⟨by omega, ?_, ?_⟩
  · intro j j0 j1
    rw [e j j0 (by omega)]
    by_cases c : j < p
    · rw [if_pos c]
      have q := h1 j j0 (by omega)
      have hne : h j ≠ a := fun w => ha (w ▸ q.1)
      refine ⟨Or.inl q.1, ?_⟩
      show (if h j = a then p else if ps (h j) < p then ps (h j) else ps (h j) + 1) = j
      rw [if_neg hne, q.2, if_pos c]
    · rw [if_neg c]
      by_cases d : j = p
      · rw [if_pos d]
        refine ⟨Or.inr rfl, ?_⟩
        show (if a = a then p else if ps a < p then ps a else ps a + 1) = j
        rw [if_pos rfl, d]
      · rw [if_neg d]
        have q := h1 (j - 1) (by omega) (by omega)
        have hne : h (j - 1) ≠ a := fun w => ha (w ▸ q.1)
        refine ⟨Or.inl q.1, ?_⟩
        show (if h (j - 1) = a then p else if ps (h (j - 1)) < p then ps (h (j - 1)) else ps (h (j - 1)) + 1) = j
        rw [if_neg hne, q.2, if_neg (by omega)]
        omega
  · intro b hb
    show 0 ≤ (if b = a then p else if ps b < p then ps b else ps b + 1) ∧ (if b = a then p else if ps b < p then ps b else ps b + 1) < n + 1 ∧ h2 (if b = a then p else if ps b < p then ps b else ps b + 1) = b
    by_cases d : b = a
    · rw [if_pos d]
      refine ⟨p0, by omega, ?_⟩
      rw [e p p0 p1, if_neg (by omega), if_pos rfl, d]
    · rw [if_neg d]
      obtain ⟨q0, q1, q2⟩ := h3 b (hb.resolve_right d)
      by_cases c : ps b < p
      · rw [if_pos c]
        refine ⟨q0, by omega, ?_⟩
        rw [e _ q0 (by omega), if_pos c]
        exact q2
      · rw [if_neg c]
        refine ⟨by omega, by omega, ?_⟩
        rw [e _ (by omega) (by omega), if_neg (by omega), if_neg (by omega), show ps b + 1 - 1 = ps b by omega]
        exact q2
/-- one leaves the list -/
theorem OL_drop {X Y : zS} {p a : Int} {T : Int → Prop} (hO : OL X T) (p0 : 0 ≤ p) (p1 : p < X 14 0) (hp : X 15 p = a) (e14 : Y 14 0 = X 14 0 - 1) (e15 : ∀ j, 0 ≤ j → j < X 14 0 - 1 → Y 15 j = if j < p then X 15 j else X 15 (j + 1)) (e7 : ∀ b, T b → b ≠ a → Y 7 b = X 7 b) : OL Y (fun b => T b ∧ b ≠ a) := by
  obtain ⟨⟨ps, hB⟩, hs⟩ := hO
  have hB2 := bij_shift hB p0 p1 hp e15
  refine ⟨⟨_, by rw [e14]; exact hB2⟩, ?_⟩
  intro i j i0 ij j1
  rw [e14] at j1
  have qi := (hB2.2.1 i i0 (by omega)).1
  have qj := (hB2.2.1 j (by omega) (by omega)).1
  rw [e7 _ qi.1 qi.2, e7 _ qj.1 qj.2, e15 i i0 (by omega), e15 j (by omega) j1]
  by_cases c : i < p
  · rw [if_pos c]
    by_cases d : j < p
    · rw [if_pos d]; exact hs i j i0 ij (by omega)
    · rw [if_neg d]; exact hs i (j + 1) i0 (by omega) (by omega)
  · rw [if_neg c, if_neg (by omega)]
    exact hs (i + 1) (j + 1) (by omega) (by omega) (by omega)
/-- one comes into the list -/
theorem OL_ins {X Y : zS} {p a : Int} {T : Int → Prop} (hO : OL X T) (ha : ¬ T a) (p0 : 0 ≤ p) (p1 : p ≤ X 14 0) (hlo : p = 0 ∨ X 7 (X 15 (p - 1)) ≤ X 7 a) (hhi : ∀ j, p ≤ j → j < X 14 0 → X 7 a < X 7 (X 15 j)) (e14 : Y 14 0 = X 14 0 + 1) (e15 : ∀ j, 0 ≤ j → j ≤ X 14 0 → Y 15 j = if j < p then X 15 j else if j = p then a else X 15 (j - 1)) (e7 : Y 7 = X 7) : OL Y (fun b => T b ∨ b = a) := by
  obtain ⟨⟨ps, hB⟩, hs⟩ := hO
  have hB2 := bij_ins hB p0 p1 ha e15
  refine ⟨⟨_, by rw [e14]; exact hB2⟩, ?_⟩
  intro i j i0 ij j1
  rw [e14] at j1
  rw [e7, e15 i i0 (by omega), e15 j (by omega) (by omega)]
  have lo : ∀ k, 0 ≤ k → k < p → X 7 (X 15 k) ≤ X 7 a := by
    intro k k0 k1
    rcases hlo with w | w
    · omega
    · exact Int.le_trans (hs k (p - 1) k0 (by omega) (by omega)) w
  by_cases c : i < p
  · rw [if_pos c]
    by_cases d : j < p
    · rw [if_pos d]; exact hs i j i0 ij (by omega)
    · rw [if_neg d]
      by_cases f : j = p
      · rw [if_pos f]; exact lo i i0 c
      · rw [if_neg f]; exact hs i (j - 1) i0 (by omega) (by omega)
  · rw [if_neg c, if_neg (show ¬ j < p by omega)]
    by_cases d : i = p
    · rw [if_pos d]
      by_cases f : j = p
      · rw [if_pos f]; omega
      · rw [if_neg f]; have := hhi (j - 1) (by omega) (by omega); omega
    · rw [if_neg d, if_neg (show ¬ j = p by omega)]
      exact hs (i - 1) (j - 1) (by omega) (by omega) (by omega)
theorem OL_congr {X Y : zS} {T T2 : Int → Prop} (hO : OL X T) (e14 : Y 14 0 = X 14 0) (e15 : Y 15 = X 15) (e7 : ∀ b, T b → Y 7 b = X 7 b) (eT : ∀ b, T b ↔ T2 b) : OL Y T2 := by
  obtain ⟨⟨ps, hB⟩, hs⟩ := hO
  refine ⟨⟨ps, by rw [e14, e15]; exact bij_congr hB (fun _ _ _ => rfl) (fun _ _ => rfl) eT⟩, ?_⟩
  intro i j i0 ij j1
  rw [e14] at j1
  rw [e15, e7 _ (hB.2.1 i i0 (by omega)).1, e7 _ (hB.2.1 j (by omega) j1).1]
  exact hs i j i0 ij j1
/-- where a member stands in the list -/
theorem OL_at {X : zS} {T : Int → Prop} {a : Int} (hO : OL X T) (ha : T a) : ∃ p, 0 ≤ p ∧ p < X 14 0 ∧ X 15 p = a ∧ ∀ j, 0 ≤ j → j < X 14 0 → j ≠ p → X 15 j ≠ a := by
  obtain ⟨⟨ps, hB⟩, hs⟩ := hO
  obtain ⟨q0, q1, q2⟩ := hB.2.2 a ha
  exact ⟨ps a, q0, q1, q2, fun j j0 j1 hne w => hne (bij_inj hB j0 j1 q0 q1 (by rw [w, q2]))⟩
/-- six at most are out -/
theorem OU_six {X : zS} (hO : OU X) (hc : 0 ≤ X 0 0) (b6 : ∀ a, 0 ≤ X 6 a ∧ X 6 a ≤ 2) : 0 ≤ X 14 0 ∧ X 14 0 = X 16 0 + X 16 1 + X 16 2 ∧ X 14 0 ≤ 6 := by
  obtain ⟨⟨⟨ps, hB⟩, hs⟩, hh⟩ := hO
  have e := bij_n hB (N := X 0 0) (fun b w => ⟨w.1, w.2.1⟩)
  have e2 : cn (isOut X) (X 0 0) = cn (fun b => X 5 b = 1) (X 0 0) := cn_congr (fun i a b => ⟨fun w => w.2.2, fun w => ⟨a, b, w⟩⟩)
  have e3 := cn_split3 (p := fun b => X 5 b = 1) (co := X 6) (z := X 0 0) b6
  have h0 := hh 0 (by omega) (by omega)
  have h1 := hh 1 (by omega) (by omega)
  have h2 := hh 2 (by omega) (by omega)
  unfold outN at h0 h1 h2
  have := hB.1
  omega
/-- the counts by consumer, one leaves -/
theorem HL_drop {X Y : zS} {a v : Int} (hh : HL X) (ha : isOut X a) (b6 : 0 ≤ X 6 a ∧ X 6 a ≤ 2) (e0 : Y 0 0 = X 0 0) (e5 : Y 5 = uI (X 5) a v) (hv : v ≠ 1) (e6 : Y 6 = X 6) (e16 : Y 16 = uI (X 16) (X 6 a) (X 16 (X 6 a) - 1)) : HL Y ∧ outN Y (X 6 a) = X 16 (X 6 a) - 1 := by
  have key : ∀ c, 0 ≤ c → c ≤ 2 → Y 16 c = outN Y c ∧ Y 16 c ≤ 2 := by
    intro c c0 c1
    obtain ⟨g1, g2⟩ := hh c c0 c1
    rw [e16]
    by_cases e : c = X 6 a
    · subst e
      rw [uI_s]
      have f : cn (fun b => X 5 b = 1 ∧ X 6 b = X 6 a) (X 0 0) = cn (fun b => Y 5 b = 1 ∧ Y 6 b = X 6 a) (X 0 0) + 1 := by
        refine cn_flip ha.1 ha.2.1 ?_ ⟨ha.2.2, rfl⟩ ?_
        · rw [e5, uI_s]; intro w; exact hv w.1
        · intro i _ _ d
          rw [e5, e6, uI_n d]
      unfold outN at g1 ⊢
      rw [e0]
      omega
    · rw [uI_n e]
      have f : cn (fun b => Y 5 b = 1 ∧ Y 6 b = c) (X 0 0) = cn (fun b => X 5 b = 1 ∧ X 6 b = c) (X 0 0) := by
        refine cn_congr (fun i _ _ => ?_)
        rw [e5, e6]
        by_cases d : i = a
        · subst d
          constructor
          · intro w; exact absurd w.2.symm e
          · intro w; exact absurd w.2.symm e
        · rw [uI_n d]
      unfold outN at g1 ⊢
      rw [e0, f]
      exact ⟨g1, g2⟩
  refine ⟨key, ?_⟩
  have := (key (X 6 a) b6.1 b6.2).1
  rw [← this, e16, uI_s]
/-- the counts by consumer, one comes -/
theorem HL_take {X Y : zS} {a c : Int} (hh : HL X) (ha : 0 ≤ a ∧ a < X 0 0) (h5 : X 5 a ≠ 1) (hc2 : X 16 c < 2) (e0 : Y 0 0 = X 0 0) (e5 : Y 5 = uI (X 5) a 1) (e6 : Y 6 = uI (X 6) a c) (e16 : Y 16 = uI (X 16) c (X 16 c + 1)) : HL Y := by
  intro d d0 d1
  obtain ⟨g1, g2⟩ := hh d d0 d1
  rw [e16]
  by_cases e : d = c
  · subst e
    rw [uI_s]
    have f : cn (fun b => Y 5 b = 1 ∧ Y 6 b = d) (X 0 0) = cn (fun b => X 5 b = 1 ∧ X 6 b = d) (X 0 0) + 1 := by
      refine cn_flip ha.1 ha.2 (fun w => h5 w.1) ?_ ?_
      · rw [e5, e6, uI_s, uI_s]; exact ⟨rfl, rfl⟩
      · intro i _ _ hne
        rw [e5, e6, uI_n hne, uI_n hne]
    unfold outN at g1 ⊢
    rw [e0]
    omega
  · rw [uI_n e]
    have f : cn (fun b => Y 5 b = 1 ∧ Y 6 b = d) (X 0 0) = cn (fun b => X 5 b = 1 ∧ X 6 b = d) (X 0 0) := by
      refine cn_congr (fun i _ _ => ?_)
      rw [e5, e6]
      by_cases g : i = a
      · subst g
        rw [uI_s, uI_s]
        constructor
        · intro w; exact absurd w.2.symm e
        · intro w; exact absurd w.1 h5
      · rw [uI_n g, uI_n g]
    unfold outN at g1 ⊢
    rw [e0, f]
    exact ⟨g1, g2⟩
theorem HL_congr {X Y : zS} (hh : HL X) (e0 : Y 0 0 = X 0 0) (e16 : Y 16 = X 16) (e5 : ∀ b, 0 ≤ b → b < X 0 0 → (Y 5 b = 1 ↔ X 5 b = 1)) (e6 : Y 6 = X 6) : HL Y := by
  intro c c0 c1
  obtain ⟨g1, g2⟩ := hh c c0 c1
  have f : cn (fun b => Y 5 b = 1 ∧ Y 6 b = c) (X 0 0) = cn (fun b => X 5 b = 1 ∧ X 6 b = c) (X 0 0) := cn_congr (fun i a b => by rw [e5 i a b, e6])
  unfold outN at g1 ⊢
  rw [e16, e0, f]
  exact ⟨g1, g2⟩
/-- the lives, when a message is ready again -/
theorem LV_no {X Y : zS} {a : Int} (h : LVm X a) (e17 : Y 17 = X 17) (e18 : Y 18 = X 18) (e8 : Y 8 = X 8) (e0 : Y 0 = X 0) (e5 : Y 5 = uI (X 5) a 0) (ha : X 8 a < 0) : LV Y := by
  obtain ⟨L, ps, h1, h2, h3, h4⟩ := h
  refine ⟨L, ps, by rw [e17, e18]; exact h1, by rw [e17, e18, e8]; exact h2, by rw [e0, e8]; exact h3, fun b b0 b1 b2 b3 => ?_⟩
  rw [e0] at b1
  rw [e8] at b3
  have hne : b ≠ a := fun w => by rw [w] at b3; omega
  rw [e5, uI_n hne] at b2
  exact h4 b b0 b1 b2 b3 hne
theorem LV_in {X Y : zS} {a j : Int} (h : LVm X a) (e17 : Y 17 = X 17) (e18 : Y 18 = X 18) (e8 : Y 8 = X 8) (e0 : Y 0 = X 0) (e5 : Y 5 = uI (X 5) a 0) (j0 : 0 ≤ j) (j1 : j < X 17 0) (hj : X 18 j = a) : LV Y := by
  obtain ⟨L, ps, h1, h2, h3, h4⟩ := h
  refine ⟨L, ps, by rw [e17, e18]; exact h1, by rw [e17, e18, e8]; exact h2, by rw [e0, e8]; exact h3, fun b b0 b1 b2 b3 => ?_⟩
  rw [e0] at b1
  rw [e8] at b3
  by_cases hne : b = a
  · have := (h1.2.1 j j0 j1).1
    rw [hj] at this
    rw [hne]
    exact this
  · rw [e5, uI_n hne] at b2
    exact h4 b b0 b1 b2 b3 hne
end
section
set_option maxHeartbeats 4000000 in
set_option maxRecDepth 100000 in
theorem metX0_addLife (l : Launch) (D : va_G) (dA : ClassId) (A : Nat → Prop) (ad : Nat → Nat) (X : zS) (a : Int) (L : Int → Prop) (ps0 : Int → Int) (hX : okX X) (hL : ∀ b, L b → 0 ≤ b ∧ b < 40) (ha : 0 ≤ a ∧ a < 40) (hB : Bij (X 18) ps0 (X 17 0) L) (hH0 : Hp (X 18) (X 17 0) (bl (X 8))) (hn : ¬ L a) : cMv l yX0_addLife cX0_addLife 3 1 22 D dA A ad [.ref (ad 0), .int (iI a)] X (fun X1 => okX X1 ∧ (∀ k, k ≠ 17 → k ≠ 18 → X1 k = X k) ∧ X1 17 0 = X 17 0 + 1 ∧ ∃ ps : Int → Int, Bij (X1 18) ps (X 17 0 + 1) (fun b => L b ∨ b = a) ∧ Hp (X1 18) (X 17 0 + 1) (bl (X 8))) := by
  refine g_start_v (by decide) ?_
  intro p e s m below meth c Z hr hlocks h
  have Z : gC RX0 D dA p s m ([.ref (ad 0), .int (iI a)] : List Value).toArray c cX0_addLife 3 := Z
  have hl := lv_entry ([.ref (ad 0), .int (iI a)]) (n := 3) (Nat.le_of_ble_eq_true rfl)
  rw [lg_entry_eq]
  generalize (lg_sl ([.ref (ad 0), .int (iI a)]) ++ List.replicate (3 - (lg_sl ([.ref (ad 0), .int (iI a)])).length) Slot.unset).toArray = ls at hl ⊢
  have hl : lv_has ls 3 [(0, .ref (ad 0)), (1, .int (iI (a)))] := hl
  have hsz := bij_le1 hB (N := 40) hL ha.1 ha.2 hn
  have hsz0 := hB.1
  obtain ⟨hBn, hRn⟩ := hole_new hB hH0 hn
  have hT : ∀ b, (L b ∨ b = a) → 0 ≤ b ∧ b < 40 := fun b w => by rcases w with w | w; (exact hL b w); (rw [w]; exact ha)
  refine lv_aload_n Z.1 Z.2.1 dX0_addLife_0 rfl (lv_at hl 0 rfl) ?_
  refine c_getI Z h 17 (by decide) q49 rfl (v := X 17 (0)) rfl dX0_addLife_1 ?_
  have o1 := hX 17 (0)
  refine lv_istore_n (lv' := [(2, .int (iI (X 17 (0)))), (0, .ref (ad 0)), (1, .int (iI (a)))]) Z.1 Z.2.1 dX0_addLife_4 rfl hl (by decide) rfl (fun ls hl => ?_)
  refine lv_aload_n Z.1 Z.2.1 dX0_addLife_5 rfl (lv_at hl 1 rfl) ?_
  refine i_dup Z dX0_addLife_6 rfl ?_
  refine c_getI Z h 17 (by decide) q49 rfl (v := X 17 (0)) rfl dX0_addLife_7 ?_
  have o2 := hX 17 (0)
  refine i_const Z dX0_addLife_10 ?_
  refine i_add Z dX0_addLife_11 ?_
  refine c_put (v := (X 17 (0)) + 1) Z h 17 (by decide) q49 (c_put_17 dA ad) rfl (by decide +kernel) dX0_addLife_12 (fun H locs h => ?_)
  have hX := okX_set hX 17 0 ((X 17 (0)) + 1) (by omega)
  have loop : ∀ (n : Nat) (i : Int) (ps : Int → Int) (Y : zS) (H : Heap) (locs : List Loc) (ls : Array Slot), (i < (n : Int)) → (okX Y) → (∀ k, k ≠ 17 → k ≠ 18 → Y k = X k) → (Y 17 0 = X 17 0 + 1) → (HoleR (Y 18) (X 17 0 + 1) i a (bl (X 8))) → (BijH (Y 18) ps (X 17 0 + 1) (fun b => L b ∨ b = a) a i) → gH D A (cWG dA ad (gG Y)) s.heap H locs → lv_has ls 3 [(0, .ref (ad 0)), (1, .int (iI (a))), (2, .int (iI (i)))] → W p l e ({ frames := 1, cells := 0, slots := 0, locals := 22 } : Room) s m ([.ref (ad 0), .int (iI a)] : List Value).toArray below meth c H locs 0 0 (MQ below (gQv D dA A (cWG dA ad) (fun X1 => okX X1 ∧ (∀ k, k ≠ 17 → k ≠ 18 → X1 k = X k) ∧ X1 17 0 = X 17 0 + 1 ∧ ∃ ps : Int → Int, Bij (X1 18) ps (X 17 0 + 1) (fun b => L b ∨ b = a) ∧ Hp (X1 18) (X 17 0 + 1) (bl (X 8)))) ([.ref (ad 0), .int (iI a)] : List Value).toArray s 0 0 A) (F0 m 15 ls []) := by
    intro n
    induction n with
    | zero =>
      intro i ps Y H locs ls hm hX hK h17 hH hBj h hl
      exfalso; have := hH.1; omega
    | succ n ih =>
      intro i ps Y H locs ls hm hX hK h17 hH hBj h hl
      have e8 : Y 8 = X 8 := hK 8 (by decide) (by decide)
      have i0 := hH.1
      have i1 := hH.2.1
      refine lv_iload_n Z.1 Z.2.1 dX0_addLife_15 rfl (lv_at hl 2 rfl) ?_
      refine i_if_le (tgt := 62) Z (by omega) dX0_addLife_16 (by decide) (fun c16 => ?_) (fun c16 => ?_)
      · refine lv_aload_n Z.1 Z.2.1 dX0_addLife_62 rfl (lv_at hl 0 rfl) ?_
        refine c_get Z h 18 (by decide) q50 rfl dX0_addLife_63 ?_
        refine lv_iload_n Z.1 Z.2.1 dX0_addLife_66 rfl (lv_at hl 2 rfl) ?_
        refine lv_iload_n Z.1 Z.2.1 dX0_addLife_67 rfl (lv_at hl 1 rfl) ?_
        refine g_ast Z h (c_at_18 dA ad) (c_set_18 dA ad) (by decide) (i := i) (v := a) (by omega) dX0_addLife_68 (fun H locs h => ?_)
        have hX := okX_set hX 18 (i) (a) (by omega)
        exact g_return Z hr hlocks h (⟨hX, fun k k1 k2 => by rw [sU_k k2]; exact hK k k1 k2, by rw [sU_k (by decide)]; exact h17, uI ps a i, by rw [sU_u]; exact bijh_end hBj (Or.inr rfl) i0 i1, by rw [sU_u]; exact rise_end hH (by first | exact Or.inl (by omega) | exact Or.inr (by rw [← e8]; exact c34))⟩) dX0_addLife_69
      · have hpp := hBj.1 ((i - 1) / 2) (by omega) (by omega) (by omega)
        have hpb := hT _ hpp.1
        refine lv_aload_n Z.1 Z.2.1 dX0_addLife_19 rfl (lv_at hl 0 rfl) ?_
        refine lv_iload_n Z.1 Z.2.1 dX0_addLife_20 rfl (lv_at hl 1 rfl) ?_
        refine lv_aload_n Z.1 Z.2.1 dX0_addLife_21 rfl (lv_at hl 0 rfl) ?_
        refine c_get Z h 18 (by decide) q50 rfl dX0_addLife_22 ?_
        refine lv_iload_n Z.1 Z.2.1 dX0_addLife_25 rfl (lv_at hl 2 rfl) ?_
        refine i_const Z dX0_addLife_26 ?_
        refine i_sub Z dX0_addLife_27 ?_
        refine i_const Z dX0_addLife_28 ?_
        refine i_div Z (by omega) dX0_addLife_29 ?_
        refine g_ald Z h (c_at_18 dA ad) (by decide) (v := Y 18 ((i - 1) / 2)) (by omega) rfl dX0_addLife_30 ?_
        have o3 := hX 18 ((i - 1) / 2)
        refine g_calli (As := [.int (iI (a)), .int (iI (Y 18 ((i - 1) / 2)))]) (rest := []) (q := (RX0, TX0, 21)) (ci := 0) Z h (metX0_diesBefore l D dA A ad Y a (Y 18 ((i - 1) / 2)) hX (by omega) (by omega)) (cwV 2 Z.2.2.2.2.1 (lw_V q124 q126 qs5 q22 q127) rfl rfl rfl (by decide +kernel) ⟨Nat.le_of_ble_eq_true rfl, Nat.le_of_ble_eq_true rfl⟩) rfl rfl rfl hl.1 rfl (Nat.le_of_ble_eq_true rfl) ⟨Nat.zero_le _, Nat.zero_le _⟩ dX0_addLife_31 (fun z31 X31 H locs hp31 h => ?_)
        obtain ⟨ec9, hz31⟩ := hp31
        rw [ec9] at h
        refine b_ifeq (tgt := 62) Z hz31 dX0_addLife_34 (by decide) (fun c34 => ?_) (fun c34 => ?_)
        · refine lv_aload_n Z.1 Z.2.1 dX0_addLife_62 rfl (lv_at hl 0 rfl) ?_
          refine c_get Z h 18 (by decide) q50 rfl dX0_addLife_63 ?_
          refine lv_iload_n Z.1 Z.2.1 dX0_addLife_66 rfl (lv_at hl 2 rfl) ?_
          refine lv_iload_n Z.1 Z.2.1 dX0_addLife_67 rfl (lv_at hl 1 rfl) ?_
          refine g_ast Z h (c_at_18 dA ad) (c_set_18 dA ad) (by decide) (i := i) (v := a) (by omega) dX0_addLife_68 (fun H locs h => ?_)
          have hX := okX_set hX 18 (i) (a) (by omega)
          exact g_return Z hr hlocks h (⟨hX, fun k k1 k2 => by rw [sU_k k2]; exact hK k k1 k2, by rw [sU_k (by decide)]; exact h17, uI ps a i, by rw [sU_u]; exact bijh_end hBj (Or.inr rfl) i0 i1, by rw [sU_u]; exact rise_end hH (by first | exact Or.inl (by omega) | exact Or.inr (by rw [← e8]; exact c34))⟩) dX0_addLife_69
        · refine lv_aload_n Z.1 Z.2.1 dX0_addLife_37 rfl (lv_at hl 0 rfl) ?_
          refine c_get Z h 18 (by decide) q50 rfl dX0_addLife_38 ?_
          refine lv_iload_n Z.1 Z.2.1 dX0_addLife_41 rfl (lv_at hl 2 rfl) ?_
          refine lv_aload_n Z.1 Z.2.1 dX0_addLife_42 rfl (lv_at hl 0 rfl) ?_
          refine c_get Z h 18 (by decide) q50 rfl dX0_addLife_43 ?_
          refine lv_iload_n Z.1 Z.2.1 dX0_addLife_46 rfl (lv_at hl 2 rfl) ?_
          refine i_const Z dX0_addLife_47 ?_
          refine i_sub Z dX0_addLife_48 ?_
          refine i_const Z dX0_addLife_49 ?_
          refine i_div Z (by omega) dX0_addLife_50 ?_
          refine g_ald Z h (c_at_18 dA ad) (by decide) (v := Y 18 ((i - 1) / 2)) (by omega) rfl dX0_addLife_51 ?_
          have o4 := hX 18 ((i - 1) / 2)
          refine g_ast Z h (c_at_18 dA ad) (c_set_18 dA ad) (by decide) (i := i) (v := Y 18 ((i - 1) / 2)) (by omega) dX0_addLife_52 (fun H locs h => ?_)
          have hX := okX_set hX 18 (i) (Y 18 ((i - 1) / 2)) (by omega)
          refine lv_iload_n Z.1 Z.2.1 dX0_addLife_53 rfl (lv_at hl 2 rfl) ?_
          refine i_const Z dX0_addLife_54 ?_
          refine i_sub Z dX0_addLife_55 ?_
          refine i_const Z dX0_addLife_56 ?_
          refine i_div Z (by omega) dX0_addLife_57 ?_
          refine lv_istore_n (lv' := [(2, .int (iI ((i - 1) / 2))), (0, .ref (ad 0)), (1, .int (iI (a)))]) Z.1 Z.2.1 dX0_addLife_58 rfl hl (by decide) rfl (fun ls hl => ?_)
          refine lv_goto (tgt := 15) Z.1 Z.2.1 dX0_addLife_59 (by decide) ?_
          exact ih ((i - 1) / 2) (uI ps (Y 18 ((i - 1) / 2)) i) ((sU Y 18 (i) (Y 18 ((i - 1) / 2)))) _ _ _ (by omega) hX (fun k k1 k2 => by rw [sU_k k2]; exact hK k k1 k2) (by rw [sU_k (by decide)]; exact h17) (by rw [sU_u]; exact rise_step (bl_ord _) hH (by omega) (by rw [← e8]; exact c34)) (by rw [sU_u]; exact bijh_move hBj i0 i1 (by omega) (by omega) (by omega)) h (lv_sub hl [1, 2, 0] rfl)
  exact loop (((X 17 0) + 1).toNat) (X 17 0) ps0 ((sU X 17 (0) ((X 17 (0)) + 1))) _ _ _ (by omega) hX (fun k k1 k2 => sU_k k1) sU_s (by rw [sU_k (by decide)]; exact hRn) (by rw [sU_k (by decide)]; exact hBn) h (lv_sub hl [1, 2, 0] rfl)
set_option maxHeartbeats 4000000 in
set_option maxRecDepth 100000 in
theorem metX0_firstLife (l : Launch) (D : va_G) (dA : ClassId) (A : Nat → Prop) (ad : Nat → Nat) (X : zS) (L : Int → Prop) (ps0 : Int → Int) (hX : okX X) (hL : ∀ b, L b → 0 ≤ b ∧ b < 40) (hB : Bij (X 18) ps0 (X 17 0) L) (hH0 : Hp (X 18) (X 17 0) (bl (X 8))) (hpos : 0 < X 17 0) : cMi l yX0_firstLife cX0_firstLife 5 (some .int) 1 22 D dA A ad [.ref (ad 0)] X (fun z X1 => z = X 18 0 ∧ okX X1 ∧ (∀ k, k ≠ 17 → k ≠ 18 → X1 k = X k) ∧ X1 17 0 = X 17 0 - 1 ∧ ∃ ps : Int → Int, Bij (X1 18) ps (X 17 0 - 1) (fun b => L b ∧ b ≠ X 18 0) ∧ Hp (X1 18) (X 17 0 - 1) (bl (X 8))) := by
  refine g_start_i (by decide) ?_
  intro p e s m below meth c Z hr hlocks h
  have Z : gC RX0 D dA p s m ([.ref (ad 0)] : List Value).toArray c cX0_firstLife 5 := Z
  have hl := lv_entry ([.ref (ad 0)]) (n := 5) (Nat.le_of_ble_eq_true rfl)
  rw [lg_entry_eq]
  generalize (lg_sl ([.ref (ad 0)]) ++ List.replicate (5 - (lg_sl ([.ref (ad 0)])).length) Slot.unset).toArray = ls at hl ⊢
  have hl : lv_has ls 5 [(0, .ref (ad 0))] := hl
  have hm0 := hB.2.1 0 (by omega) hpos
  have hsz := bij_le hB (N := 40) (by omega) hL
  have hml := hB.2.1 (X 17 0 - 1) (by omega) (by omega)
  have hmb := hL _ hml.1
  obtain ⟨a, hae⟩ : ∃ a, a = X 18 (X 17 0 - 1) := ⟨_, rfl⟩
  obtain ⟨sz, hsze⟩ : ∃ sz, sz = X 17 0 - 1 := ⟨_, rfl⟩
  refine lv_aload_n Z.1 Z.2.1 dX0_firstLife_0 rfl (lv_at hl 0 rfl) ?_
  refine c_get Z h 18 (by decide) q50 rfl dX0_firstLife_1 ?_
  refine i_const Z dX0_firstLife_4 ?_
  refine g_ald Z h (c_at_18 dA ad) (by decide) (v := X 18 (0)) (by omega) rfl dX0_firstLife_5 ?_
  have o1 := hX 18 (0)
  refine lv_istore_n (lv' := [(1, .int (iI (X 18 (0)))), (0, .ref (ad 0))]) Z.1 Z.2.1 dX0_firstLife_6 rfl hl (by decide) rfl (fun ls hl => ?_)
  refine lv_aload_n Z.1 Z.2.1 dX0_firstLife_7 rfl (lv_at hl 1 rfl) ?_
  refine i_dup Z dX0_firstLife_8 rfl ?_
  refine c_getI Z h 17 (by decide) q49 rfl (v := X 17 (0)) rfl dX0_firstLife_9 ?_
  have o2 := hX 17 (0)
  refine i_const Z dX0_firstLife_12 ?_
  refine i_sub Z dX0_firstLife_13 ?_
  refine c_put (v := (X 17 (0)) - 1) Z h 17 (by decide) q49 (c_put_17 dA ad) rfl (by decide +kernel) dX0_firstLife_14 (fun H locs h => ?_)
  have hX := okX_set hX 17 0 ((X 17 (0)) - 1) (by omega)
  refine lv_aload_n Z.1 Z.2.1 dX0_firstLife_17 rfl (lv_at hl 1 rfl) ?_
  refine c_get Z h 18 (by decide) q50 rfl dX0_firstLife_18 ?_
  refine lv_aload_n Z.1 Z.2.1 dX0_firstLife_21 rfl (lv_at hl 1 rfl) ?_
  refine c_getI Z h 17 (by decide) q49 rfl (v := (X 17 (0)) - 1) (by simp [sU]) dX0_firstLife_22 ?_
  have o3 := hX 17 (0)
  rw [show (sU X 17 (0) ((X 17 (0)) - 1)) 17 (0) = (X 17 (0)) - 1 from by simp [sU]] at o3
  refine g_ald Z h (c_at_18 dA ad) (by decide) (v := X 18 ((X 17 (0)) - 1)) (by omega) (by simp [sU]) dX0_firstLife_25 ?_
  have o4 := hX 18 ((X 17 (0)) - 1)
  rw [show (sU X 17 (0) ((X 17 (0)) - 1)) 18 ((X 17 (0)) - 1) = X 18 ((X 17 (0)) - 1) from by simp [sU]] at o4
  refine lv_istore_n (lv' := [(2, .int (iI (X 18 ((X 17 (0)) - 1)))), (1, .int (iI (X 18 (0)))), (0, .ref (ad 0))]) Z.1 Z.2.1 dX0_firstLife_26 rfl hl (by decide) rfl (fun ls hl => ?_)
  rw [← hae] at hl
  refine i_const Z dX0_firstLife_27 ?_
  refine lv_istore_n (lv' := [(3, .int (iI (0))), (2, .int (iI (a))), (1, .int (iI (X 18 (0)))), (0, .ref (ad 0))]) Z.1 Z.2.1 dX0_firstLife_28 rfl hl (by decide) rfl (fun ls hl => ?_)
  refine i_const Z dX0_firstLife_29 ?_
  refine lv_istore (lv' := [(4, .int (iI (1))), (3, .int (iI (0))), (2, .int (iI (a))), (1, .int (iI (X 18 (0)))), (0, .ref (ad 0))]) Z.1 Z.2.1 dX0_firstLife_30 hl (by decide) rfl (fun ls hl => ?_)
  rcases (show X 17 0 - 1 ≤ 0 ∨ 0 < X 17 0 - 1 by omega) with hz0 | hz0
  · refine lv_iload Z.1 Z.2.1 dX0_firstLife_32 (lv_at hl 0 rfl) ?_
    refine lv_aload_n Z.1 Z.2.1 dX0_firstLife_34 rfl (lv_at hl 4 rfl) ?_
    refine c_getI Z h 17 (by decide) q49 rfl (v := (X 17 (0)) - 1) (by simp [sU]) dX0_firstLife_35 ?_
    have o5 := hX 17 (0)
    rw [show (sU X 17 (0) ((X 17 (0)) - 1)) 17 (0) = (X 17 (0)) - 1 from by simp [sU]] at o5
    refine i_icmp_ge (tgt := 128) Z (by omega) dX0_firstLife_38 (by decide) (fun c38 => ?_) (fun c38 => ?_)
    · refine lv_aload_n Z.1 Z.2.1 dX0_firstLife_128 rfl (lv_at hl 4 rfl) ?_
      refine c_get Z h 18 (by decide) q50 rfl dX0_firstLife_129 ?_
      refine lv_iload_n Z.1 Z.2.1 dX0_firstLife_132 rfl (lv_at hl 1 rfl) ?_
      refine lv_iload_n Z.1 Z.2.1 dX0_firstLife_133 rfl (lv_at hl 2 rfl) ?_
      refine g_ast Z h (c_at_18 dA ad) (c_set_18 dA ad) (by decide) (i := 0) (v := a) (by omega) dX0_firstLife_134 (fun H locs h => ?_)
      have hX := okX_set hX 18 (0) (a) (by omega)
      refine lv_iload_n Z.1 Z.2.1 dX0_firstLife_135 rfl (lv_at hl 3 rfl) ?_
      obtain ⟨l1, l2⟩ := hole_last hB hH0 hpos (m := X 18 0) (by rw [show X 17 0 - 1 = 0 by omega])
      exact g_ireturn Z hr hlocks h rfl (⟨rfl, hX, fun k k1 k2 => by rw [sU_k k2, sU_k k1], by rw [sU_k (by decide), sU_s], ps0, bij_congr l1 (fun j j0 j1 => by omega) (fun _ _ => rfl) (fun _ => Iff.rfl), fun j j0 j1 => by omega⟩) dX0_firstLife_136
    · exfalso; omega
  · obtain ⟨d0, d1, dB, dS, dR, dK⟩ := hole_drop (bl_ord (X 8)) hB hH0 hpos (m := X 18 0) hm0.1 (fun w => by have := bij_inj hB (i := X 17 0 - 1) (j := 0) (by omega) (by omega) (by omega) (by omega) w; omega)
    have dH := dK (fun w => by rw [hm0.2] at w; omega)
    rw [hm0.2, ← hae, ← hsze] at dH dB
    have loop : ∀ (n : Nat) (i : Int) (ch : Int) (ps : Int → Int) (Y : zS) (H : Heap) (locs : List Loc) (ls : Array Slot), (2 * sz - ch < (n : Int)) → (okX Y) → (∀ k, k ≠ 17 → k ≠ 18 → Y k = X k) → (Y 17 0 = sz) → (HoleS (Y 18) sz i a (bl (X 8))) → (BijH (Y 18) ps sz (fun b => L b ∧ b ≠ X 18 0) a i) → (ch = 2 * i + 1 ∨ (ch = sz ∧ ∀ j, 0 < j → j < sz → (j - 1) / 2 = i → ¬ bl (X 8) (Y 18 j) a)) → gH D A (cWG dA ad (gG Y)) s.heap H locs → lv_has ls 5 [(0, .ref (ad 0)), (1, .int (iI (X 18 0))), (2, .int (iI (a))), (3, .int (iI (i))), (4, .int (iI (ch)))] → W p l e ({ frames := 1, cells := 0, slots := 0, locals := 22 } : Room) s m ([.ref (ad 0)] : List Value).toArray below meth c H locs 0 0 (MQ below (gQi D dA A (cWG dA ad) (fun z X1 => z = X 18 0 ∧ okX X1 ∧ (∀ k, k ≠ 17 → k ≠ 18 → X1 k = X k) ∧ X1 17 0 = X 17 0 - 1 ∧ ∃ ps : Int → Int, Bij (X1 18) ps (X 17 0 - 1) (fun b => L b ∧ b ≠ X 18 0) ∧ Hp (X1 18) (X 17 0 - 1) (bl (X 8)))) ([.ref (ad 0)] : List Value).toArray s 0 0 A) (F0 m 32 ls []) := by
      intro n
      induction n with
      | zero =>
        intro i ch ps Y H locs ls hm hX hK h17 hH hBj hc h hl
        exfalso; have := hH.1; have := hH.2.1; rcases hc with w | ⟨w, _⟩ <;> omega
      | succ n ih =>
        intro i ch ps Y H locs ls hm hX hK h17 hH hBj hc h hl
        have e8 : Y 8 = X 8 := hK 8 (by decide) (by decide)
        have i0 := hH.1
        have i1 := hH.2.1
        refine lv_iload Z.1 Z.2.1 dX0_firstLife_32 (lv_at hl 4 rfl) ?_
        refine lv_aload_n Z.1 Z.2.1 dX0_firstLife_34 rfl (lv_at hl 0 rfl) ?_
        refine c_getI Z h 17 (by decide) q49 rfl (v := Y 17 (0)) rfl dX0_firstLife_35 ?_
        have o6 := hX 17 (0)
        refine i_icmp_ge (tgt := 128) Z (by omega) dX0_firstLife_38 (by decide) (fun c38 => ?_) (fun c38 => ?_)
        · refine lv_aload_n Z.1 Z.2.1 dX0_firstLife_128 rfl (lv_at hl 0 rfl) ?_
          refine c_get Z h 18 (by decide) q50 rfl dX0_firstLife_129 ?_
          refine lv_iload_n Z.1 Z.2.1 dX0_firstLife_132 rfl (lv_at hl 3 rfl) ?_
          refine lv_iload_n Z.1 Z.2.1 dX0_firstLife_133 rfl (lv_at hl 2 rfl) ?_
          refine g_ast Z h (c_at_18 dA ad) (c_set_18 dA ad) (by decide) (i := i) (v := a) (by omega) dX0_firstLife_134 (fun H locs h => ?_)
          have hX := okX_set hX 18 (i) (a) (by omega)
          refine lv_iload_n Z.1 Z.2.1 dX0_firstLife_135 rfl (lv_at hl 1 rfl) ?_
          exact g_ireturn Z hr hlocks h rfl (⟨rfl, hX, fun k k1 k2 => by rw [sU_k k2]; exact hK k k1 k2, by rw [sU_k (by decide), ← hsze]; exact h17, uI ps a i, by rw [sU_u, ← hsze]; exact bijh_end hBj (by rw [hae]; exact ⟨hml.1, fun w => by have := bij_inj hB (i := X 17 0 - 1) (j := 0) (by omega) (by omega) (by omega) (by omega) w; omega⟩) i0 i1, by rw [sU_u, ← hsze]; exact sink_end hH (fun j j0 j1 jq => by rcases hc with w | ⟨w, w2⟩; (exfalso; omega); exact w2 j j0 j1 jq)⟩) dX0_firstLife_136
        · have hch : ch = 2 * i + 1 := by rcases hc with w | ⟨w, _⟩ <;> omega
          have hp1 := hBj.1 ch (by omega) (by omega) (by omega)
          have hb1 : 0 ≤ Y 18 ch ∧ Y 18 ch < 40 := hL _ hp1.1.1
          refine lv_iload Z.1 Z.2.1 dX0_firstLife_41 (lv_at hl 4 rfl) ?_
          refine i_const Z dX0_firstLife_43 ?_
          refine i_add Z dX0_firstLife_44 ?_
          refine lv_aload_n Z.1 Z.2.1 dX0_firstLife_45 rfl (lv_at hl 0 rfl) ?_
          refine c_getI Z h 17 (by decide) q49 rfl (v := Y 17 (0)) rfl dX0_firstLife_46 ?_
          have o7 := hX 17 (0)
          refine i_icmp_ge (tgt := 78) Z (by omega) dX0_firstLife_49 (by decide) (fun c49 => ?_) (fun c49 => ?_)
          · have best : ∀ j, 0 < j → j < sz → (j - 1) / 2 = i → ¬ bl (X 8) (Y 18 j) (Y 18 (ch)) := by
              intro j j0 j1 jq
              rcases (show j = ch ∨ j = ch + 1 by omega) with e | e
              · rw [e]; exact bl_irr _ _
              · first | (exfalso; omega) | (rw [e, ← e8]; exact c72)
            refine lv_aload_n Z.1 Z.2.1 dX0_firstLife_78 rfl (lv_at hl 0 rfl) ?_
            refine lv_aload_n Z.1 Z.2.1 dX0_firstLife_79 rfl (lv_at hl 0 rfl) ?_
            refine c_get Z h 18 (by decide) q50 rfl dX0_firstLife_80 ?_
            refine lv_iload Z.1 Z.2.1 dX0_firstLife_83 (lv_at hl 4 rfl) ?_
            refine g_ald Z h (c_at_18 dA ad) (by decide) (v := Y 18 (ch)) (by omega) rfl dX0_firstLife_85 ?_
            have o8 := hX 18 (ch)
            refine lv_iload_n Z.1 Z.2.1 dX0_firstLife_86 rfl (lv_at hl 2 rfl) ?_
            refine g_calli (As := [.int (iI (Y 18 (ch))), .int (iI (a))]) (rest := []) (q := (RX0, TX0, 21)) (ci := 0) Z h (metX0_diesBefore l D dA A ad Y (Y 18 (ch)) a hX (by omega) (by omega)) (cwV 2 Z.2.2.2.2.1 (lw_V q124 q126 qs5 q22 q127) rfl rfl rfl (by decide +kernel) ⟨Nat.le_of_ble_eq_true rfl, Nat.le_of_ble_eq_true rfl⟩) rfl rfl rfl hl.1 rfl (Nat.le_of_ble_eq_true rfl) ⟨Nat.zero_le _, Nat.zero_le _⟩ dX0_firstLife_87 (fun z87 X87 H locs hp87 h => ?_)
            obtain ⟨ec9, hz87⟩ := hp87
            rw [ec9] at h
            refine b_ifeq (tgt := 119) Z hz87 dX0_firstLife_90 (by decide) (fun c90 => ?_) (fun c90 => ?_)
            · refine lv_aload_n Z.1 Z.2.1 dX0_firstLife_119 rfl (lv_at hl 0 rfl) ?_
              refine c_getI Z h 17 (by decide) q49 rfl (v := Y 17 (0)) rfl dX0_firstLife_120 ?_
              have o9 := hX 17 (0)
              refine lv_istore (lv' := [(4, .int (iI (Y 17 (0)))), (0, .ref (ad 0)), (1, .int (iI (X 18 0))), (2, .int (iI (a))), (3, .int (iI (i)))]) Z.1 Z.2.1 dX0_firstLife_123 hl (by decide) rfl (fun ls hl => ?_)
              refine lv_goto (tgt := 32) Z.1 Z.2.1 dX0_firstLife_125 (by decide) ?_
              exact ih i (Y 17 (0)) ps Y _ _ _ (by omega) hX hK h17 hH hBj (Or.inr ⟨by omega, fun j j0 j1 jq => (bl_ord _).2 _ _ _ (best j j0 j1 jq) (by rw [← e8]; exact c90)⟩) h (lv_sub hl [1, 2, 3, 4, 0] rfl)
            · refine lv_aload_n Z.1 Z.2.1 dX0_firstLife_93 rfl (lv_at hl 0 rfl) ?_
              refine c_get Z h 18 (by decide) q50 rfl dX0_firstLife_94 ?_
              refine lv_iload_n Z.1 Z.2.1 dX0_firstLife_97 rfl (lv_at hl 3 rfl) ?_
              refine lv_aload_n Z.1 Z.2.1 dX0_firstLife_98 rfl (lv_at hl 0 rfl) ?_
              refine c_get Z h 18 (by decide) q50 rfl dX0_firstLife_99 ?_
              refine lv_iload Z.1 Z.2.1 dX0_firstLife_102 (lv_at hl 4 rfl) ?_
              refine g_ald Z h (c_at_18 dA ad) (by decide) (v := Y 18 (ch)) (by omega) rfl dX0_firstLife_104 ?_
              have o10 := hX 18 (ch)
              refine g_ast Z h (c_at_18 dA ad) (c_set_18 dA ad) (by decide) (i := i) (v := Y 18 (ch)) (by omega) dX0_firstLife_105 (fun H locs h => ?_)
              have hX := okX_set hX 18 (i) (Y 18 (ch)) (by omega)
              refine lv_iload Z.1 Z.2.1 dX0_firstLife_106 (lv_at hl 4 rfl) ?_
              refine lv_istore_n (lv' := [(3, .int (iI (ch))), (0, .ref (ad 0)), (1, .int (iI (X 18 0))), (2, .int (iI (a))), (4, .int (iI (ch)))]) Z.1 Z.2.1 dX0_firstLife_108 rfl hl (by decide) rfl (fun ls hl => ?_)
              refine i_const Z dX0_firstLife_109 ?_
              refine lv_iload_n Z.1 Z.2.1 dX0_firstLife_110 rfl (lv_at hl 0 rfl) ?_
              refine i_mul Z dX0_firstLife_111 ?_
              refine i_const Z dX0_firstLife_112 ?_
              refine i_add Z dX0_firstLife_113 ?_
              refine lv_istore (lv' := [(4, .int (iI ((2 * ch) + 1))), (3, .int (iI (ch))), (0, .ref (ad 0)), (1, .int (iI (X 18 0))), (2, .int (iI (a)))]) Z.1 Z.2.1 dX0_firstLife_114 hl (by decide) rfl (fun ls hl => ?_)
              refine lv_goto (tgt := 32) Z.1 Z.2.1 dX0_firstLife_116 (by decide) ?_
              exact ih ch ((2 * ch) + 1) (uI ps (Y 18 (ch)) i) ((sU Y 18 (i) (Y 18 (ch)))) _ _ _ (by omega) hX (fun k k1 k2 => by rw [sU_k k2]; exact hK k k1 k2) (by rw [sU_k (by decide)]; exact h17) (by rw [sU_u]; exact sink_step (bl_ord _) hH ⟨by omega, by omega⟩ (by omega) best (by rw [← e8]; exact c90)) (by rw [sU_u]; exact bijh_move hBj i0 i1 (by omega) (by omega) (by omega)) (Or.inl rfl) h (lv_sub hl [2, 3, 4, 1, 0] rfl)
          · have hp2 := hBj.1 (ch + 1) (by omega) (by omega) (by omega)
            have hb2 : 0 ≤ Y 18 (ch + 1) ∧ Y 18 (ch + 1) < 40 := hL _ hp2.1.1
            refine lv_aload_n Z.1 Z.2.1 dX0_firstLife_52 rfl (lv_at hl 0 rfl) ?_
            refine lv_aload_n Z.1 Z.2.1 dX0_firstLife_53 rfl (lv_at hl 0 rfl) ?_
            refine c_get Z h 18 (by decide) q50 rfl dX0_firstLife_54 ?_
            refine lv_iload Z.1 Z.2.1 dX0_firstLife_57 (lv_at hl 4 rfl) ?_
            refine i_const Z dX0_firstLife_59 ?_
            refine i_add Z dX0_firstLife_60 ?_
            refine g_ald Z h (c_at_18 dA ad) (by decide) (v := Y 18 (ch + 1)) (by omega) rfl dX0_firstLife_61 ?_
            have o11 := hX 18 (ch + 1)
            refine lv_aload_n Z.1 Z.2.1 dX0_firstLife_62 rfl (lv_at hl 0 rfl) ?_
            refine c_get Z h 18 (by decide) q50 rfl dX0_firstLife_63 ?_
            refine lv_iload Z.1 Z.2.1 dX0_firstLife_66 (lv_at hl 4 rfl) ?_
            refine g_ald Z h (c_at_18 dA ad) (by decide) (v := Y 18 (ch)) (by omega) rfl dX0_firstLife_68 ?_
            have o12 := hX 18 (ch)
            refine g_calli (As := [.int (iI (Y 18 (ch + 1))), .int (iI (Y 18 (ch)))]) (rest := []) (q := (RX0, TX0, 21)) (ci := 0) Z h (metX0_diesBefore l D dA A ad Y (Y 18 (ch + 1)) (Y 18 (ch)) hX (by omega) (by omega)) (cwV 2 Z.2.2.2.2.1 (lw_V q124 q126 qs5 q22 q127) rfl rfl rfl (by decide +kernel) ⟨Nat.le_of_ble_eq_true rfl, Nat.le_of_ble_eq_true rfl⟩) rfl rfl rfl hl.1 rfl (Nat.le_of_ble_eq_true rfl) ⟨Nat.zero_le _, Nat.zero_le _⟩ dX0_firstLife_69 (fun z69 X69 H locs hp69 h => ?_)
            obtain ⟨ec9, hz69⟩ := hp69
            rw [ec9] at h
            refine b_ifeq (tgt := 78) Z hz69 dX0_firstLife_72 (by decide) (fun c72 => ?_) (fun c72 => ?_)
            · have best : ∀ j, 0 < j → j < sz → (j - 1) / 2 = i → ¬ bl (X 8) (Y 18 j) (Y 18 (ch)) := by
                intro j j0 j1 jq
                rcases (show j = ch ∨ j = ch + 1 by omega) with e | e
                · rw [e]; exact bl_irr _ _
                · first | (exfalso; omega) | (rw [e, ← e8]; exact c72)
              refine lv_aload_n Z.1 Z.2.1 dX0_firstLife_78 rfl (lv_at hl 0 rfl) ?_
              refine lv_aload_n Z.1 Z.2.1 dX0_firstLife_79 rfl (lv_at hl 0 rfl) ?_
              refine c_get Z h 18 (by decide) q50 rfl dX0_firstLife_80 ?_
              refine lv_iload Z.1 Z.2.1 dX0_firstLife_83 (lv_at hl 4 rfl) ?_
              refine g_ald Z h (c_at_18 dA ad) (by decide) (v := Y 18 (ch)) (by omega) rfl dX0_firstLife_85 ?_
              have o13 := hX 18 (ch)
              refine lv_iload_n Z.1 Z.2.1 dX0_firstLife_86 rfl (lv_at hl 2 rfl) ?_
              refine g_calli (As := [.int (iI (Y 18 (ch))), .int (iI (a))]) (rest := []) (q := (RX0, TX0, 21)) (ci := 0) Z h (metX0_diesBefore l D dA A ad Y (Y 18 (ch)) a hX (by omega) (by omega)) (cwV 2 Z.2.2.2.2.1 (lw_V q124 q126 qs5 q22 q127) rfl rfl rfl (by decide +kernel) ⟨Nat.le_of_ble_eq_true rfl, Nat.le_of_ble_eq_true rfl⟩) rfl rfl rfl hl.1 rfl (Nat.le_of_ble_eq_true rfl) ⟨Nat.zero_le _, Nat.zero_le _⟩ dX0_firstLife_87 (fun z87 X87 H locs hp87 h => ?_)
              obtain ⟨ec9, hz87⟩ := hp87
              rw [ec9] at h
              refine b_ifeq (tgt := 119) Z hz87 dX0_firstLife_90 (by decide) (fun c90 => ?_) (fun c90 => ?_)
              · refine lv_aload_n Z.1 Z.2.1 dX0_firstLife_119 rfl (lv_at hl 0 rfl) ?_
                refine c_getI Z h 17 (by decide) q49 rfl (v := Y 17 (0)) rfl dX0_firstLife_120 ?_
                have o14 := hX 17 (0)
                refine lv_istore (lv' := [(4, .int (iI (Y 17 (0)))), (0, .ref (ad 0)), (1, .int (iI (X 18 0))), (2, .int (iI (a))), (3, .int (iI (i)))]) Z.1 Z.2.1 dX0_firstLife_123 hl (by decide) rfl (fun ls hl => ?_)
                refine lv_goto (tgt := 32) Z.1 Z.2.1 dX0_firstLife_125 (by decide) ?_
                exact ih i (Y 17 (0)) ps Y _ _ _ (by omega) hX hK h17 hH hBj (Or.inr ⟨by omega, fun j j0 j1 jq => (bl_ord _).2 _ _ _ (best j j0 j1 jq) (by rw [← e8]; exact c90)⟩) h (lv_sub hl [1, 2, 3, 4, 0] rfl)
              · refine lv_aload_n Z.1 Z.2.1 dX0_firstLife_93 rfl (lv_at hl 0 rfl) ?_
                refine c_get Z h 18 (by decide) q50 rfl dX0_firstLife_94 ?_
                refine lv_iload_n Z.1 Z.2.1 dX0_firstLife_97 rfl (lv_at hl 3 rfl) ?_
                refine lv_aload_n Z.1 Z.2.1 dX0_firstLife_98 rfl (lv_at hl 0 rfl) ?_
                refine c_get Z h 18 (by decide) q50 rfl dX0_firstLife_99 ?_
                refine lv_iload Z.1 Z.2.1 dX0_firstLife_102 (lv_at hl 4 rfl) ?_
                refine g_ald Z h (c_at_18 dA ad) (by decide) (v := Y 18 (ch)) (by omega) rfl dX0_firstLife_104 ?_
                have o15 := hX 18 (ch)
                refine g_ast Z h (c_at_18 dA ad) (c_set_18 dA ad) (by decide) (i := i) (v := Y 18 (ch)) (by omega) dX0_firstLife_105 (fun H locs h => ?_)
                have hX := okX_set hX 18 (i) (Y 18 (ch)) (by omega)
                refine lv_iload Z.1 Z.2.1 dX0_firstLife_106 (lv_at hl 4 rfl) ?_
                refine lv_istore_n (lv' := [(3, .int (iI (ch))), (0, .ref (ad 0)), (1, .int (iI (X 18 0))), (2, .int (iI (a))), (4, .int (iI (ch)))]) Z.1 Z.2.1 dX0_firstLife_108 rfl hl (by decide) rfl (fun ls hl => ?_)
                refine i_const Z dX0_firstLife_109 ?_
                refine lv_iload_n Z.1 Z.2.1 dX0_firstLife_110 rfl (lv_at hl 0 rfl) ?_
                refine i_mul Z dX0_firstLife_111 ?_
                refine i_const Z dX0_firstLife_112 ?_
                refine i_add Z dX0_firstLife_113 ?_
                refine lv_istore (lv' := [(4, .int (iI ((2 * ch) + 1))), (3, .int (iI (ch))), (0, .ref (ad 0)), (1, .int (iI (X 18 0))), (2, .int (iI (a)))]) Z.1 Z.2.1 dX0_firstLife_114 hl (by decide) rfl (fun ls hl => ?_)
                refine lv_goto (tgt := 32) Z.1 Z.2.1 dX0_firstLife_116 (by decide) ?_
                exact ih ch ((2 * ch) + 1) (uI ps (Y 18 (ch)) i) ((sU Y 18 (i) (Y 18 (ch)))) _ _ _ (by omega) hX (fun k k1 k2 => by rw [sU_k k2]; exact hK k k1 k2) (by rw [sU_k (by decide)]; exact h17) (by rw [sU_u]; exact sink_step (bl_ord _) hH ⟨by omega, by omega⟩ (by omega) best (by rw [← e8]; exact c90)) (by rw [sU_u]; exact bijh_move hBj i0 i1 (by omega) (by omega) (by omega)) (Or.inl rfl) h (lv_sub hl [2, 3, 4, 1, 0] rfl)
            · refine i_inc (lv' := [(4, .int (iI (ch + 1))), (0, .ref (ad 0)), (1, .int (iI (X 18 0))), (2, .int (iI (a))), (3, .int (iI (i)))]) Z dX0_firstLife_75 hl (k := 4) rfl (by decide) rfl (fun ls hl => ?_)
              have best : ∀ j, 0 < j → j < sz → (j - 1) / 2 = i → ¬ bl (X 8) (Y 18 j) (Y 18 (ch + 1)) := by
                intro j j0 j1 jq
                rcases (show j = ch ∨ j = ch + 1 by omega) with e | e
                · rw [e, ← e8]; exact (bl_ord _).1 _ _ c72
                · rw [e]; exact bl_irr _ _
              refine lv_aload_n Z.1 Z.2.1 dX0_firstLife_78 rfl (lv_at hl 1 rfl) ?_
              refine lv_aload_n Z.1 Z.2.1 dX0_firstLife_79 rfl (lv_at hl 1 rfl) ?_
              refine c_get Z h 18 (by decide) q50 rfl dX0_firstLife_80 ?_
              refine lv_iload Z.1 Z.2.1 dX0_firstLife_83 (lv_at hl 0 rfl) ?_
              refine g_ald Z h (c_at_18 dA ad) (by decide) (v := Y 18 (ch + 1)) (by omega) rfl dX0_firstLife_85 ?_
              have o16 := hX 18 (ch + 1)
              refine lv_iload_n Z.1 Z.2.1 dX0_firstLife_86 rfl (lv_at hl 3 rfl) ?_
              refine g_calli (As := [.int (iI (Y 18 (ch + 1))), .int (iI (a))]) (rest := []) (q := (RX0, TX0, 21)) (ci := 0) Z h (metX0_diesBefore l D dA A ad Y (Y 18 (ch + 1)) a hX (by omega) (by omega)) (cwV 2 Z.2.2.2.2.1 (lw_V q124 q126 qs5 q22 q127) rfl rfl rfl (by decide +kernel) ⟨Nat.le_of_ble_eq_true rfl, Nat.le_of_ble_eq_true rfl⟩) rfl rfl rfl hl.1 rfl (Nat.le_of_ble_eq_true rfl) ⟨Nat.zero_le _, Nat.zero_le _⟩ dX0_firstLife_87 (fun z87 X87 H locs hp87 h => ?_)
              obtain ⟨ec9, hz87⟩ := hp87
              rw [ec9] at h
              refine b_ifeq (tgt := 119) Z hz87 dX0_firstLife_90 (by decide) (fun c90 => ?_) (fun c90 => ?_)
              · refine lv_aload_n Z.1 Z.2.1 dX0_firstLife_119 rfl (lv_at hl 1 rfl) ?_
                refine c_getI Z h 17 (by decide) q49 rfl (v := Y 17 (0)) rfl dX0_firstLife_120 ?_
                have o17 := hX 17 (0)
                refine lv_istore (lv' := [(4, .int (iI (Y 17 (0)))), (0, .ref (ad 0)), (1, .int (iI (X 18 0))), (2, .int (iI (a))), (3, .int (iI (i)))]) Z.1 Z.2.1 dX0_firstLife_123 hl (by decide) rfl (fun ls hl => ?_)
                refine lv_goto (tgt := 32) Z.1 Z.2.1 dX0_firstLife_125 (by decide) ?_
                exact ih i (Y 17 (0)) ps Y _ _ _ (by omega) hX hK h17 hH hBj (Or.inr ⟨by omega, fun j j0 j1 jq => (bl_ord _).2 _ _ _ (best j j0 j1 jq) (by rw [← e8]; exact c90)⟩) h (lv_sub hl [1, 2, 3, 4, 0] rfl)
              · refine lv_aload_n Z.1 Z.2.1 dX0_firstLife_93 rfl (lv_at hl 1 rfl) ?_
                refine c_get Z h 18 (by decide) q50 rfl dX0_firstLife_94 ?_
                refine lv_iload_n Z.1 Z.2.1 dX0_firstLife_97 rfl (lv_at hl 4 rfl) ?_
                refine lv_aload_n Z.1 Z.2.1 dX0_firstLife_98 rfl (lv_at hl 1 rfl) ?_
                refine c_get Z h 18 (by decide) q50 rfl dX0_firstLife_99 ?_
                refine lv_iload Z.1 Z.2.1 dX0_firstLife_102 (lv_at hl 0 rfl) ?_
                refine g_ald Z h (c_at_18 dA ad) (by decide) (v := Y 18 (ch + 1)) (by omega) rfl dX0_firstLife_104 ?_
                have o18 := hX 18 (ch + 1)
                refine g_ast Z h (c_at_18 dA ad) (c_set_18 dA ad) (by decide) (i := i) (v := Y 18 (ch + 1)) (by omega) dX0_firstLife_105 (fun H locs h => ?_)
                have hX := okX_set hX 18 (i) (Y 18 (ch + 1)) (by omega)
                refine lv_iload Z.1 Z.2.1 dX0_firstLife_106 (lv_at hl 0 rfl) ?_
                refine lv_istore_n (lv' := [(3, .int (iI (ch + 1))), (4, .int (iI (ch + 1))), (0, .ref (ad 0)), (1, .int (iI (X 18 0))), (2, .int (iI (a)))]) Z.1 Z.2.1 dX0_firstLife_108 rfl hl (by decide) rfl (fun ls hl => ?_)
                refine i_const Z dX0_firstLife_109 ?_
                refine lv_iload_n Z.1 Z.2.1 dX0_firstLife_110 rfl (lv_at hl 0 rfl) ?_
                refine i_mul Z dX0_firstLife_111 ?_
                refine i_const Z dX0_firstLife_112 ?_
                refine i_add Z dX0_firstLife_113 ?_
                refine lv_istore (lv' := [(4, .int (iI ((2 * (ch + 1)) + 1))), (3, .int (iI (ch + 1))), (0, .ref (ad 0)), (1, .int (iI (X 18 0))), (2, .int (iI (a)))]) Z.1 Z.2.1 dX0_firstLife_114 hl (by decide) rfl (fun ls hl => ?_)
                refine lv_goto (tgt := 32) Z.1 Z.2.1 dX0_firstLife_116 (by decide) ?_
                exact ih (ch + 1) ((2 * (ch + 1)) + 1) (uI ps (Y 18 (ch + 1)) i) ((sU Y 18 (i) (Y 18 (ch + 1)))) _ _ _ (by omega) hX (fun k k1 k2 => by rw [sU_k k2]; exact hK k k1 k2) (by rw [sU_k (by decide)]; exact h17) (by rw [sU_u]; exact sink_step (bl_ord _) hH ⟨by omega, by omega⟩ (by omega) best (by rw [← e8]; exact c90)) (by rw [sU_u]; exact bijh_move hBj i0 i1 (by omega) (by omega) (by omega)) (Or.inl rfl) h (lv_sub hl [2, 3, 4, 1, 0] rfl)
    exact loop ((2 * sz - 1 + 1).toNat) 0 1 ps0 ((sU X 17 (0) ((X 17 (0)) - 1))) _ _ _ (by omega) hX (fun k k1 k2 => sU_k k1) (by rw [sU_s, hsze]) (by rw [sU_k (by decide)]; exact dH) (by rw [sU_k (by decide)]; exact dB) (Or.inl rfl) h (lv_sub hl [4, 3, 2, 1, 0] rfl)
set_option maxHeartbeats 4000000 in
set_option maxRecDepth 100000 in
theorem metX0_inLives (l : Launch) (D : va_G) (dA : ClassId) (A : Nat → Prop) (ad : Nat → Nat) (X : zS) (a : Int) (hX : okX X) (h17 : 0 ≤ X 17 0 ∧ X 17 0 ≤ 40) (ha : -2147483648 ≤ a ∧ a ≤ 2147483647) : cMi l yX0_inLives cX0_inLives 3 (some .boolean) 0 0 D dA A ad [.ref (ad 0), .int (iI a)] X (fun z X1 => X1 = X ∧ (((∃ j, 0 ≤ j ∧ j < X 17 0 ∧ X 18 j = a) ∧ z = 1) ∨ (¬ (∃ j, 0 ≤ j ∧ j < X 17 0 ∧ X 18 j = a) ∧ z = 0))) := by
  refine g_start_i (by decide) ?_
  intro p e s m below meth c Z hr hlocks h
  have Z : gC RX0 D dA p s m ([.ref (ad 0), .int (iI a)] : List Value).toArray c cX0_inLives 3 := Z
  have hl := lv_entry ([.ref (ad 0), .int (iI a)]) (n := 3) (Nat.le_of_ble_eq_true rfl)
  rw [lg_entry_eq]
  generalize (lg_sl ([.ref (ad 0), .int (iI a)]) ++ List.replicate (3 - (lg_sl ([.ref (ad 0), .int (iI a)])).length) Slot.unset).toArray = ls at hl ⊢
  have hl : lv_has ls 3 [(0, .ref (ad 0)), (1, .int (iI (a)))] := hl
  refine i_const Z dX0_inLives_0 ?_
  refine lv_istore_n (lv' := [(2, .int (iI (0))), (0, .ref (ad 0)), (1, .int (iI (a)))]) Z.1 Z.2.1 dX0_inLives_1 rfl hl (by decide) rfl (fun ls hl => ?_)
  have loop : ∀ (n : Nat) (i : Int) (H : Heap) (locs : List Loc) (ls : Array Slot), (X 17 0 - i < (n : Int)) → (0 ≤ i ∧ i ≤ X 17 0) → (∀ j, 0 ≤ j → j < i → X 18 j ≠ a) → gH D A (cWG dA ad (gG X)) s.heap H locs → lv_has ls 3 [(0, .ref (ad 0)), (1, .int (iI (a))), (2, .int (iI (i)))] → W p l e ({ frames := 0, cells := 0, slots := 0, locals := 0 } : Room) s m ([.ref (ad 0), .int (iI a)] : List Value).toArray below meth c H locs 0 0 (MQ below (gQi D dA A (cWG dA ad) (fun z X1 => X1 = X ∧ (((∃ j, 0 ≤ j ∧ j < X 17 0 ∧ X 18 j = a) ∧ z = 1) ∨ (¬ (∃ j, 0 ≤ j ∧ j < X 17 0 ∧ X 18 j = a) ∧ z = 0)))) ([.ref (ad 0), .int (iI a)] : List Value).toArray s 0 0 A) (F0 m 2 ls []) := by
    intro n
    induction n with
    | zero =>
      intro i H locs ls hm hi hk h hl
      exfalso; omega
    | succ n ih =>
      intro i H locs ls hm hi hk h hl
      refine lv_iload_n Z.1 Z.2.1 dX0_inLives_2 rfl (lv_at hl 2 rfl) ?_
      refine lv_aload_n Z.1 Z.2.1 dX0_inLives_3 rfl (lv_at hl 0 rfl) ?_
      refine c_getI Z h 17 (by decide) q49 rfl (v := X 17 (0)) rfl dX0_inLives_4 ?_
      have o1 := hX 17 (0)
      refine i_icmp_ge (tgt := 28) Z (by omega) dX0_inLives_7 (by decide) (fun c7 => ?_) (fun c7 => ?_)
      · refine i_const Z dX0_inLives_28 ?_
        exact g_ireturn Z hr hlocks h rfl (⟨rfl, Or.inr ⟨fun w => by obtain ⟨j, j0, j1, j2⟩ := w; exact hk j j0 (by omega) j2, rfl⟩⟩) dX0_inLives_29
      · refine lv_aload_n Z.1 Z.2.1 dX0_inLives_10 rfl (lv_at hl 0 rfl) ?_
        refine c_get Z h 18 (by decide) q50 rfl dX0_inLives_11 ?_
        refine lv_iload_n Z.1 Z.2.1 dX0_inLives_14 rfl (lv_at hl 2 rfl) ?_
        refine g_ald Z h (c_at_18 dA ad) (by decide) (v := X 18 (i)) (by omega) rfl dX0_inLives_15 ?_
        have o2 := hX 18 (i)
        refine lv_iload_n Z.1 Z.2.1 dX0_inLives_16 rfl (lv_at hl 1 rfl) ?_
        refine i_icmp_ne (tgt := 22) Z (by omega) dX0_inLives_17 (by decide) (fun c17 => ?_) (fun c17 => ?_)
        · refine i_inc (lv' := [(2, .int (iI (i + 1))), (0, .ref (ad 0)), (1, .int (iI (a)))]) Z dX0_inLives_22 hl (k := 2) rfl (by decide) rfl (fun ls hl => ?_)
          refine lv_goto (tgt := 2) Z.1 Z.2.1 dX0_inLives_25 (by decide) ?_
          exact ih (i + 1) _ _ _ (by omega) (by omega) (fun j j0 j1 => by by_cases e : j = i; (rw [e]; omega); exact hk j j0 (by omega)) h (lv_sub hl [1, 2, 0] rfl)
        · refine i_const Z dX0_inLives_20 ?_
          exact g_ireturn Z hr hlocks h rfl (⟨rfl, Or.inl ⟨⟨i, by omega, by omega, by omega⟩, rfl⟩⟩) dX0_inLives_21
  exact loop ((X 17 0 - 0 + 1).toNat) 0 _ _ _ (by omega) (by omega) (fun j j0 j1 => by omega) h (lv_sub hl [1, 2, 0] rfl)
set_option maxHeartbeats 4000000 in
set_option maxRecDepth 100000 in
theorem metX0_readyAgain (l : Launch) (D : va_G) (dA : ClassId) (A : Nat → Prop) (ad : Nat → Nat) (X : zS) (a : Int) (hX : okX X) (hc : 0 ≤ X 0 0 ∧ X 0 0 ≤ 40) (hm : 0 ≤ a ∧ a < X 0 0) (h1 : 0 ≤ X 1 a ∧ X 1 a ≤ 2) (hQ : HQm X a) (hL : LVm X a) : cMv l yX0_readyAgain cX0_readyAgain 3 3 69 D dA A ad [.ref (ad 0), .int (iI a)] X (fun X1 => okX X1 ∧ X1 5 = uI (X 5) a 0 ∧ (∀ k, k ≠ 5 → k ≠ 9 → k ≠ 10 → k ≠ 11 → k ≠ 17 → k ≠ 18 → X1 k = X k) ∧ HQ X1 ∧ LV X1) := by
  refine g_start_v (by decide) ?_
  intro p e s m below meth c Z hr hlocks h
  have Z : gC RX0 D dA p s m ([.ref (ad 0), .int (iI a)] : List Value).toArray c cX0_readyAgain 3 := Z
  have hl := lv_entry ([.ref (ad 0), .int (iI a)]) (n := 3) (Nat.le_of_ble_eq_true rfl)
  rw [lg_entry_eq]
  generalize (lg_sl ([.ref (ad 0), .int (iI a)]) ++ List.replicate (3 - (lg_sl ([.ref (ad 0), .int (iI a)])).length) Slot.unset).toArray = ls at hl ⊢
  have hl : lv_has ls 3 [(0, .ref (ad 0)), (1, .int (iI (a)))] := hl
  refine lv_aload_n Z.1 Z.2.1 dX0_readyAgain_0 rfl (lv_at hl 0 rfl) ?_
  refine lv_iload_n Z.1 Z.2.1 dX0_readyAgain_1 rfl (lv_at hl 1 rfl) ?_
  refine g_callv (As := [.int (iI (a))]) (rest := []) (q := (RX0, TX0, 21)) (ci := 0) Z h (metX0_makeReady l D dA A ad X a hX hc hm h1 hQ) (cwV 1 Z.2.2.2.2.1 (lw_V q104 q106 qs0 q22 q107) rfl rfl rfl (by decide +kernel) ⟨Nat.le_of_ble_eq_true rfl, Nat.le_of_ble_eq_true rfl⟩) rfl rfl rfl hl.1 rfl (Nat.le_of_ble_eq_true rfl) ⟨Nat.zero_le _, Nat.zero_le _⟩ dX0_readyAgain_2 (fun X2 H locs hp2 h => ?_)
  obtain ⟨hX, e5, ek, hQ2⟩ := hp2
  have k17 : X2 17 = X 17 := ek 17 (by decide) (by decide) (by decide) (by decide)
  have k18 : X2 18 = X 18 := ek 18 (by decide) (by decide) (by decide) (by decide)
  have k8 : X2 8 = X 8 := ek 8 (by decide) (by decide) (by decide) (by decide)
  have k0 : X2 0 = X 0 := ek 0 (by decide) (by decide) (by decide) (by decide)
  obtain ⟨L, ps0, l1, l2, l3, l4⟩ := id hL
  have l17 := bij_le l1 hc.1 (fun b w => ⟨(l3 b w).1, (l3 b w).2.1⟩)
  have l170 := l1.1
  rw [← k17] at l17 l170
  refine lv_aload_n Z.1 Z.2.1 dX0_readyAgain_5 rfl (lv_at hl 0 rfl) ?_
  refine lv_iload_n Z.1 Z.2.1 dX0_readyAgain_6 rfl (lv_at hl 1 rfl) ?_
  refine g_calli (As := [.int (iI (a))]) (rest := []) (q := (RX0, TX0, 21)) (ci := 0) Z h (metX0_inLives l D dA A ad X2 a hX (by omega) (by omega)) (cwV 1 Z.2.2.2.2.1 (lw_V q171 q173 qs13 q22 q174) rfl rfl rfl (by decide +kernel) ⟨Nat.le_of_ble_eq_true rfl, Nat.le_of_ble_eq_true rfl⟩) rfl rfl rfl hl.1 rfl (Nat.le_of_ble_eq_true rfl) ⟨Nat.zero_le _, Nat.zero_le _⟩ dX0_readyAgain_7 (fun z7 X7 H locs hp7 h => ?_)
  obtain ⟨ec9, hz7⟩ := hp7
  rw [ec9] at h
  refine lv_istore_n (lv' := [(2, .int (iI (z7))), (0, .ref (ad 0)), (1, .int (iI (a)))]) Z.1 Z.2.1 dX0_readyAgain_10 rfl hl (by decide) rfl (fun ls hl => ?_)
  refine lv_aload_n Z.1 Z.2.1 dX0_readyAgain_11 rfl (lv_at hl 1 rfl) ?_
  refine c_get Z h 8 (by decide) q40 rfl dX0_readyAgain_12 ?_
  refine lv_iload_n Z.1 Z.2.1 dX0_readyAgain_15 rfl (lv_at hl 2 rfl) ?_
  refine g_ald Z h (c_at_8 dA ad) (by decide) (v := X2 8 (a)) (by omega) rfl dX0_readyAgain_16 ?_
  have o1 := hX 8 (a)
  refine i_if_lt (tgt := 29) Z (by omega) dX0_readyAgain_17 (by decide) (fun c17 => ?_) (fun c17 => ?_)
  · exact g_return Z hr hlocks h (⟨hX, e5, fun k k1 k2 k3 k4 k5 k6 => ek k k1 k2 k3 k4, hQ2, by first | exact LV_no hL k17 k18 k8 k0 e5 (by rw [← k8]; omega) | (obtain ⟨j, j0, j1, j2⟩ := c21; exact LV_in hL k17 k18 k8 k0 e5 j0 (by rw [← k17]; exact j1) (by rw [← k18]; exact j2))⟩) dX0_readyAgain_29
  · refine lv_iload_n Z.1 Z.2.1 dX0_readyAgain_20 rfl (lv_at hl 0 rfl) ?_
    refine b_ifne (tgt := 29) Z hz7 dX0_readyAgain_21 (by decide) (fun c21 => ?_) (fun c21 => ?_)
    · exact g_return Z hr hlocks h (⟨hX, e5, fun k k1 k2 k3 k4 k5 k6 => ek k k1 k2 k3 k4, hQ2, by first | exact LV_no hL k17 k18 k8 k0 e5 (by rw [← k8]; omega) | (obtain ⟨j, j0, j1, j2⟩ := c21; exact LV_in hL k17 k18 k8 k0 e5 j0 (by rw [← k17]; exact j1) (by rw [← k18]; exact j2))⟩) dX0_readyAgain_29
    · refine lv_aload_n Z.1 Z.2.1 dX0_readyAgain_24 rfl (lv_at hl 1 rfl) ?_
      refine lv_iload_n Z.1 Z.2.1 dX0_readyAgain_25 rfl (lv_at hl 2 rfl) ?_
      have hna : ¬ L a := fun w => by obtain ⟨q0, q1, q2⟩ := l1.2.2 a w; exact c21 ⟨ps0 a, q0, by rw [k17]; exact q1, by rw [k18]; exact q2⟩
      refine g_callv (As := [.int (iI (a))]) (rest := []) (q := (RX0, TX0, 21)) (ci := 0) Z h (metX0_addLife l D dA A ad X2 a L ps0 hX (fun b w => by have := l3 b w; omega) (by omega) (by rw [k17, k18]; exact l1) (by rw [k17, k18, k8]; exact l2) hna) (cwV 1 Z.2.2.2.2.1 (lw_V q120 q122 qs4 q22 q123) rfl rfl rfl (by decide +kernel) ⟨Nat.le_of_ble_eq_true rfl, Nat.le_of_ble_eq_true rfl⟩) rfl rfl rfl hl.1 rfl (Nat.le_of_ble_eq_true rfl) ⟨Nat.zero_le _, Nat.zero_le _⟩ dX0_readyAgain_26 (fun X26 H locs hp26 h => ?_)
      obtain ⟨hX, f1, f2, ps1, f3, f4⟩ := hp26
      have g0 : X26 0 = X 0 := by rw [f1 0 (by decide) (by decide), k0]
      have g8 : X26 8 = X 8 := by rw [f1 8 (by decide) (by decide), k8]
      have g5 : X26 5 = uI (X 5) a 0 := by rw [f1 5 (by decide) (by decide), e5]
      rw [k17] at f2 f3 f4
      rw [k8] at f4
      refine g_return Z hr hlocks h (⟨hX, g5, fun k k1 k2 k3 k4 k5 k6 => by rw [f1 k k5 k6]; exact ek k k1 k2 k3 k4, HQ_congr hQ2 (f1 3 (by decide) (by decide)) (f1 9 (by decide) (by decide)) (f1 10 (by decide) (by decide)) (f1 11 (by decide) (by decide)) (fun r b => ?_), ⟨_, ps1, by rw [f2]; exact f3, by rw [f2, g8]; exact f4, ?_, ?_⟩⟩) dX0_readyAgain_29
      · unfold rdy
        rw [f1 0 (by decide) (by decide), f1 1 (by decide) (by decide), f1 5 (by decide) (by decide)]
      · intro b w
        rw [g0, g8]
        rcases w with w | w
        · exact l3 b w
        · rw [w, ← k8]; exact ⟨hm.1, hm.2, by omega⟩
      · intro b b0 b1 b2 b3
        rw [g0] at b1
        rw [g8] at b3
        by_cases e : b = a
        · exact Or.inr e
        · rw [g5, uI_n e] at b2
          exact Or.inl (l4 b b0 b1 b2 b3 e)
set_option maxHeartbeats 4000000 in
set_option maxRecDepth 100000 in
theorem metX0_addOut (l : Launch) (D : va_G) (dA : ClassId) (A : Nat → Prop) (ad : Nat → Nat) (X : zS) (a : Int) (hX : okX X) (h14 : 0 ≤ X 14 0 ∧ X 14 0 < 6) (ha : 0 ≤ a ∧ a < 40) (hb : ∀ j, 0 ≤ j → j < X 14 0 → 0 ≤ X 15 j ∧ X 15 j < 40) : cMv l yX0_addOut cX0_addOut 3 0 0 D dA A ad [.ref (ad 0), .int (iI a)] X (fun X1 => okX X1 ∧ (∀ k, k ≠ 14 → k ≠ 15 → X1 k = X k) ∧ X1 14 0 = X 14 0 + 1 ∧ ∃ p, 0 ≤ p ∧ p ≤ X 14 0 ∧ (p = 0 ∨ X 7 (X 15 (p - 1)) ≤ X 7 a) ∧ (∀ j, p ≤ j → j < X 14 0 → X 7 a < X 7 (X 15 j)) ∧ (∀ j, 0 ≤ j → j ≤ X 14 0 → X1 15 j = if j < p then X 15 j else if j = p then a else X 15 (j - 1))) := by
  refine g_start_v (by decide) ?_
  intro p e s m below meth c Z hr hlocks h
  have Z : gC RX0 D dA p s m ([.ref (ad 0), .int (iI a)] : List Value).toArray c cX0_addOut 3 := Z
  have hl := lv_entry ([.ref (ad 0), .int (iI a)]) (n := 3) (Nat.le_of_ble_eq_true rfl)
  rw [lg_entry_eq]
  generalize (lg_sl ([.ref (ad 0), .int (iI a)]) ++ List.replicate (3 - (lg_sl ([.ref (ad 0), .int (iI a)])).length) Slot.unset).toArray = ls at hl ⊢
  have hl : lv_has ls 3 [(0, .ref (ad 0)), (1, .int (iI (a)))] := hl
  refine lv_aload_n Z.1 Z.2.1 dX0_addOut_0 rfl (lv_at hl 0 rfl) ?_
  refine c_getI Z h 14 (by decide) q46 rfl (v := X 14 (0)) rfl dX0_addOut_1 ?_
  have o1 := hX 14 (0)
  refine lv_istore_n (lv' := [(2, .int (iI (X 14 (0)))), (0, .ref (ad 0)), (1, .int (iI (a)))]) Z.1 Z.2.1 dX0_addOut_4 rfl hl (by decide) rfl (fun ls hl => ?_)
  have loop : ∀ (n : Nat) (i : Int) (Y : zS) (H : Heap) (locs : List Loc) (ls : Array Slot), (i < (n : Int)) → (okX Y) → (∀ k, k ≠ 15 → Y k = X k) → (0 ≤ i ∧ i ≤ X 14 0) → (∀ j, i ≤ j → j < X 14 0 → X 7 a < X 7 (X 15 j)) → (∀ j, Y 15 j = if i < j ∧ j ≤ X 14 0 then X 15 (j - 1) else X 15 j) → gH D A (cWG dA ad (gG Y)) s.heap H locs → lv_has ls 3 [(0, .ref (ad 0)), (1, .int (iI (a))), (2, .int (iI (i)))] → W p l e ({ frames := 0, cells := 0, slots := 0, locals := 0 } : Room) s m ([.ref (ad 0), .int (iI a)] : List Value).toArray below meth c H locs 0 0 (MQ below (gQv D dA A (cWG dA ad) (fun X1 => okX X1 ∧ (∀ k, k ≠ 14 → k ≠ 15 → X1 k = X k) ∧ X1 14 0 = X 14 0 + 1 ∧ ∃ p, 0 ≤ p ∧ p ≤ X 14 0 ∧ (p = 0 ∨ X 7 (X 15 (p - 1)) ≤ X 7 a) ∧ (∀ j, p ≤ j → j < X 14 0 → X 7 a < X 7 (X 15 j)) ∧ (∀ j, 0 ≤ j → j ≤ X 14 0 → X1 15 j = if j < p then X 15 j else if j = p then a else X 15 (j - 1)))) ([.ref (ad 0), .int (iI a)] : List Value).toArray s 0 0 A) (F0 m 5 ls []) := by
    intro n
    induction n with
    | zero =>
      intro i Y H locs ls hm hX hK hi hg hE h hl
      exfalso; omega
    | succ n ih =>
      intro i Y H locs ls hm hX hK hi hg hE h hl
      have hY7 : Y 7 = X 7 := hK 7 (by decide)
      have e14 : Y 14 0 = X 14 0 := by rw [hK 14 (by decide)]
      have hYb : 0 < i → 0 ≤ Y 15 (i - 1) ∧ Y 15 (i - 1) < 40 := fun w => by rw [hE (i - 1), if_neg (by omega)]; exact hb (i - 1) (by omega) (by omega)
      refine lv_iload_n Z.1 Z.2.1 dX0_addOut_5 rfl (lv_at hl 2 rfl) ?_
      refine i_if_le (tgt := 51) Z (by omega) dX0_addOut_6 (by decide) (fun c6 => ?_) (fun c6 => ?_)
      · refine lv_aload_n Z.1 Z.2.1 dX0_addOut_51 rfl (lv_at hl 0 rfl) ?_
        refine c_get Z h 15 (by decide) q47 rfl dX0_addOut_52 ?_
        refine lv_iload_n Z.1 Z.2.1 dX0_addOut_55 rfl (lv_at hl 2 rfl) ?_
        refine lv_iload_n Z.1 Z.2.1 dX0_addOut_56 rfl (lv_at hl 1 rfl) ?_
        refine g_ast Z h (c_at_15 dA ad) (c_set_15 dA ad) (by decide) (i := i) (v := a) (by omega) dX0_addOut_57 (fun H locs h => ?_)
        have hX := okX_set hX 15 (i) (a) (by omega)
        refine lv_aload_n Z.1 Z.2.1 dX0_addOut_58 rfl (lv_at hl 0 rfl) ?_
        refine i_dup Z dX0_addOut_59 rfl ?_
        refine c_getI Z h 14 (by decide) q46 rfl (v := Y 14 (0)) (by simp [sU]) dX0_addOut_60 ?_
        have o2 := hX 14 (0)
        rw [show (sU Y 15 (i) (a)) 14 (0) = Y 14 (0) from by simp [sU]] at o2
        refine i_const Z dX0_addOut_63 ?_
        refine i_add Z dX0_addOut_64 ?_
        refine c_put (v := (Y 14 (0)) + 1) Z h 14 (by decide) q46 (c_put_14 dA ad) rfl (by decide +kernel) dX0_addOut_65 (fun H locs h => ?_)
        have hX := okX_set hX 14 0 ((Y 14 (0)) + 1) (by omega)
        exact g_return Z hr hlocks h (⟨hX, fun k k1 k2 => by rw [sU_k k1, sU_k k2]; exact hK k k2, by rw [sU_s, hK 14 (by decide)], i, by omega, by omega, by first | exact Or.inl (by omega) | exact Or.inr (by rw [hE (i - 1), if_neg (by omega), hY7] at c28; omega), hg, fun j j0 j1 => by
            rw [sU_k (by decide), sU_u]
            by_cases e : j = i
            · rw [e, uI_s, if_neg (by omega), if_pos rfl]
            · rw [uI_n e, hE j]
              by_cases e2 : j < i
              · rw [if_neg (by omega), if_pos e2]
              · rw [if_pos (by omega), if_neg e2, if_neg e]⟩) dX0_addOut_68
      · have hYb2 := hYb (by omega)
        refine lv_aload_n Z.1 Z.2.1 dX0_addOut_9 rfl (lv_at hl 0 rfl) ?_
        refine c_get Z h 7 (by decide) q39 rfl dX0_addOut_10 ?_
        refine lv_aload_n Z.1 Z.2.1 dX0_addOut_13 rfl (lv_at hl 0 rfl) ?_
        refine c_get Z h 15 (by decide) q47 rfl dX0_addOut_14 ?_
        refine lv_iload_n Z.1 Z.2.1 dX0_addOut_17 rfl (lv_at hl 2 rfl) ?_
        refine i_const Z dX0_addOut_18 ?_
        refine i_sub Z dX0_addOut_19 ?_
        refine g_ald Z h (c_at_15 dA ad) (by decide) (v := Y 15 (i - 1)) (by omega) rfl dX0_addOut_20 ?_
        have o3 := hX 15 (i - 1)
        refine g_ald Z h (c_at_7 dA ad) (by decide) (v := Y 7 (Y 15 (i - 1))) (by omega) rfl dX0_addOut_21 ?_
        have o4 := hX 7 (Y 15 (i - 1))
        refine lv_aload_n Z.1 Z.2.1 dX0_addOut_22 rfl (lv_at hl 0 rfl) ?_
        refine c_get Z h 7 (by decide) q39 rfl dX0_addOut_23 ?_
        refine lv_iload_n Z.1 Z.2.1 dX0_addOut_26 rfl (lv_at hl 1 rfl) ?_
        refine g_ald Z h (c_at_7 dA ad) (by decide) (v := Y 7 (a)) (by omega) rfl dX0_addOut_27 ?_
        have o5 := hX 7 (a)
        refine i_icmp_le (tgt := 51) Z (by omega) dX0_addOut_28 (by decide) (fun c28 => ?_) (fun c28 => ?_)
        · refine lv_aload_n Z.1 Z.2.1 dX0_addOut_51 rfl (lv_at hl 0 rfl) ?_
          refine c_get Z h 15 (by decide) q47 rfl dX0_addOut_52 ?_
          refine lv_iload_n Z.1 Z.2.1 dX0_addOut_55 rfl (lv_at hl 2 rfl) ?_
          refine lv_iload_n Z.1 Z.2.1 dX0_addOut_56 rfl (lv_at hl 1 rfl) ?_
          refine g_ast Z h (c_at_15 dA ad) (c_set_15 dA ad) (by decide) (i := i) (v := a) (by omega) dX0_addOut_57 (fun H locs h => ?_)
          have hX := okX_set hX 15 (i) (a) (by omega)
          refine lv_aload_n Z.1 Z.2.1 dX0_addOut_58 rfl (lv_at hl 0 rfl) ?_
          refine i_dup Z dX0_addOut_59 rfl ?_
          refine c_getI Z h 14 (by decide) q46 rfl (v := Y 14 (0)) (by simp [sU]) dX0_addOut_60 ?_
          have o6 := hX 14 (0)
          rw [show (sU Y 15 (i) (a)) 14 (0) = Y 14 (0) from by simp [sU]] at o6
          refine i_const Z dX0_addOut_63 ?_
          refine i_add Z dX0_addOut_64 ?_
          refine c_put (v := (Y 14 (0)) + 1) Z h 14 (by decide) q46 (c_put_14 dA ad) rfl (by decide +kernel) dX0_addOut_65 (fun H locs h => ?_)
          have hX := okX_set hX 14 0 ((Y 14 (0)) + 1) (by omega)
          exact g_return Z hr hlocks h (⟨hX, fun k k1 k2 => by rw [sU_k k1, sU_k k2]; exact hK k k2, by rw [sU_s, hK 14 (by decide)], i, by omega, by omega, by first | exact Or.inl (by omega) | exact Or.inr (by rw [hE (i - 1), if_neg (by omega), hY7] at c28; omega), hg, fun j j0 j1 => by
              rw [sU_k (by decide), sU_u]
              by_cases e : j = i
              · rw [e, uI_s, if_neg (by omega), if_pos rfl]
              · rw [uI_n e, hE j]
                by_cases e2 : j < i
                · rw [if_neg (by omega), if_pos e2]
                · rw [if_pos (by omega), if_neg e2, if_neg e]⟩) dX0_addOut_68
        · refine lv_aload_n Z.1 Z.2.1 dX0_addOut_31 rfl (lv_at hl 0 rfl) ?_
          refine c_get Z h 15 (by decide) q47 rfl dX0_addOut_32 ?_
          refine lv_iload_n Z.1 Z.2.1 dX0_addOut_35 rfl (lv_at hl 2 rfl) ?_
          refine lv_aload_n Z.1 Z.2.1 dX0_addOut_36 rfl (lv_at hl 0 rfl) ?_
          refine c_get Z h 15 (by decide) q47 rfl dX0_addOut_37 ?_
          refine lv_iload_n Z.1 Z.2.1 dX0_addOut_40 rfl (lv_at hl 2 rfl) ?_
          refine i_const Z dX0_addOut_41 ?_
          refine i_sub Z dX0_addOut_42 ?_
          refine g_ald Z h (c_at_15 dA ad) (by decide) (v := Y 15 (i - 1)) (by omega) rfl dX0_addOut_43 ?_
          have o7 := hX 15 (i - 1)
          refine g_ast Z h (c_at_15 dA ad) (c_set_15 dA ad) (by decide) (i := i) (v := Y 15 (i - 1)) (by omega) dX0_addOut_44 (fun H locs h => ?_)
          have hX := okX_set hX 15 (i) (Y 15 (i - 1)) (by omega)
          refine i_inc (lv' := [(2, .int (iI (i + -1))), (0, .ref (ad 0)), (1, .int (iI (a)))]) Z dX0_addOut_45 hl (k := 2) rfl (by decide) rfl (fun ls hl => ?_)
          refine lv_goto (tgt := 5) Z.1 Z.2.1 dX0_addOut_48 (by decide) ?_
          exact ih (i + -1) ((sU Y 15 (i) (Y 15 (i - 1)))) _ _ _ (by omega) hX (fun k k1 => by rw [sU_k k1]; exact hK k k1) (by omega) (fun j j0 j1 => by
              by_cases e : j = i - 1
              · rw [hE (i - 1), if_neg (by omega), hY7] at c28
                rw [e]; omega
              · exact hg j (by omega) j1) (fun j => by
              rw [sU_u]
              by_cases e : j = i
              · rw [e, uI_s, hE (i - 1), if_neg (by omega), if_pos (by omega)]
              · rw [uI_n e, hE j]
                by_cases e2 : i < j ∧ j ≤ X 14 0
                · rw [if_pos e2, if_pos (by omega)]
                · rw [if_neg e2, if_neg (by omega)]) h (lv_sub hl [1, 2, 0] rfl)
  exact loop (((X 14 0) + 1).toNat) (X 14 0) X _ _ _ (by omega) hX (fun _ _ => rfl) (by omega) (fun j j0 j1 => by omega) (fun j => by rw [if_neg (by omega)]) h (lv_sub hl [1, 2, 0] rfl)
set_option maxHeartbeats 4000000 in
set_option maxRecDepth 100000 in
theorem metX0_dropOut (l : Launch) (D : va_G) (dA : ClassId) (A : Nat → Prop) (ad : Nat → Nat) (X : zS) (a p0 : Int) (hX : okX X) (h14 : X 14 0 ≤ 6) (hp0 : 0 ≤ p0) (hp1 : p0 < X 14 0) (hpa : X 15 p0 = a) (hne : ∀ j, 0 ≤ j → j < X 14 0 → j ≠ p0 → X 15 j ≠ a) : cMv l yX0_dropOut cX0_dropOut 4 0 0 D dA A ad [.ref (ad 0), .int (iI a)] X (fun X1 => okX X1 ∧ (∀ k, k ≠ 14 → k ≠ 15 → X1 k = X k) ∧ X1 14 0 = X 14 0 - 1 ∧ (∀ j, 0 ≤ j → j < X 14 0 - 1 → X1 15 j = if j < p0 then X 15 j else X 15 (j + 1))) := by
  refine g_start_v (by decide) ?_
  intro p e s m below meth c Z hr hlocks h
  have Z : gC RX0 D dA p s m ([.ref (ad 0), .int (iI a)] : List Value).toArray c cX0_dropOut 4 := Z
  have hl := lv_entry ([.ref (ad 0), .int (iI a)]) (n := 4) (Nat.le_of_ble_eq_true rfl)
  rw [lg_entry_eq]
  generalize (lg_sl ([.ref (ad 0), .int (iI a)]) ++ List.replicate (4 - (lg_sl ([.ref (ad 0), .int (iI a)])).length) Slot.unset).toArray = ls at hl ⊢
  have hl : lv_has ls 4 [(0, .ref (ad 0)), (1, .int (iI (a)))] := hl
  have hao := hX 15 p0
  rw [hpa] at hao
  refine i_const Z dX0_dropOut_0 ?_
  refine lv_istore_n (lv' := [(2, .int (iI (0))), (0, .ref (ad 0)), (1, .int (iI (a)))]) Z.1 Z.2.1 dX0_dropOut_1 rfl hl (by decide) rfl (fun ls hl => ?_)
  refine i_const Z dX0_dropOut_2 ?_
  refine lv_istore_n (lv' := [(3, .int (iI (0))), (2, .int (iI (0))), (0, .ref (ad 0)), (1, .int (iI (a)))]) Z.1 Z.2.1 dX0_dropOut_3 rfl hl (by decide) rfl (fun ls hl => ?_)
  have loop : ∀ (n : Nat) (i : Int) (kp : Int) (Y : zS) (H : Heap) (locs : List Loc) (ls : Array Slot), (X 14 0 - i < (n : Int)) → (okX Y) → (∀ k, k ≠ 15 → Y k = X k) → (0 ≤ i ∧ i ≤ X 14 0 ∧ ((i ≤ p0 ∧ kp = i) ∨ (p0 < i ∧ kp = i - 1))) → (∀ j, Y 15 j = if p0 ≤ j ∧ j < kp then X 15 (j + 1) else X 15 j) → gH D A (cWG dA ad (gG Y)) s.heap H locs → lv_has ls 4 [(0, .ref (ad 0)), (1, .int (iI (a))), (2, .int (iI (kp))), (3, .int (iI (i)))] → W p l e ({ frames := 0, cells := 0, slots := 0, locals := 0 } : Room) s m ([.ref (ad 0), .int (iI a)] : List Value).toArray below meth c H locs 0 0 (MQ below (gQv D dA A (cWG dA ad) (fun X1 => okX X1 ∧ (∀ k, k ≠ 14 → k ≠ 15 → X1 k = X k) ∧ X1 14 0 = X 14 0 - 1 ∧ (∀ j, 0 ≤ j → j < X 14 0 - 1 → X1 15 j = if j < p0 then X 15 j else X 15 (j + 1)))) ([.ref (ad 0), .int (iI a)] : List Value).toArray s 0 0 A) (F0 m 4 ls []) := by
    intro n
    induction n with
    | zero =>
      intro i kp Y H locs ls hm hX hK hi hE h hl
      exfalso; omega
    | succ n ih =>
      intro i kp Y H locs ls hm hX hK hi hE h hl
      have e14 : Y 14 0 = X 14 0 := by rw [hK 14 (by decide)]
      have hYi : 0 ≤ i → i < X 14 0 → Y 15 i = X 15 i := fun w w2 => by rw [hE i, if_neg (by omega)]
      refine lv_iload_n Z.1 Z.2.1 dX0_dropOut_4 rfl (lv_at hl 3 rfl) ?_
      refine lv_aload_n Z.1 Z.2.1 dX0_dropOut_5 rfl (lv_at hl 0 rfl) ?_
      refine c_getI Z h 14 (by decide) q46 rfl (v := Y 14 (0)) rfl dX0_dropOut_6 ?_
      have o1 := hX 14 (0)
      refine i_icmp_ge (tgt := 43) Z (by omega) dX0_dropOut_9 (by decide) (fun c9 => ?_) (fun c9 => ?_)
      · refine lv_aload_n Z.1 Z.2.1 dX0_dropOut_43 rfl (lv_at hl 0 rfl) ?_
        refine lv_iload_n Z.1 Z.2.1 dX0_dropOut_44 rfl (lv_at hl 2 rfl) ?_
        refine c_put (v := kp) Z h 14 (by decide) q46 (c_put_14 dA ad) rfl (by decide +kernel) dX0_dropOut_45 (fun H locs h => ?_)
        have hX := okX_set hX 14 0 (kp) (by omega)
        exact g_return Z hr hlocks h (⟨hX, fun k k1 k2 => by rw [sU_k k1]; exact hK k k2, by rw [sU_s]; omega, fun j j0 j1 => by
            rw [sU_k (by decide), hE j]
            by_cases e : j < p0
            · rw [if_neg (by omega), if_pos e]
            · rw [if_pos (by omega), if_neg e]⟩) dX0_dropOut_48
      · have hYi2 := hYi (by omega) (by omega)
        refine lv_aload_n Z.1 Z.2.1 dX0_dropOut_12 rfl (lv_at hl 0 rfl) ?_
        refine c_get Z h 15 (by decide) q47 rfl dX0_dropOut_13 ?_
        refine lv_iload_n Z.1 Z.2.1 dX0_dropOut_16 rfl (lv_at hl 3 rfl) ?_
        refine g_ald Z h (c_at_15 dA ad) (by decide) (v := Y 15 (i)) (by omega) rfl dX0_dropOut_17 ?_
        have o2 := hX 15 (i)
        refine lv_iload_n Z.1 Z.2.1 dX0_dropOut_18 rfl (lv_at hl 1 rfl) ?_
        refine i_icmp_eq (tgt := 37) Z (by omega) dX0_dropOut_19 (by decide) (fun c19 => ?_) (fun c19 => ?_)
        · have hip : i = p0 := by
            by_cases e : i = p0
            · exact e
            · exact absurd (by omega) (hne i (by omega) (by omega) e)
          refine i_inc (lv' := [(3, .int (iI (i + 1))), (0, .ref (ad 0)), (1, .int (iI (a))), (2, .int (iI (kp)))]) Z dX0_dropOut_37 hl (k := 3) rfl (by decide) rfl (fun ls hl => ?_)
          refine lv_goto (tgt := 4) Z.1 Z.2.1 dX0_dropOut_40 (by decide) ?_
          exact ih (i + 1) kp Y _ _ _ (by omega) hX (fun k k1 => by exact hK k k1) (by omega) hE h (lv_sub hl [1, 2, 3, 0] rfl)
        · have hip : i ≠ p0 := fun w => c19 (by rw [hYi2, w]; exact hpa)
          refine lv_aload_n Z.1 Z.2.1 dX0_dropOut_22 rfl (lv_at hl 0 rfl) ?_
          refine c_get Z h 15 (by decide) q47 rfl dX0_dropOut_23 ?_
          refine lv_iload_n Z.1 Z.2.1 dX0_dropOut_26 rfl (lv_at hl 2 rfl) ?_
          refine lv_aload_n Z.1 Z.2.1 dX0_dropOut_27 rfl (lv_at hl 0 rfl) ?_
          refine c_get Z h 15 (by decide) q47 rfl dX0_dropOut_28 ?_
          refine lv_iload_n Z.1 Z.2.1 dX0_dropOut_31 rfl (lv_at hl 3 rfl) ?_
          refine g_ald Z h (c_at_15 dA ad) (by decide) (v := Y 15 (i)) (by omega) rfl dX0_dropOut_32 ?_
          have o3 := hX 15 (i)
          refine g_ast Z h (c_at_15 dA ad) (c_set_15 dA ad) (by decide) (i := kp) (v := Y 15 (i)) (by omega) dX0_dropOut_33 (fun H locs h => ?_)
          have hX := okX_set hX 15 (kp) (Y 15 (i)) (by omega)
          refine i_inc (lv' := [(2, .int (iI (kp + 1))), (0, .ref (ad 0)), (1, .int (iI (a))), (3, .int (iI (i)))]) Z dX0_dropOut_34 hl (k := 2) rfl (by decide) rfl (fun ls hl => ?_)
          refine i_inc (lv' := [(3, .int (iI (i + 1))), (2, .int (iI (kp + 1))), (0, .ref (ad 0)), (1, .int (iI (a)))]) Z dX0_dropOut_37 hl (k := 3) rfl (by decide) rfl (fun ls hl => ?_)
          refine lv_goto (tgt := 4) Z.1 Z.2.1 dX0_dropOut_40 (by decide) ?_
          exact ih (i + 1) (kp + 1) ((sU Y 15 (kp) (Y 15 (i)))) _ _ _ (by omega) hX (fun k k1 => by rw [sU_k k1]; exact hK k k1) (by omega) (fun j => by
              rw [sU_u]
              by_cases e : j = kp
              · rw [e, uI_s, hYi2]
                by_cases e2 : p0 ≤ kp
                · rw [if_pos (by omega), show kp + 1 = i by omega]
                · rw [if_neg (by omega), show kp = i by omega]
              · rw [uI_n e, hE j]
                by_cases e2 : p0 ≤ j ∧ j < kp
                · rw [if_pos e2, if_pos (by omega)]
                · rw [if_neg e2, if_neg (by omega)]) h (lv_sub hl [2, 3, 1, 0] rfl)
  exact loop ((X 14 0 - 0 + 1).toNat) 0 0 X _ _ _ (by omega) hX (fun _ _ => rfl) (by omega) (fun j => by rw [if_neg (by omega)]) h (lv_sub hl [2, 3, 1, 0] rfl)
set_option maxHeartbeats 4000000 in
set_option maxRecDepth 100000 in
theorem metX0_notOut (l : Launch) (D : va_G) (dA : ClassId) (A : Nat → Prop) (ad : Nat → Nat) (X : zS) (q a : Int) (hX : okX X) (b0 : 0 ≤ X 0 0 ∧ X 0 0 ≤ 40) (hq : -2147483648 ≤ q ∧ q ≤ 2147483647) (ha : -2147483648 ≤ a ∧ a ≤ 2147483647) : cMi l yX0_notOut cX0_notOut 3 (some .boolean) 0 0 D dA A ad [.ref (ad 0), .int (iI q), .int (iI a)] X (fun z X1 => X1 = X ∧ ((¬ held X q a ∧ z = 1) ∨ (¬ ¬ held X q a ∧ z = 0))) := by
  refine g_start_i (by decide) ?_
  intro p e s m below meth c Z hr hlocks h
  have Z : gC RX0 D dA p s m ([.ref (ad 0), .int (iI q), .int (iI a)] : List Value).toArray c cX0_notOut 3 := Z
  have hl := lv_entry ([.ref (ad 0), .int (iI q), .int (iI a)]) (n := 3) (Nat.le_of_ble_eq_true rfl)
  rw [lg_entry_eq]
  generalize (lg_sl ([.ref (ad 0), .int (iI q), .int (iI a)]) ++ List.replicate (3 - (lg_sl ([.ref (ad 0), .int (iI q), .int (iI a)])).length) Slot.unset).toArray = ls at hl ⊢
  have hl : lv_has ls 3 [(0, .ref (ad 0)), (1, .int (iI (q))), (2, .int (iI (a)))] := hl
  refine lv_iload_n Z.1 Z.2.1 dX0_notOut_0 rfl (lv_at hl 2 rfl) ?_
  refine i_if_lt (tgt := 12) Z (by omega) dX0_notOut_1 (by decide) (fun c1 => ?_) (fun c1 => ?_)
  · refine i_const Z dX0_notOut_12 ?_
    exact g_ireturn Z hr hlocks h rfl (⟨rfl, by unfold held; omega⟩) dX0_notOut_13
  · refine lv_iload_n Z.1 Z.2.1 dX0_notOut_4 rfl (lv_at hl 2 rfl) ?_
    refine lv_aload_n Z.1 Z.2.1 dX0_notOut_5 rfl (lv_at hl 0 rfl) ?_
    refine c_getI Z h 0 (by decide) q32 rfl (v := X 0 (0)) rfl dX0_notOut_6 ?_
    have o1 := hX 0 (0)
    refine i_icmp_lt (tgt := 14) Z (by omega) dX0_notOut_9 (by decide) (fun c9 => ?_) (fun c9 => ?_)
    · refine lv_aload_n Z.1 Z.2.1 dX0_notOut_14 rfl (lv_at hl 0 rfl) ?_
      refine c_get Z h 5 (by decide) q37 rfl dX0_notOut_15 ?_
      refine lv_iload_n Z.1 Z.2.1 dX0_notOut_18 rfl (lv_at hl 2 rfl) ?_
      refine g_ald Z h (c_at_5 dA ad) (by decide) (v := X 5 (a)) (by omega) rfl dX0_notOut_19 ?_
      have o2 := hX 5 (a)
      refine i_const Z dX0_notOut_20 ?_
      refine i_icmp_ne (tgt := 34) Z (by omega) dX0_notOut_21 (by decide) (fun c21 => ?_) (fun c21 => ?_)
      · refine i_const Z dX0_notOut_34 ?_
        refine lv_goto (tgt := 39) Z.1 Z.2.1 dX0_notOut_35 (by decide) ?_
        exact g_ireturn Z hr hlocks h rfl (⟨rfl, by unfold held; omega⟩) dX0_notOut_39
      · refine lv_aload_n Z.1 Z.2.1 dX0_notOut_24 rfl (lv_at hl 0 rfl) ?_
        refine c_get Z h 6 (by decide) q38 rfl dX0_notOut_25 ?_
        refine lv_iload_n Z.1 Z.2.1 dX0_notOut_28 rfl (lv_at hl 2 rfl) ?_
        refine g_ald Z h (c_at_6 dA ad) (by decide) (v := X 6 (a)) (by omega) rfl dX0_notOut_29 ?_
        have o3 := hX 6 (a)
        refine lv_iload_n Z.1 Z.2.1 dX0_notOut_30 rfl (lv_at hl 1 rfl) ?_
        refine i_icmp_eq (tgt := 38) Z (by omega) dX0_notOut_31 (by decide) (fun c31 => ?_) (fun c31 => ?_)
        · refine i_const Z dX0_notOut_38 ?_
          exact g_ireturn Z hr hlocks h rfl (⟨rfl, by unfold held; omega⟩) dX0_notOut_39
        · refine i_const Z dX0_notOut_34 ?_
          refine lv_goto (tgt := 39) Z.1 Z.2.1 dX0_notOut_35 (by decide) ?_
          exact g_ireturn Z hr hlocks h rfl (⟨rfl, by unfold held; omega⟩) dX0_notOut_39
    · refine i_const Z dX0_notOut_12 ?_
      exact g_ireturn Z hr hlocks h rfl (⟨rfl, by unfold held; omega⟩) dX0_notOut_13
set_option maxHeartbeats 4000000 in
set_option maxRecDepth 100000 in
theorem metX0_badQueue (l : Launch) (D : va_G) (dA : ClassId) (A : Nat → Prop) (ad : Nat → Nat) (X : zS) (q : Int) (hq : -2147483648 ≤ q ∧ q ≤ 2147483647) : cMi l yX0_badQueue cX0_badQueue 1 (some .boolean) 0 0 D dA A ad [.int (iI q)] X (fun z X1 => X1 = X ∧ ((¬ (0 ≤ q ∧ q < 3) ∧ z = 1) ∨ (¬ ¬ (0 ≤ q ∧ q < 3) ∧ z = 0))) := by
  refine g_start_i (by decide) ?_
  intro p e s m below meth c Z hr hlocks h
  have Z : gC RX0 D dA p s m ([.int (iI q)] : List Value).toArray c cX0_badQueue 1 := Z
  have hl := lv_entry ([.int (iI q)]) (n := 1) (Nat.le_of_ble_eq_true rfl)
  rw [lg_entry_eq]
  generalize (lg_sl ([.int (iI q)]) ++ List.replicate (1 - (lg_sl ([.int (iI q)])).length) Slot.unset).toArray = ls at hl ⊢
  have hl : lv_has ls 1 [(0, .int (iI (q)))] := hl
  refine lv_iload_n Z.1 Z.2.1 dX0_badQueue_0 rfl (lv_at hl 0 rfl) ?_
  refine i_if_lt (tgt := 9) Z (by omega) dX0_badQueue_1 (by decide) (fun c1 => ?_) (fun c1 => ?_)
  · refine i_const Z dX0_badQueue_9 ?_
    refine lv_goto (tgt := 14) Z.1 Z.2.1 dX0_badQueue_10 (by decide) ?_
    exact g_ireturn Z hr hlocks h rfl (⟨rfl, by omega⟩) dX0_badQueue_14
  · refine lv_iload_n Z.1 Z.2.1 dX0_badQueue_4 rfl (lv_at hl 0 rfl) ?_
    refine i_const Z dX0_badQueue_5 ?_
    refine i_icmp_lt (tgt := 13) Z (by omega) dX0_badQueue_6 (by decide) (fun c6 => ?_) (fun c6 => ?_)
    · refine i_const Z dX0_badQueue_13 ?_
      exact g_ireturn Z hr hlocks h rfl (⟨rfl, by omega⟩) dX0_badQueue_14
    · refine i_const Z dX0_badQueue_9 ?_
      refine lv_goto (tgt := 14) Z.1 Z.2.1 dX0_badQueue_10 (by decide) ?_
      exact g_ireturn Z hr hlocks h rfl (⟨rfl, by omega⟩) dX0_badQueue_14
set_option maxHeartbeats 4000000 in
set_option maxRecDepth 100000 in
theorem metX0_badConsumer (l : Launch) (D : va_G) (dA : ClassId) (A : Nat → Prop) (ad : Nat → Nat) (X : zS) (q : Int) (hq : -2147483648 ≤ q ∧ q ≤ 2147483647) : cMi l yX0_badConsumer cX0_badConsumer 1 (some .boolean) 0 0 D dA A ad [.int (iI q)] X (fun z X1 => X1 = X ∧ ((¬ (0 ≤ q ∧ q < 3) ∧ z = 1) ∨ (¬ ¬ (0 ≤ q ∧ q < 3) ∧ z = 0))) := by
  refine g_start_i (by decide) ?_
  intro p e s m below meth c Z hr hlocks h
  have Z : gC RX0 D dA p s m ([.int (iI q)] : List Value).toArray c cX0_badConsumer 1 := Z
  have hl := lv_entry ([.int (iI q)]) (n := 1) (Nat.le_of_ble_eq_true rfl)
  rw [lg_entry_eq]
  generalize (lg_sl ([.int (iI q)]) ++ List.replicate (1 - (lg_sl ([.int (iI q)])).length) Slot.unset).toArray = ls at hl ⊢
  have hl : lv_has ls 1 [(0, .int (iI (q)))] := hl
  refine lv_iload_n Z.1 Z.2.1 dX0_badConsumer_0 rfl (lv_at hl 0 rfl) ?_
  refine i_if_lt (tgt := 9) Z (by omega) dX0_badConsumer_1 (by decide) (fun c1 => ?_) (fun c1 => ?_)
  · refine i_const Z dX0_badConsumer_9 ?_
    refine lv_goto (tgt := 14) Z.1 Z.2.1 dX0_badConsumer_10 (by decide) ?_
    exact g_ireturn Z hr hlocks h rfl (⟨rfl, by omega⟩) dX0_badConsumer_14
  · refine lv_iload_n Z.1 Z.2.1 dX0_badConsumer_4 rfl (lv_at hl 0 rfl) ?_
    refine i_const Z dX0_badConsumer_5 ?_
    refine i_icmp_le (tgt := 13) Z (by omega) dX0_badConsumer_6 (by decide) (fun c6 => ?_) (fun c6 => ?_)
    · refine i_const Z dX0_badConsumer_13 ?_
      exact g_ireturn Z hr hlocks h rfl (⟨rfl, by omega⟩) dX0_badConsumer_14
    · refine i_const Z dX0_badConsumer_9 ?_
      refine lv_goto (tgt := 14) Z.1 Z.2.1 dX0_badConsumer_10 (by decide) ?_
      exact g_ireturn Z hr hlocks h rfl (⟨rfl, by omega⟩) dX0_badConsumer_14
end
section
/-! the class between two calls -/
def BC (N : Int) (X : zS) : Prop := (0 ≤ X 0 0 ∧ X 0 0 ≤ 40) ∧ (∀ a, 0 ≤ X 1 a ∧ X 1 a ≤ 2) ∧ (∀ a, 0 ≤ X 3 a ∧ X 3 a ≤ 3) ∧ (∀ a, 0 ≤ X 4 a ∧ X 4 a ≤ N) ∧ (∀ a, 0 ≤ X 5 a ∧ X 5 a ≤ 3) ∧ (∀ a, 0 ≤ X 6 a ∧ X 6 a ≤ 2) ∧ (∀ a, 0 ≤ X 7 a ∧ X 7 a ≤ X 19 0 + 20) ∧ (∀ a, -1 ≤ X 8 a ∧ X 8 a ≤ X 19 0 + 50) ∧ (∀ q, 0 ≤ X 12 q ∧ X 12 q ≤ 20) ∧ (∀ q, 0 ≤ X 13 q ∧ X 13 q ≤ 5) ∧ (0 ≤ X 19 0 ∧ X 19 0 ≤ 100 * N)
def IC (X : zS) : Prop := okX X ∧ HQ X ∧ LV X ∧ OU X
theorem isOut_back {X Y : zS} {a v : Int} (e0 : Y 0 0 = X 0 0) (e5 : Y 5 = uI (X 5) a v) (hv : v ≠ 1) (b : Int) : (isOut X b ∧ b ≠ a) ↔ isOut Y b := by
  unfold isOut
  rw [e0, e5]
  by_cases e : b = a
  · subst e
    rw [uI_s]
    constructor
    · intro w; exact absurd rfl w.2
    · intro w; exact absurd w.2.2 hv
  · rw [uI_n e]
    exact ⟨fun w => w.1, fun w => ⟨w, e⟩⟩
theorem OU_back {X Y : zS} {a v p0 : Int} (hO : OU X) (ha : isOut X a) (b6 : 0 ≤ X 6 a ∧ X 6 a ≤ 2) (p00 : 0 ≤ p0) (p01 : p0 < X 14 0) (p02 : X 15 p0 = a) (e14 : Y 14 0 = X 14 0 - 1) (e15 : ∀ j, 0 ≤ j → j < X 14 0 - 1 → Y 15 j = if j < p0 then X 15 j else X 15 (j + 1)) (e16 : Y 16 = uI (X 16) (X 6 a) (X 16 (X 6 a) - 1)) (e0 : Y 0 0 = X 0 0) (e5 : Y 5 = uI (X 5) a v) (hv : v ≠ 1) (e6 : Y 6 = X 6) (e7 : Y 7 = X 7) : OU Y ∧ outN Y (X 6 a) = X 16 (X 6 a) - 1 := by
  have h1 := OL_drop hO.1 p00 p01 p02 e14 e15 (fun b _ _ => by rw [e7])
  have h2 := HL_drop hO.2 ha b6 e0 e5 hv e6 e16
  exact ⟨⟨OL_congr h1 rfl rfl (fun _ _ => rfl) (isOut_back e0 e5 hv), h2.1⟩, h2.2⟩
theorem HQm_congr {X Y : zS} {m : Int} (h : HQm X m) (e : ∀ k, k = 0 ∨ k = 1 ∨ k = 3 ∨ k = 5 ∨ k = 9 ∨ k = 10 ∨ k = 11 → Y k = X k) : HQm Y m := by
  refine HQ_congr h (e 3 (by decide)) (e 9 (by decide)) (e 10 (by decide)) (e 11 (by decide)) (fun r b => ?_)
  unfold rdy
  rw [e 0 (by decide), e 1 (by decide), e 5 (by decide)]
theorem HQ_congr1 {X Y : zS} (h : HQ X) (e : ∀ k, k = 0 ∨ k = 1 ∨ k = 3 ∨ k = 5 ∨ k = 9 ∨ k = 10 ∨ k = 11 → Y k = X k) : HQ Y := by
  refine HQ_congr h (e 3 (by decide)) (e 9 (by decide)) (e 10 (by decide)) (e 11 (by decide)) (fun r b => ?_)
  unfold rdy
  rw [e 0 (by decide), e 1 (by decide), e 5 (by decide)]
/-- heaps and order, where priorities agree on the members -/
theorem HQ_congr2 {X Y : zS} {S S2 : Int → Int → Prop} (hQ : HQs X S) (e3 : ∀ r b, S r b → Y 3 b = X 3 b) (e9 : Y 9 = X 9) (e10 : Y 10 = X 10) (e11 : Y 11 = X 11) (hS : ∀ r b, S r b ↔ S2 r b) : HQs Y S2 := by
  intro r r0 r1
  have h := hQ r r0 r1
  rw [e9, e11]
  have e : hsg Y r = hsg X r := by unfold hsg; rw [e10]
  rw [e]
  refine ⟨bij_congr h.1 (fun _ _ _ => rfl) (fun _ _ => rfl) (hS r), fun j j0 j1 w => h.2 j j0 j1 ?_⟩
  have a1 := e3 r _ (h.1.2.1 j (by omega) j1).1
  have a2 := e3 r _ (h.1.2.1 ((j - 1) / 2) (by omega) (by omega)).1
  unfold bq at w ⊢
  rw [a1, a2] at w
  exact w
/-- the heaps when a message comes: it is in none yet -/
theorem HQ_pub {X P : zS} (hQ : HQ X) (e0 : P 0 0 = X 0 0 + 1) (e1 : ∀ b, b ≠ X 0 0 → P 1 b = X 1 b) (e3 : ∀ b, b ≠ X 0 0 → P 3 b = X 3 b) (e5 : P 5 = X 5) (e9 : P 9 = X 9) (e10 : P 10 = X 10) (e11 : P 11 = X 11) : HQm P (X 0 0) := by
  refine HQ_congr2 hQ (fun r b w => e3 b (by have := w.2.1; omega)) e9 e10 e11 (fun r b => ?_)
  unfold rdy
  rw [e0, e5]
  constructor
  · intro w
    have hne : b ≠ X 0 0 := by have := w.2.1; omega
    exact ⟨⟨w.1, by have := w.2.1; omega, by rw [e1 b hne]; exact w.2.2.1, w.2.2.2⟩, hne⟩
  · intro w
    have := w.1.2.1
    have := w.2
    exact ⟨w.1.1, by omega, by rw [← e1 b w.2]; exact w.1.2.2.1, w.1.2.2.2⟩
theorem LV_pub {X Y : zS} (h : LV X) (c0 : 0 ≤ X 0 0) (e17 : Y 17 0 = X 17 0) (e18 : Y 18 = X 18) (e8 : ∀ b, b ≠ X 0 0 → Y 8 b = X 8 b) (e0 : Y 0 0 = X 0 0 + 1) (e5 : ∀ b, b ≠ X 0 0 → Y 5 b = X 5 b) : ∃ (L : Int → Prop) (ps : Int → Int), Bij (Y 18) ps (Y 17 0) L ∧ Hp (Y 18) (Y 17 0) (bl (Y 8)) ∧ (∀ b, L b → 0 ≤ b ∧ b < X 0 0 ∧ 0 ≤ Y 8 b) ∧ (∀ b, 0 ≤ b → b < Y 0 0 → Y 5 b = 0 → 0 ≤ Y 8 b → b ≠ X 0 0 → L b) := by
  obtain ⟨L, ps, h1, h2, h3, h4⟩ := h
  have hl : ∀ b, L b → b ≠ X 0 0 := fun b w => by have := (h3 b w).2.1; omega
  refine ⟨L, ps, by rw [e17, e18]; exact h1, ?_, fun b w => ?_, fun b b0 b1 b2 b3 b4 => ?_⟩
  · rw [e17, e18]
    intro j j0 j1 w
    refine h2 j j0 j1 ?_
    have a1 := e8 _ (hl _ (h1.2.1 j (by omega) j1).1)
    have a2 := e8 _ (hl _ (h1.2.1 ((j - 1) / 2) (by omega) (by omega)).1)
    unfold bl at w ⊢
    rw [a1, a2] at w
    exact w
  · rw [e8 b (hl b w)]; exact h3 b w
  · rw [e5 b b4] at b2
    rw [e8 b b4] at b3
    exact h4 b b0 (by omega) b2 b3
theorem OU_pub {X Y : zS} (hO : OU X) (c0 : 0 ≤ X 0 0) (e0 : Y 0 0 = X 0 0 + 1) (e5 : Y 5 = uI (X 5) (X 0 0) 0) (e6 : Y 6 = X 6) (e7 : Y 7 = X 7) (e14 : Y 14 = X 14) (e15 : Y 15 = X 15) (e16 : Y 16 = X 16) : OU Y := by
  refine ⟨OL_congr hO.1 (by rw [e14]) e15 (fun b _ => by rw [e7]) (fun b => ?_), ?_⟩
  · unfold isOut
    rw [e0, e5]
    by_cases e : b = X 0 0
    · subst e
      rw [uI_s]
      constructor
      · intro w; have := w.2.1; omega
      · intro w; have := w.2.2; omega
    · rw [uI_n e]
      constructor
      · intro w; exact ⟨w.1, by have := w.2.1; omega, w.2.2⟩
      · intro w; exact ⟨w.1, by have := w.2.1; omega, w.2.2⟩
  · intro c c1 c2
    obtain ⟨g1, g2⟩ := hO.2 c c1 c2
    rw [e16]
    refine ⟨?_, g2⟩
    rw [g1]
    unfold outN
    rw [e0, cn_f c0 (by rw [e5, uI_s]; intro w; have := w.1; omega)]
    refine cn_congr (fun i _ i1 => ?_)
    rw [e5, e6, uI_n (by omega)]
/-- the first of a queue is its heap's root -/
theorem root_first {X : zS} {q : Int} (hQ : HQ X) (q0 : 0 ≤ q) (q1 : q ≤ 2) (hn : X 9 q ≠ 0) : frst X q (X 10 (q * 40)) := by
  obtain ⟨hB, hH⟩ := hQ q q0 q1
  have hn0 := hB.1
  have e : X 10 (q * 40) = hsg X q 0 := by unfold hsg; rw [Int.add_zero]
  rw [e]
  refine ⟨(hB.2.1 0 (by omega) (by omega)).1, fun b hb hne => ?_⟩
  obtain ⟨p0, p1, p2⟩ := hB.2.2 b hb
  have := heap_root (bq_ord (X 3)) hH (bq_irr (X 3)) (X 11 b) p0 p1
  rw [p2] at this
  rcases bq_tot (X 3) hne with w | w
  · exact absurd w this
  · exact w
theorem none_ready {X : zS} {q : Int} (hQ : HQ X) (q0 : 0 ≤ q) (q1 : q ≤ 2) (hn : X 9 q = 0) : ∀ a, ¬ rdy X q a := by
  intro a ha
  obtain ⟨p0, p1, p2⟩ := (hQ q q0 q1).1.2.2 a ha
  omega
theorem ready_n {X : zS} {q : Int} (hQ : HQ X) (q0 : 0 ≤ q) (q1 : q ≤ 2) : X 9 q = cn (fun a => X 1 a = q ∧ X 5 a = 0) (X 0 0) := by
  rw [← bij_n (hQ q q0 q1).1 (N := X 0 0) (fun b w => ⟨w.1, w.2.1⟩)]
  exact cn_congr (fun i a b => ⟨fun w => w.2.2, fun w => ⟨a, b, w⟩⟩)
theorem rank_n {X : zS} {q a : Int} (hQ : HQ X) (q0 : 0 ≤ q) (q1 : q ≤ 2) (ha : rdy X q a) : rank X q a < X 9 q := by
  rw [ready_n hQ q0 q1]
  exact cn_lt_of (m := a) ha.1 ha.2.1 (fun w => bq_irr _ _ w.2) ha.2.2 (fun i _ _ w => w.1)
theorem OU_min {X : zS} (hO : OU X) (hn : X 14 0 ≠ 0) : isOut X (X 15 0) ∧ ∀ b, isOut X b → X 7 (X 15 0) ≤ X 7 b := by
  obtain ⟨⟨⟨ps, hB⟩, hs⟩, -⟩ := hO
  have := hB.1
  refine ⟨(hB.2.1 0 (by omega) (by omega)).1, fun b hb => ?_⟩
  obtain ⟨p0, p1, p2⟩ := hB.2.2 b hb
  have := hs 0 (ps b) (by omega) p0 p1
  rw [p2] at this
  exact this
theorem OU_none {X : zS} (hO : OU X) (hn : X 14 0 ≤ 0) : ∀ b, ¬ isOut X b := by
  obtain ⟨⟨⟨ps, hB⟩, hs⟩, -⟩ := hO
  intro b hb
  obtain ⟨p0, p1, p2⟩ := hB.2.2 b hb
  omega
theorem OU_take {X Y P : zS} {a c p d : Int} (hO : OU X) (ha : 0 ≤ a ∧ a < X 0 0) (h5 : X 5 a = 0) (hc2 : X 16 c < 2) (f14 : P 14 0 = X 14 0) (f15 : P 15 = X 15) (f7 : P 7 = uI (X 7) a d) (p0 : 0 ≤ p) (p1 : p ≤ P 14 0) (hlo : p = 0 ∨ P 7 (P 15 (p - 1)) ≤ P 7 a) (hhi : ∀ j, p ≤ j → j < P 14 0 → P 7 a < P 7 (P 15 j)) (e14 : Y 14 0 = P 14 0 + 1) (e15 : ∀ j, 0 ≤ j → j ≤ P 14 0 → Y 15 j = if j < p then P 15 j else if j = p then a else P 15 (j - 1)) (e7 : Y 7 = P 7) (e0 : Y 0 0 = X 0 0) (e5 : Y 5 = uI (X 5) a 1) (e6 : Y 6 = uI (X 6) a c) (e16 : Y 16 = uI (X 16) c (X 16 c + 1)) : OU Y := by
  have hna : ¬ isOut X a := fun w => by have := w.2.2; omega
  have h1 : OL P (isOut X) := OL_congr hO.1 f14 f15 (fun b w => by have hne : b ≠ a := fun e => hna (by rw [← e]; exact w); rw [f7, uI_n hne]) (fun _ => Iff.rfl)
  have h2 := OL_ins h1 hna p0 p1 hlo hhi e14 e15 e7
  refine ⟨OL_congr h2 rfl rfl (fun _ _ => rfl) (fun b => ?_), HL_take hO.2 ha (by omega) hc2 e0 e5 e6 e16⟩
  unfold isOut
  rw [e0, e5]
  by_cases e : b = a
  · subst e
    rw [uI_s]
    exact ⟨fun _ => ⟨ha.1, ha.2, rfl⟩, fun _ => Or.inr rfl⟩
  · rw [uI_n e]
    exact ⟨fun w => w.resolve_right e, fun w => Or.inl w⟩
theorem OL_b {X : zS} {T : Int → Prop} (hO : OL X T) (hT : ∀ b, T b → 0 ≤ b ∧ b < 40) : ∀ j, 0 ≤ j → j < X 14 0 → 0 ≤ X 15 j ∧ X 15 j < 40 := by
  obtain ⟨⟨ps, hB⟩, -⟩ := hO
  intro j j0 j1
  exact hT _ (hB.2.1 j j0 j1).1
theorem EQ.of {Y Z : zS} (h5 : ∀ i, Y 5 i = Z 5 i) (h : ∀ k, cmn k → k ≠ 5 → Y k = Z k) : EQ Y Z := by
  intro k hk i
  by_cases e : k = 5
  · subst e; exact h5 i
  · rw [h k hk e]
theorem cmn_ne {k : Nat} (h : cmn k) : k ≠ 9 ∧ k ≠ 10 ∧ k ≠ 11 ∧ k ≠ 14 ∧ k ≠ 15 ∧ k ≠ 16 ∧ k ≠ 17 ∧ k ≠ 18 ∧ k ≠ 20 := by
  unfold cmn at h
  omega
end
section
set_option maxHeartbeats 4000000 in
set_option maxRecDepth 100000 in
theorem metX0_comeBack (l : Launch) (D : va_G) (dA : ClassId) (A : Nat → Prop) (ad : Nat → Nat) (X : zS) (a : Int) (hX : okX X) (hc : 0 ≤ X 0 0 ∧ X 0 0 ≤ 40) (b1 : ∀ a, 0 ≤ X 1 a ∧ X 1 a ≤ 2) (b6 : ∀ a, 0 ≤ X 6 a ∧ X 6 a ≤ 2) (hQ : HQ X) (hL : LV X) (hO : OU X) (ha : isOut X a) : cMv l yX0_comeBack cX0_comeBack 2 4 91 D dA A ad [.ref (ad 0), .int (iI a)] X (fun X1 => okX X1 ∧ X1 5 = uI (X 5) a (back X a) ∧ (∀ k, cmn k → k ≠ 5 → X1 k = X k) ∧ HQ X1 ∧ LV X1 ∧ OU X1 ∧ X1 14 0 = X 14 0 - 1) := by
  refine g_start_v (by decide) ?_
  intro p e s m below meth c Z hr hlocks h
  have Z : gC RX0 D dA p s m ([.ref (ad 0), .int (iI a)] : List Value).toArray c cX0_comeBack 2 := Z
  have hl := lv_entry ([.ref (ad 0), .int (iI a)]) (n := 2) (Nat.le_of_ble_eq_true rfl)
  rw [lg_entry_eq]
  generalize (lg_sl ([.ref (ad 0), .int (iI a)]) ++ List.replicate (2 - (lg_sl ([.ref (ad 0), .int (iI a)])).length) Slot.unset).toArray = ls at hl ⊢
  have hl : lv_has ls 2 [(0, .ref (ad 0)), (1, .int (iI (a)))] := hl
  obtain ⟨p0, p00, p01, p02, p03⟩ := OL_at hO.1 ha
  have h6 := OU_six hO hc.1 b6
  have hab : 0 ≤ a ∧ a < X 0 0 ∧ X 5 a = 1 := ha
  refine lv_aload_n Z.1 Z.2.1 dX0_comeBack_0 rfl (lv_at hl 0 rfl) ?_
  refine lv_iload_n Z.1 Z.2.1 dX0_comeBack_1 rfl (lv_at hl 1 rfl) ?_
  refine g_callv (As := [.int (iI (a))]) (rest := []) (q := (RX0, TX0, 21)) (ci := 0) Z h (metX0_dropOut l D dA A ad X a p0 hX (by omega) p00 p01 p02 p03) (cwV 1 Z.2.2.2.2.1 (lw_V q155 q157 qs10 q22 q158) rfl rfl rfl (by decide +kernel) ⟨Nat.le_of_ble_eq_true rfl, Nat.le_of_ble_eq_true rfl⟩) rfl rfl rfl hl.1 rfl (Nat.le_of_ble_eq_true rfl) ⟨Nat.zero_le _, Nat.zero_le _⟩ dX0_comeBack_2 (fun X2 H locs hp2 h => ?_)
  obtain ⟨hX, f1, f2, f3⟩ := hp2
  have g0 : X2 0 = X 0 := f1 0 (by decide) (by decide)
  have g1 : X2 1 = X 1 := f1 1 (by decide) (by decide)
  have g3 : X2 3 = X 3 := f1 3 (by decide) (by decide)
  have g4 : X2 4 = X 4 := f1 4 (by decide) (by decide)
  have g5 : X2 5 = X 5 := f1 5 (by decide) (by decide)
  have g6 : X2 6 = X 6 := f1 6 (by decide) (by decide)
  have g7 : X2 7 = X 7 := f1 7 (by decide) (by decide)
  have g8 : X2 8 = X 8 := f1 8 (by decide) (by decide)
  have g9 : X2 9 = X 9 := f1 9 (by decide) (by decide)
  have g10 : X2 10 = X 10 := f1 10 (by decide) (by decide)
  have g11 : X2 11 = X 11 := f1 11 (by decide) (by decide)
  have g13 : X2 13 = X 13 := f1 13 (by decide) (by decide)
  have g16 : X2 16 = X 16 := f1 16 (by decide) (by decide)
  have g17 : X2 17 = X 17 := f1 17 (by decide) (by decide)
  have g18 : X2 18 = X 18 := f1 18 (by decide) (by decide)
  have c6 := b6 a
  rw [← g6] at c6
  have c1 := b1 a
  rw [← g1] at c1
  have hh := hO.2 (X 6 a) (b6 a).1 (b6 a).2
  have hh0 := outN_rng (X := X) (c := X 6 a) hc.1
  rw [← hh.1, ← g6, ← g16] at hh0
  refine lv_aload_n Z.1 Z.2.1 dX0_comeBack_5 rfl (lv_at hl 0 rfl) ?_
  refine c_get Z h 16 (by decide) q48 rfl dX0_comeBack_6 ?_
  refine lv_aload_n Z.1 Z.2.1 dX0_comeBack_9 rfl (lv_at hl 0 rfl) ?_
  refine c_get Z h 6 (by decide) q38 rfl dX0_comeBack_10 ?_
  refine lv_iload_n Z.1 Z.2.1 dX0_comeBack_13 rfl (lv_at hl 1 rfl) ?_
  refine g_ald Z h (c_at_6 dA ad) (by decide) (v := X2 6 (a)) (by omega) rfl dX0_comeBack_14 ?_
  have o1 := hX 6 (a)
  refine i_dup2 Z dX0_comeBack_15 rfl rfl ?_
  refine g_ald Z h (c_at_16 dA ad) (by decide) (v := X2 16 (X2 6 (a))) (by omega) rfl dX0_comeBack_16 ?_
  have o2 := hX 16 (X2 6 (a))
  refine i_const Z dX0_comeBack_17 ?_
  refine i_sub Z dX0_comeBack_18 ?_
  refine g_ast Z h (c_at_16 dA ad) (c_set_16 dA ad) (by decide) (i := X2 6 (a)) (v := (X2 16 (X2 6 (a))) - 1) (by omega) dX0_comeBack_19 (fun H locs h => ?_)
  have hX := okX_set hX 16 (X2 6 (a)) ((X2 16 (X2 6 (a))) - 1) (by omega)
  refine lv_aload_n Z.1 Z.2.1 dX0_comeBack_20 rfl (lv_at hl 0 rfl) ?_
  refine c_get Z h 4 (by decide) q36 rfl dX0_comeBack_21 ?_
  refine lv_iload_n Z.1 Z.2.1 dX0_comeBack_24 rfl (lv_at hl 1 rfl) ?_
  refine g_ald Z h (c_at_4 dA ad) (by decide) (v := X2 4 (a)) (by omega) (by simp [sU]) dX0_comeBack_25 ?_
  have o3 := hX 4 (a)
  rw [show (sU X2 16 (X2 6 (a)) ((X2 16 (X2 6 (a))) - 1)) 4 (a) = X2 4 (a) from by simp [sU]] at o3
  refine lv_aload_n Z.1 Z.2.1 dX0_comeBack_26 rfl (lv_at hl 0 rfl) ?_
  refine c_get Z h 13 (by decide) q45 rfl dX0_comeBack_27 ?_
  refine lv_aload_n Z.1 Z.2.1 dX0_comeBack_30 rfl (lv_at hl 0 rfl) ?_
  refine c_get Z h 1 (by decide) q33 rfl dX0_comeBack_31 ?_
  refine lv_iload_n Z.1 Z.2.1 dX0_comeBack_34 rfl (lv_at hl 1 rfl) ?_
  refine g_ald Z h (c_at_1 dA ad) (by decide) (v := X2 1 (a)) (by omega) (by simp [sU]) dX0_comeBack_35 ?_
  have o4 := hX 1 (a)
  rw [show (sU X2 16 (X2 6 (a)) ((X2 16 (X2 6 (a))) - 1)) 1 (a) = X2 1 (a) from by simp [sU]] at o4
  refine g_ald Z h (c_at_13 dA ad) (by decide) (v := X2 13 (X2 1 (a))) (by omega) (by simp [sU]) dX0_comeBack_36 ?_
  have o5 := hX 13 (X2 1 (a))
  rw [show (sU X2 16 (X2 6 (a)) ((X2 16 (X2 6 (a))) - 1)) 13 (X2 1 (a)) = X2 13 (X2 1 (a)) from by simp [sU]] at o5
  refine i_icmp_lt (tgt := 50) Z (by omega) dX0_comeBack_37 (by decide) (fun c37 => ?_) (fun c37 => ?_)
  · refine lv_aload_n Z.1 Z.2.1 dX0_comeBack_50 rfl (lv_at hl 0 rfl) ?_
    refine lv_iload_n Z.1 Z.2.1 dX0_comeBack_51 rfl (lv_at hl 1 rfl) ?_
    have hQ3 : HQm (sU X2 16 (X2 6 (a)) ((X2 16 (X2 6 (a))) - 1)) a := HQm_congr (HQ.hm hQ (by omega)) (fun k hk => by rw [sU_k (by omega), f1 k (by omega) (by omega)])
    have hL3 : LVm (sU X2 16 (X2 6 (a)) ((X2 16 (X2 6 (a))) - 1)) a := LVm_congr (hL.hm a) (by rw [sU_k (by decide), g17]) (by rw [sU_k (by decide), g18]) (by rw [sU_k (by decide), g8]) (by rw [sU_k (by decide), g0]) (fun b _ _ _ w => by rw [sU_k (by decide), g5] at w; exact w)
    refine g_callv (As := [.int (iI (a))]) (rest := []) (q := (RX0, TX0, 21)) (ci := 0) Z h (metX0_readyAgain l D dA A ad (sU X2 16 (X2 6 (a)) ((X2 16 (X2 6 (a))) - 1)) a hX (by rw [sU_k (by decide), g0]; exact hc) (by rw [sU_k (by decide), g0]; omega) (by rw [sU_k (by decide)]; exact c1) hQ3 hL3) (cwV 1 Z.2.2.2.2.1 (lw_V q167 q169 qs12 q22 q170) rfl rfl rfl (by decide +kernel) ⟨Nat.le_of_ble_eq_true rfl, Nat.le_of_ble_eq_true rfl⟩) rfl rfl rfl hl.1 rfl (Nat.le_of_ble_eq_true rfl) ⟨Nat.zero_le _, Nat.zero_le _⟩ dX0_comeBack_52 (fun X52 H locs hp52 h => ?_)
    obtain ⟨hX, r5, rk, hQ4, hL4⟩ := hp52
    rw [sU_k (by decide), g5] at r5
    have eb : back X a = 0 := if_neg (by rw [g4, g13, g1] at c37; omega)
    have r16 : X52 16 = uI (X 16) (X 6 a) (X 16 (X 6 a) - 1) := by rw [rk 16 (by decide) (by decide) (by decide) (by decide) (by decide) (by decide), sU_u, g16, g6]
    have r14 : X52 14 0 = X 14 0 - 1 := by rw [rk 14 (by decide) (by decide) (by decide) (by decide) (by decide) (by decide), sU_k (by decide)]; exact f2
    refine g_return Z hr hlocks h (⟨hX, by rw [eb]; exact r5, fun k hk h5 => ?_, hQ4, hL4, (OU_back hO ha (b6 a) p00 p01 p02 r14 (fun j j0 j1 => ?_) r16 ?_ r5 (by omega) ?_ ?_).1, r14⟩) dX0_comeBack_55
    · have w := cmn_ne hk
      rw [rk k h5 w.1 w.2.1 w.2.2.1 w.2.2.2.2.2.2.1 w.2.2.2.2.2.2.2.1, sU_k w.2.2.2.2.2.1, f1 k w.2.2.2.1 w.2.2.2.2.1]
    · rw [rk 15 (by decide) (by decide) (by decide) (by decide) (by decide) (by decide), sU_k (by decide)]; exact f3 j j0 j1
    · rw [rk 0 (by decide) (by decide) (by decide) (by decide) (by decide) (by decide), sU_k (by decide), g0]
    · rw [rk 6 (by decide) (by decide) (by decide) (by decide) (by decide) (by decide), sU_k (by decide), g6]
    · rw [rk 7 (by decide) (by decide) (by decide) (by decide) (by decide) (by decide), sU_k (by decide), g7]
  · refine lv_aload_n Z.1 Z.2.1 dX0_comeBack_40 rfl (lv_at hl 0 rfl) ?_
    refine c_get Z h 5 (by decide) q37 rfl dX0_comeBack_41 ?_
    refine lv_iload_n Z.1 Z.2.1 dX0_comeBack_44 rfl (lv_at hl 1 rfl) ?_
    refine i_const Z dX0_comeBack_45 ?_
    refine g_ast Z h (c_at_5 dA ad) (c_set_5 dA ad) (by decide) (i := a) (v := 3) (by omega) dX0_comeBack_46 (fun H locs h => ?_)
    have hX := okX_set hX 5 (a) (3) (by omega)
    refine lv_goto (tgt := 55) Z.1 Z.2.1 dX0_comeBack_47 (by decide) ?_
    have eb : back X a = 3 := if_pos (by rw [g4, g13, g1] at c37; omega)
    have r5 : (sU (sU X2 16 (X2 6 (a)) ((X2 16 (X2 6 (a))) - 1)) 5 (a) (3)) 5 = uI (X 5) a 3 := by rw [sU_u, sU_k (by decide), g5]
    have r16 : (sU (sU X2 16 (X2 6 (a)) ((X2 16 (X2 6 (a))) - 1)) 5 (a) (3)) 16 = uI (X 16) (X 6 a) (X 16 (X 6 a) - 1) := by rw [sU_k (by decide), sU_u, g16, g6]
    have r14 : (sU (sU X2 16 (X2 6 (a)) ((X2 16 (X2 6 (a))) - 1)) 5 (a) (3)) 14 0 = X 14 0 - 1 := by rw [sU_k (by decide), sU_k (by decide)]; exact f2
    have hQ3 : HQm (sU X2 16 (X2 6 (a)) ((X2 16 (X2 6 (a))) - 1)) a := HQm_congr (HQ.hm hQ (by omega)) (fun k hk => by rw [sU_k (by omega), f1 k (by omega) (by omega)])
    refine g_return Z hr hlocks h (⟨hX, by rw [eb]; exact r5, fun k hk h5 => ?_, HQm.out hQ3 (by omega), LV_congr hL ?_ ?_ ?_ ?_ (fun b _ _ w => ?_), (OU_back hO ha (b6 a) p00 p01 p02 r14 (fun j j0 j1 => ?_) r16 ?_ r5 (by omega) ?_ ?_).1, r14⟩) dX0_comeBack_55
    · have w := cmn_ne hk
      rw [sU_k h5, sU_k w.2.2.2.2.2.1, f1 k w.2.2.2.1 w.2.2.2.2.1]
    · rw [sU_k (by decide), sU_k (by decide), g17]
    · rw [sU_k (by decide), sU_k (by decide), g18]
    · rw [sU_k (by decide), sU_k (by decide), g8]
    · rw [sU_k (by decide), sU_k (by decide), g0]
    · rw [r5] at w
      by_cases e : b = a
      · rw [e, uI_s] at w; omega
      · rw [uI_n e] at w; exact w
    · rw [sU_k (by decide), sU_k (by decide)]; exact f3 j j0 j1
    · rw [sU_k (by decide), sU_k (by decide), g0]
    · rw [sU_k (by decide), sU_k (by decide), g6]
    · rw [sU_k (by decide), sU_k (by decide), g7]
end
section
set_option maxHeartbeats 4000000 in
set_option maxRecDepth 100000 in
theorem metX0_state (l : Launch) (D : va_G) (dA : ClassId) (A : Nat → Prop) (ad : Nat → Nat) (X : zS) (a : Int) (N : Int) (hC : BC N X) (hN : N ≤ 64) (hI : IC X) (ha : -2147483648 ≤ a ∧ a ≤ 2147483647) : cMi l yX0_state cX0_state 2 (some .int) 0 0 D dA A ad [.ref (ad 0), .int (iI a)] X (fun z X1 => IC X1 ∧ spSt a X z X1) := by
  refine g_start_i (by decide) ?_
  intro p e s m below meth c Z hr hlocks h
  have Z : gC RX0 D dA p s m ([.ref (ad 0), .int (iI a)] : List Value).toArray c cX0_state 2 := Z
  have hl := lv_entry ([.ref (ad 0), .int (iI a)]) (n := 2) (Nat.le_of_ble_eq_true rfl)
  rw [lg_entry_eq]
  generalize (lg_sl ([.ref (ad 0), .int (iI a)]) ++ List.replicate (2 - (lg_sl ([.ref (ad 0), .int (iI a)])).length) Slot.unset).toArray = ls at hl ⊢
  have hl : lv_has ls 2 [(0, .ref (ad 0)), (1, .int (iI (a)))] := hl
  obtain ⟨b0, b1, b3, b4, b5, b6, b7, b8, b12, b13, b19⟩ := hC
  obtain ⟨hX, hQ, hL, hO⟩ := id hI
  refine lv_iload_n Z.1 Z.2.1 dX0_state_0 rfl (lv_at hl 1 rfl) ?_
  refine i_if_lt (tgt := 12) Z (by omega) dX0_state_1 (by decide) (fun c1 => ?_) (fun c1 => ?_)
  · refine i_bipush Z dX0_state_12 (by decide) ?_
    refine lv_goto (tgt := 23) Z.1 Z.2.1 dX0_state_14 (by decide) ?_
    exact g_ireturn Z hr hlocks h rfl (⟨hI, EQ.rf X, Or.inr ⟨by omega, rfl⟩⟩) dX0_state_23
  · refine lv_iload_n Z.1 Z.2.1 dX0_state_4 rfl (lv_at hl 1 rfl) ?_
    refine lv_aload_n Z.1 Z.2.1 dX0_state_5 rfl (lv_at hl 0 rfl) ?_
    refine c_getI Z h 0 (by decide) q32 rfl (v := X 0 (0)) rfl dX0_state_6 ?_
    have o1 := hX 0 (0)
    refine i_icmp_lt (tgt := 17) Z (by omega) dX0_state_9 (by decide) (fun c9 => ?_) (fun c9 => ?_)
    · refine lv_aload_n Z.1 Z.2.1 dX0_state_17 rfl (lv_at hl 0 rfl) ?_
      refine c_get Z h 5 (by decide) q37 rfl dX0_state_18 ?_
      refine lv_iload_n Z.1 Z.2.1 dX0_state_21 rfl (lv_at hl 1 rfl) ?_
      refine g_ald Z h (c_at_5 dA ad) (by decide) (v := X 5 (a)) (by omega) rfl dX0_state_22 ?_
      have o2 := hX 5 (a)
      exact g_ireturn Z hr hlocks h rfl (⟨hI, EQ.rf X, Or.inl ⟨by omega, rfl⟩⟩) dX0_state_23
    · refine i_bipush Z dX0_state_12 (by decide) ?_
      refine lv_goto (tgt := 23) Z.1 Z.2.1 dX0_state_14 (by decide) ?_
      exact g_ireturn Z hr hlocks h rfl (⟨hI, EQ.rf X, Or.inr ⟨by omega, rfl⟩⟩) dX0_state_23
set_option maxHeartbeats 4000000 in
set_option maxRecDepth 100000 in
theorem metX0_ready (l : Launch) (D : va_G) (dA : ClassId) (A : Nat → Prop) (ad : Nat → Nat) (X : zS) (q : Int) (N : Int) (hC : BC N X) (hN : N ≤ 64) (hI : IC X) (hq : -2147483648 ≤ q ∧ q ≤ 2147483647) : cMi l yX0_ready cX0_ready 2 (some .int) 1 20 D dA A ad [.ref (ad 0), .int (iI q)] X (fun z X1 => IC X1 ∧ spRdy q X z X1) := by
  refine g_start_i (by decide) ?_
  intro p e s m below meth c Z hr hlocks h
  have Z : gC RX0 D dA p s m ([.ref (ad 0), .int (iI q)] : List Value).toArray c cX0_ready 2 := Z
  have hl := lv_entry ([.ref (ad 0), .int (iI q)]) (n := 2) (Nat.le_of_ble_eq_true rfl)
  rw [lg_entry_eq]
  generalize (lg_sl ([.ref (ad 0), .int (iI q)]) ++ List.replicate (2 - (lg_sl ([.ref (ad 0), .int (iI q)])).length) Slot.unset).toArray = ls at hl ⊢
  have hl : lv_has ls 2 [(0, .ref (ad 0)), (1, .int (iI (q)))] := hl
  obtain ⟨b0, b1, b3, b4, b5, b6, b7, b8, b12, b13, b19⟩ := hC
  obtain ⟨hX, hQ, hL, hO⟩ := id hI
  refine lv_iload_n Z.1 Z.2.1 dX0_ready_0 rfl (lv_at hl 1 rfl) ?_
  refine g_calls (As := [.int (iI (q))]) (rest := []) Z h (metX0_badQueue l D dA A ad X q (by omega)) (va_cwS 1 Z.2.2.2.2.1 (lw_S q101 q102 q22 q103) rfl rfl rfl (by decide +kernel) ⟨Nat.le_of_ble_eq_true rfl, Nat.le_of_ble_eq_true rfl⟩) rfl hl.1 rfl (Nat.le_of_ble_eq_true rfl) ⟨Nat.zero_le _, Nat.zero_le _⟩ dX0_ready_1 (fun z1 X1 H locs hp1 h => ?_)
  obtain ⟨ec9, hz1⟩ := hp1
  rw [ec9] at h
  refine b_ifeq (tgt := 11) Z hz1 dX0_ready_4 (by decide) (fun c4 => ?_) (fun c4 => ?_)
  · refine lv_aload_n Z.1 Z.2.1 dX0_ready_11 rfl (lv_at hl 0 rfl) ?_
    refine c_get Z h 9 (by decide) q41 rfl dX0_ready_12 ?_
    refine lv_iload_n Z.1 Z.2.1 dX0_ready_15 rfl (lv_at hl 1 rfl) ?_
    refine g_ald Z h (c_at_9 dA ad) (by decide) (v := X 9 (q)) (by omega) rfl dX0_ready_16 ?_
    have o1 := hX 9 (q)
    exact g_ireturn Z hr hlocks h rfl (⟨hI, EQ.rf X, Or.inl ⟨by omega, ready_n hQ (by omega) (by omega)⟩⟩) dX0_ready_17
  · refine i_const Z dX0_ready_7 ?_
    refine lv_goto (tgt := 17) Z.1 Z.2.1 dX0_ready_8 (by decide) ?_
    exact g_ireturn Z hr hlocks h rfl (⟨hI, EQ.rf X, Or.inr ⟨by omega, rfl⟩⟩) dX0_ready_17
set_option maxHeartbeats 4000000 in
set_option maxRecDepth 100000 in
theorem metX0_sum (l : Launch) (D : va_G) (dA : ClassId) (A : Nat → Prop) (ad : Nat → Nat) (X : zS) (q : Int) (N : Int) (hC : BC N X) (hN : N ≤ 64) (hI : IC X) (hq : -2147483648 ≤ q ∧ q ≤ 2147483647) : cMi l yX0_sum cX0_sum 4 (some .int) 0 0 D dA A ad [.ref (ad 0), .int (iI q)] X (fun z X1 => IC X1 ∧ spSum q X z X1) := by
  refine g_start_i (by decide) ?_
  intro p e s m below meth c Z hr hlocks h
  have Z : gC RX0 D dA p s m ([.ref (ad 0), .int (iI q)] : List Value).toArray c cX0_sum 4 := Z
  have hl := lv_entry ([.ref (ad 0), .int (iI q)]) (n := 4) (Nat.le_of_ble_eq_true rfl)
  rw [lg_entry_eq]
  generalize (lg_sl ([.ref (ad 0), .int (iI q)]) ++ List.replicate (4 - (lg_sl ([.ref (ad 0), .int (iI q)])).length) Slot.unset).toArray = ls at hl ⊢
  have hl : lv_has ls 4 [(0, .ref (ad 0)), (1, .int (iI (q)))] := hl
  obtain ⟨b0, b1, b3, b4, b5, b6, b7, b8, b12, b13, b19⟩ := hC
  obtain ⟨hX, hQ, hL, hO⟩ := id hI
  refine i_const Z dX0_sum_0 ?_
  refine lv_istore_n (lv' := [(2, .int (iI (0))), (0, .ref (ad 0)), (1, .int (iI (q)))]) Z.1 Z.2.1 dX0_sum_1 rfl hl (by decide) rfl (fun ls hl => ?_)
  refine i_const Z dX0_sum_2 ?_
  refine lv_istore_n (lv' := [(3, .int (iI (0))), (2, .int (iI (0))), (0, .ref (ad 0)), (1, .int (iI (q)))]) Z.1 Z.2.1 dX0_sum_3 rfl hl (by decide) rfl (fun ls hl => ?_)
  have loop : ∀ (n : Nat) (i : Int) (k : Int) (H : Heap) (locs : List Loc) (ls : Array Slot), (X 0 0 - i < (n : Int)) → (0 ≤ i ∧ i ≤ X 0 0) → (k = sm X q i) → gH D A (cWG dA ad (gG X)) s.heap H locs → lv_has ls 4 [(0, .ref (ad 0)), (1, .int (iI (q))), (3, .int (iI (i))), (2, .int (iI (k)))] → W p l e ({ frames := 0, cells := 0, slots := 0, locals := 0 } : Room) s m ([.ref (ad 0), .int (iI q)] : List Value).toArray below meth c H locs 0 0 (MQ below (gQi D dA A (cWG dA ad) (fun z X1 => IC X1 ∧ spSum q X z X1)) ([.ref (ad 0), .int (iI q)] : List Value).toArray s 0 0 A) (F0 m 4 ls []) := by
    intro n
    induction n with
    | zero =>
      intro i k H locs ls hm hi hk h hl
      exfalso; omega
    | succ n ih =>
      intro i k H locs ls hm hi hk h hl
      refine lv_iload_n Z.1 Z.2.1 dX0_sum_4 rfl (lv_at hl 2 rfl) ?_
      refine lv_aload_n Z.1 Z.2.1 dX0_sum_5 rfl (lv_at hl 0 rfl) ?_
      refine c_getI Z h 0 (by decide) q32 rfl (v := X 0 (0)) rfl dX0_sum_6 ?_
      have o1 := hX 0 (0)
      refine i_icmp_ge (tgt := 37) Z (by omega) dX0_sum_9 (by decide) (fun c9 => ?_) (fun c9 => ?_)
      · refine lv_iload_n Z.1 Z.2.1 dX0_sum_37 rfl (lv_at hl 3 rfl) ?_
        exact g_ireturn Z hr hlocks h rfl (⟨hI, EQ.rf X, by rw [show X 0 0 = i by omega]; exact hk⟩) dX0_sum_38
      · refine lv_aload_n Z.1 Z.2.1 dX0_sum_12 rfl (lv_at hl 0 rfl) ?_
        refine c_get Z h 5 (by decide) q37 rfl dX0_sum_13 ?_
        refine lv_iload_n Z.1 Z.2.1 dX0_sum_16 rfl (lv_at hl 2 rfl) ?_
        refine g_ald Z h (c_at_5 dA ad) (by decide) (v := X 5 (i)) (by omega) rfl dX0_sum_17 ?_
        have o2 := hX 5 (i)
        refine lv_iload_n Z.1 Z.2.1 dX0_sum_18 rfl (lv_at hl 1 rfl) ?_
        refine i_icmp_ne (tgt := 31) Z (by omega) dX0_sum_19 (by decide) (fun c19 => ?_) (fun c19 => ?_)
        · refine i_inc (lv' := [(3, .int (iI (i + 1))), (0, .ref (ad 0)), (1, .int (iI (q))), (2, .int (iI (k)))]) Z dX0_sum_31 hl (k := 2) rfl (by decide) rfl (fun ls hl => ?_)
          refine lv_goto (tgt := 4) Z.1 Z.2.1 dX0_sum_34 (by decide) ?_
          exact ih (i + 1) k _ _ _ (by omega) (by omega) (sm_st (by omega) hk (by omega)) h (lv_sub hl [1, 2, 0, 3] rfl)
        · refine lv_iload_n Z.1 Z.2.1 dX0_sum_22 rfl (lv_at hl 3 rfl) ?_
          refine lv_aload_n Z.1 Z.2.1 dX0_sum_23 rfl (lv_at hl 0 rfl) ?_
          refine c_get Z h 2 (by decide) q34 rfl dX0_sum_24 ?_
          refine lv_iload_n Z.1 Z.2.1 dX0_sum_27 rfl (lv_at hl 2 rfl) ?_
          refine g_ald Z h (c_at_2 dA ad) (by decide) (v := X 2 (i)) (by omega) rfl dX0_sum_28 ?_
          have o3 := hX 2 (i)
          refine i_add Z dX0_sum_29 ?_
          refine lv_istore_n (lv' := [(2, .int (iI (k + (X 2 (i))))), (0, .ref (ad 0)), (1, .int (iI (q))), (3, .int (iI (i)))]) Z.1 Z.2.1 dX0_sum_30 rfl hl (by decide) rfl (fun ls hl => ?_)
          refine i_inc (lv' := [(3, .int (iI (i + 1))), (2, .int (iI (k + (X 2 (i))))), (0, .ref (ad 0)), (1, .int (iI (q)))]) Z dX0_sum_31 hl (k := 3) rfl (by decide) rfl (fun ls hl => ?_)
          refine lv_goto (tgt := 4) Z.1 Z.2.1 dX0_sum_34 (by decide) ?_
          exact ih (i + 1) (k + (X 2 (i))) _ _ _ (by omega) (by omega) (sm_st (by omega) hk (by omega)) h (lv_sub hl [2, 3, 0, 1] rfl)
  exact loop ((X 0 0 - 0 + 1 : Int).toNat) 0 0 _ _ _ (by omega) (by omega) rfl h (lv_sub hl [2, 3, 0, 1] rfl)
set_option maxHeartbeats 4000000 in
set_option maxRecDepth 100000 in
theorem metX0_nextDeadline (l : Launch) (D : va_G) (dA : ClassId) (A : Nat → Prop) (ad : Nat → Nat) (X : zS)  (N : Int) (hC : BC N X) (hN : N ≤ 64) (hI : IC X) : cMi l yX0_nextDeadline cX0_nextDeadline 1 (some .int) 0 0 D dA A ad [.ref (ad 0)] X (fun z X1 => IC X1 ∧ spNext X z X1) := by
  refine g_start_i (by decide) ?_
  intro p e s m below meth c Z hr hlocks h
  have Z : gC RX0 D dA p s m ([.ref (ad 0)] : List Value).toArray c cX0_nextDeadline 1 := Z
  have hl := lv_entry ([.ref (ad 0)]) (n := 1) (Nat.le_of_ble_eq_true rfl)
  rw [lg_entry_eq]
  generalize (lg_sl ([.ref (ad 0)]) ++ List.replicate (1 - (lg_sl ([.ref (ad 0)])).length) Slot.unset).toArray = ls at hl ⊢
  have hl : lv_has ls 1 [(0, .ref (ad 0))] := hl
  obtain ⟨b0, b1, b3, b4, b5, b6, b7, b8, b12, b13, b19⟩ := hC
  obtain ⟨hX, hQ, hL, hO⟩ := id hI
  refine lv_aload_n Z.1 Z.2.1 dX0_nextDeadline_0 rfl (lv_at hl 0 rfl) ?_
  refine c_getI Z h 14 (by decide) q46 rfl (v := X 14 (0)) rfl dX0_nextDeadline_1 ?_
  have o1 := hX 14 (0)
  refine i_if_ne (tgt := 12) Z (by omega) dX0_nextDeadline_4 (by decide) (fun c4 => ?_) (fun c4 => ?_)
  · have hmn := OU_min hO (by omega)
    have hm1 := hmn.1.1
    have hm2 := hmn.1.2.1
    refine lv_aload_n Z.1 Z.2.1 dX0_nextDeadline_12 rfl (lv_at hl 0 rfl) ?_
    refine c_get Z h 7 (by decide) q39 rfl dX0_nextDeadline_13 ?_
    refine lv_aload_n Z.1 Z.2.1 dX0_nextDeadline_16 rfl (lv_at hl 0 rfl) ?_
    refine c_get Z h 15 (by decide) q47 rfl dX0_nextDeadline_17 ?_
    refine i_const Z dX0_nextDeadline_20 ?_
    refine g_ald Z h (c_at_15 dA ad) (by decide) (v := X 15 (0)) (by omega) rfl dX0_nextDeadline_21 ?_
    have o2 := hX 15 (0)
    refine g_ald Z h (c_at_7 dA ad) (by decide) (v := X 7 (X 15 (0))) (by omega) rfl dX0_nextDeadline_22 ?_
    have o3 := hX 7 (X 15 (0))
    exact g_ireturn Z hr hlocks h rfl (⟨hI, EQ.rf X, Or.inr ⟨⟨X 15 0, hmn.1.1, hmn.1.2.1, hmn.1.2.2, rfl⟩, fun b b0 b1 b2 => hmn.2 b ⟨b0, b1, b2⟩⟩⟩) dX0_nextDeadline_23
  · refine i_bipush Z dX0_nextDeadline_7 (by decide) ?_
    refine lv_goto (tgt := 23) Z.1 Z.2.1 dX0_nextDeadline_9 (by decide) ?_
    exact g_ireturn Z hr hlocks h rfl (⟨hI, EQ.rf X, Or.inl ⟨fun b b0 b1 b2 => OU_none hO (by omega) b ⟨b0, b1, b2⟩, rfl⟩⟩) dX0_nextDeadline_23
set_option maxHeartbeats 4000000 in
set_option maxRecDepth 100000 in
theorem metX0_tune (l : Launch) (D : va_G) (dA : ClassId) (A : Nat → Prop) (ad : Nat → Nat) (X : zS) (q pa li : Int) (N : Int) (hC : BC N X) (hN : N ≤ 64) (hI : IC X) (hq : -2147483648 ≤ q ∧ q ≤ 2147483647) (hpa : -2147483648 ≤ pa ∧ pa ≤ 2147483647) (hli : -2147483648 ≤ li ∧ li ≤ 2147483647) : cMi l yX0_tune cX0_tune 4 (some .int) 1 20 D dA A ad [.ref (ad 0), .int (iI q), .int (iI pa), .int (iI li)] X (fun z X1 => IC X1 ∧ spTune q pa li X z X1) := by
  refine g_start_i (by decide) ?_
  intro p e s m below meth c Z hr hlocks h
  have Z : gC RX0 D dA p s m ([.ref (ad 0), .int (iI q), .int (iI pa), .int (iI li)] : List Value).toArray c cX0_tune 4 := Z
  have hl := lv_entry ([.ref (ad 0), .int (iI q), .int (iI pa), .int (iI li)]) (n := 4) (Nat.le_of_ble_eq_true rfl)
  rw [lg_entry_eq]
  generalize (lg_sl ([.ref (ad 0), .int (iI q), .int (iI pa), .int (iI li)]) ++ List.replicate (4 - (lg_sl ([.ref (ad 0), .int (iI q), .int (iI pa), .int (iI li)])).length) Slot.unset).toArray = ls at hl ⊢
  have hl : lv_has ls 4 [(0, .ref (ad 0)), (1, .int (iI (q))), (2, .int (iI (pa))), (3, .int (iI (li)))] := hl
  obtain ⟨b0, b1, b3, b4, b5, b6, b7, b8, b12, b13, b19⟩ := hC
  obtain ⟨hX, hQ, hL, hO⟩ := id hI
  refine lv_iload_n Z.1 Z.2.1 dX0_tune_0 rfl (lv_at hl 1 rfl) ?_
  refine g_calls (As := [.int (iI (q))]) (rest := []) Z h (metX0_badQueue l D dA A ad X q (by omega)) (va_cwS 1 Z.2.2.2.2.1 (lw_S q101 q102 q22 q103) rfl rfl rfl (by decide +kernel) ⟨Nat.le_of_ble_eq_true rfl, Nat.le_of_ble_eq_true rfl⟩) rfl hl.1 rfl (Nat.le_of_ble_eq_true rfl) ⟨Nat.zero_le _, Nat.zero_le _⟩ dX0_tune_1 (fun z1 X1 H locs hp1 h => ?_)
  obtain ⟨ec9, hz1⟩ := hp1
  rw [ec9] at h
  refine b_ifeq (tgt := 9) Z hz1 dX0_tune_4 (by decide) (fun c4 => ?_) (fun c4 => ?_)
  · refine lv_iload_n Z.1 Z.2.1 dX0_tune_9 rfl (lv_at hl 2 rfl) ?_
    refine i_const Z dX0_tune_10 ?_
    refine i_icmp_lt (tgt := 30) Z (by omega) dX0_tune_11 (by decide) (fun c11 => ?_) (fun c11 => ?_)
    · refine i_bipush Z dX0_tune_30 (by decide) ?_
      exact g_ireturn Z hr hlocks h rfl (⟨hI, Or.inr (Or.inl ⟨by omega, by omega, rfl, EQ.rf X⟩)⟩) dX0_tune_32
    · refine lv_iload_n Z.1 Z.2.1 dX0_tune_14 rfl (lv_at hl 2 rfl) ?_
      refine i_bipush Z dX0_tune_15 (by decide) ?_
      refine i_icmp_gt (tgt := 30) Z (by omega) dX0_tune_17 (by decide) (fun c17 => ?_) (fun c17 => ?_)
      · refine i_bipush Z dX0_tune_30 (by decide) ?_
        exact g_ireturn Z hr hlocks h rfl (⟨hI, Or.inr (Or.inl ⟨by omega, by omega, rfl, EQ.rf X⟩)⟩) dX0_tune_32
      · refine lv_iload_n Z.1 Z.2.1 dX0_tune_20 rfl (lv_at hl 3 rfl) ?_
        refine i_const Z dX0_tune_21 ?_
        refine i_icmp_lt (tgt := 30) Z (by omega) dX0_tune_22 (by decide) (fun c22 => ?_) (fun c22 => ?_)
        · refine i_bipush Z dX0_tune_30 (by decide) ?_
          exact g_ireturn Z hr hlocks h rfl (⟨hI, Or.inr (Or.inl ⟨by omega, by omega, rfl, EQ.rf X⟩)⟩) dX0_tune_32
        · refine lv_iload_n Z.1 Z.2.1 dX0_tune_25 rfl (lv_at hl 3 rfl) ?_
          refine i_const Z dX0_tune_26 ?_
          refine i_icmp_le (tgt := 33) Z (by omega) dX0_tune_27 (by decide) (fun c27 => ?_) (fun c27 => ?_)
          · refine lv_aload_n Z.1 Z.2.1 dX0_tune_33 rfl (lv_at hl 0 rfl) ?_
            refine c_get Z h 12 (by decide) q44 rfl dX0_tune_34 ?_
            refine lv_iload_n Z.1 Z.2.1 dX0_tune_37 rfl (lv_at hl 1 rfl) ?_
            refine lv_iload_n Z.1 Z.2.1 dX0_tune_38 rfl (lv_at hl 2 rfl) ?_
            refine g_ast Z h (c_at_12 dA ad) (c_set_12 dA ad) (by decide) (i := q) (v := pa) (by omega) dX0_tune_39 (fun H locs h => ?_)
            have hX := okX_set hX 12 (q) (pa) (by omega)
            refine lv_aload_n Z.1 Z.2.1 dX0_tune_40 rfl (lv_at hl 0 rfl) ?_
            refine c_get Z h 13 (by decide) q45 rfl dX0_tune_41 ?_
            refine lv_iload_n Z.1 Z.2.1 dX0_tune_44 rfl (lv_at hl 1 rfl) ?_
            refine lv_iload_n Z.1 Z.2.1 dX0_tune_45 rfl (lv_at hl 3 rfl) ?_
            refine g_ast Z h (c_at_13 dA ad) (c_set_13 dA ad) (by decide) (i := q) (v := li) (by omega) dX0_tune_46 (fun H locs h => ?_)
            have hX := okX_set hX 13 (q) (li) (by omega)
            refine i_const Z dX0_tune_47 ?_
            exact g_ireturn Z hr hlocks h rfl (⟨⟨hX, HQ_congr1 hQ (fun k hk => by rw [sU_k (by omega), sU_k (by omega)]), LV_congr hL (by rw [sU_k (by decide), sU_k (by decide)]) (by rw [sU_k (by decide), sU_k (by decide)]) (by rw [sU_k (by decide), sU_k (by decide)]) (by rw [sU_k (by decide), sU_k (by decide)]) (fun b _ _ w => by rw [sU_k (by decide), sU_k (by decide)] at w; exact w), OL_congr hO.1 (by rw [sU_k (by decide), sU_k (by decide)]) (by rw [sU_k (by decide), sU_k (by decide)]) (fun b _ => by rw [sU_k (by decide), sU_k (by decide)]) (fun b => by unfold isOut; rw [sU_k (by decide), sU_k (by decide), sU_k (by decide), sU_k (by decide)]), HL_congr hO.2 (by rw [sU_k (by decide), sU_k (by decide)]) (by rw [sU_k (by decide), sU_k (by decide)]) (fun b _ _ => by rw [sU_k (by decide), sU_k (by decide)]) (by rw [sU_k (by decide), sU_k (by decide)])⟩, Or.inr (Or.inr ⟨by omega, by omega, rfl, EQ.rf _⟩)⟩) dX0_tune_48
          · refine i_bipush Z dX0_tune_30 (by decide) ?_
            exact g_ireturn Z hr hlocks h rfl (⟨hI, Or.inr (Or.inl ⟨by omega, by omega, rfl, EQ.rf X⟩)⟩) dX0_tune_32
  · refine i_const Z dX0_tune_7 ?_
    exact g_ireturn Z hr hlocks h rfl (⟨hI, Or.inl ⟨by omega, rfl, EQ.rf X⟩⟩) dX0_tune_8
set_option maxHeartbeats 4000000 in
set_option maxRecDepth 100000 in
theorem metX0_acknowledge (l : Launch) (D : va_G) (dA : ClassId) (A : Nat → Prop) (ad : Nat → Nat) (X : zS) (q a : Int) (N : Int) (hC : BC N X) (hN : N ≤ 64) (hI : IC X) (hq : -2147483648 ≤ q ∧ q ≤ 2147483647) (ha : -2147483648 ≤ a ∧ a ≤ 2147483647) : cMi l yX0_acknowledge cX0_acknowledge 3 (some .int) 1 23 D dA A ad [.ref (ad 0), .int (iI q), .int (iI a)] X (fun z X1 => IC X1 ∧ spAck q a X z X1) := by
  refine g_start_i (by decide) ?_
  intro p e s m below meth c Z hr hlocks h
  have Z : gC RX0 D dA p s m ([.ref (ad 0), .int (iI q), .int (iI a)] : List Value).toArray c cX0_acknowledge 3 := Z
  have hl := lv_entry ([.ref (ad 0), .int (iI q), .int (iI a)]) (n := 3) (Nat.le_of_ble_eq_true rfl)
  rw [lg_entry_eq]
  generalize (lg_sl ([.ref (ad 0), .int (iI q), .int (iI a)]) ++ List.replicate (3 - (lg_sl ([.ref (ad 0), .int (iI q), .int (iI a)])).length) Slot.unset).toArray = ls at hl ⊢
  have hl : lv_has ls 3 [(0, .ref (ad 0)), (1, .int (iI (q))), (2, .int (iI (a)))] := hl
  obtain ⟨b0, b1, b3, b4, b5, b6, b7, b8, b12, b13, b19⟩ := hC
  obtain ⟨hX, hQ, hL, hO⟩ := id hI
  refine lv_iload_n Z.1 Z.2.1 dX0_acknowledge_0 rfl (lv_at hl 1 rfl) ?_
  refine g_calls (As := [.int (iI (q))]) (rest := []) Z h (metX0_badConsumer l D dA A ad X q (by omega)) (va_cwS 1 Z.2.2.2.2.1 (lw_S q132 q133 q22 q134) rfl rfl rfl (by decide +kernel) ⟨Nat.le_of_ble_eq_true rfl, Nat.le_of_ble_eq_true rfl⟩) rfl hl.1 rfl (Nat.le_of_ble_eq_true rfl) ⟨Nat.zero_le _, Nat.zero_le _⟩ dX0_acknowledge_1 (fun z1 X1 H locs hp1 h => ?_)
  obtain ⟨ec9, hz1⟩ := hp1
  rw [ec9] at h
  refine b_ifeq (tgt := 10) Z hz1 dX0_acknowledge_4 (by decide) (fun c4 => ?_) (fun c4 => ?_)
  · refine lv_aload_n Z.1 Z.2.1 dX0_acknowledge_10 rfl (lv_at hl 0 rfl) ?_
    refine lv_iload_n Z.1 Z.2.1 dX0_acknowledge_11 rfl (lv_at hl 1 rfl) ?_
    refine lv_iload_n Z.1 Z.2.1 dX0_acknowledge_12 rfl (lv_at hl 2 rfl) ?_
    refine g_calli (As := [.int (iI (q)), .int (iI (a))]) (rest := []) (q := (RX0, TX0, 21)) (ci := 0) Z h (metX0_notOut l D dA A ad X q a hX b0 (by omega) (by omega)) (cwV 2 Z.2.2.2.2.1 (lw_V q151 q153 qs9 q22 q154) rfl rfl rfl (by decide +kernel) ⟨Nat.le_of_ble_eq_true rfl, Nat.le_of_ble_eq_true rfl⟩) rfl rfl rfl hl.1 rfl (Nat.le_of_ble_eq_true rfl) ⟨Nat.zero_le _, Nat.zero_le _⟩ dX0_acknowledge_13 (fun z13 X13 H locs hp13 h => ?_)
    obtain ⟨ec9, hz13⟩ := hp13
    rw [ec9] at h
    refine b_ifeq (tgt := 22) Z hz13 dX0_acknowledge_16 (by decide) (fun c16 => ?_) (fun c16 => ?_)
    · have hd : held X q a := Classical.not_not.mp c16
      have hq3 : 0 ≤ q ∧ q < 3 := Classical.not_not.mp c4
      have hd2 : 0 ≤ a ∧ a < X 0 0 ∧ X 5 a = 1 ∧ X 6 a = q := hd
      have ha : isOut X a := ⟨hd2.1, hd2.2.1, hd2.2.2.1⟩
      obtain ⟨p0, p00, p01, p02, p03⟩ := OL_at hO.1 ha
      have h6 := OU_six hO b0.1 b6
      refine lv_aload_n Z.1 Z.2.1 dX0_acknowledge_22 rfl (lv_at hl 0 rfl) ?_
      refine lv_iload_n Z.1 Z.2.1 dX0_acknowledge_23 rfl (lv_at hl 2 rfl) ?_
      refine g_callv (As := [.int (iI (a))]) (rest := []) (q := (RX0, TX0, 21)) (ci := 0) Z h (metX0_dropOut l D dA A ad X a p0 hX (by omega) p00 p01 p02 p03) (cwV 1 Z.2.2.2.2.1 (lw_V q155 q157 qs10 q22 q158) rfl rfl rfl (by decide +kernel) ⟨Nat.le_of_ble_eq_true rfl, Nat.le_of_ble_eq_true rfl⟩) rfl rfl rfl hl.1 rfl (Nat.le_of_ble_eq_true rfl) ⟨Nat.zero_le _, Nat.zero_le _⟩ dX0_acknowledge_24 (fun X24 H locs hp24 h => ?_)
      obtain ⟨hX, f1, f2, f3⟩ := hp24
      have g0 : X24 0 = X 0 := f1 0 (by decide) (by decide)
      have g1 : X24 1 = X 1 := f1 1 (by decide) (by decide)
      have g3 : X24 3 = X 3 := f1 3 (by decide) (by decide)
      have g5 : X24 5 = X 5 := f1 5 (by decide) (by decide)
      have g6 : X24 6 = X 6 := f1 6 (by decide) (by decide)
      have g7 : X24 7 = X 7 := f1 7 (by decide) (by decide)
      have g8 : X24 8 = X 8 := f1 8 (by decide) (by decide)
      have g9 : X24 9 = X 9 := f1 9 (by decide) (by decide)
      have g10 : X24 10 = X 10 := f1 10 (by decide) (by decide)
      have g11 : X24 11 = X 11 := f1 11 (by decide) (by decide)
      have g12 : X24 12 = X 12 := f1 12 (by decide) (by decide)
      have g16 : X24 16 = X 16 := f1 16 (by decide) (by decide)
      have g17 : X24 17 = X 17 := f1 17 (by decide) (by decide)
      have g18 : X24 18 = X 18 := f1 18 (by decide) (by decide)
      have g19 : X24 19 = X 19 := f1 19 (by decide) (by decide)
      have hh0 := outN_rng (X := X) (c := q) b0.1
      rw [← (hO.2 q (by omega) (by omega)).1, ← g16] at hh0
      have hh1 := (hO.2 q (by omega) (by omega)).2
      rw [← g16] at hh1
      refine lv_aload_n Z.1 Z.2.1 dX0_acknowledge_27 rfl (lv_at hl 0 rfl) ?_
      refine c_get Z h 16 (by decide) q48 rfl dX0_acknowledge_28 ?_
      refine lv_iload_n Z.1 Z.2.1 dX0_acknowledge_31 rfl (lv_at hl 1 rfl) ?_
      refine i_dup2 Z dX0_acknowledge_32 rfl rfl ?_
      refine g_ald Z h (c_at_16 dA ad) (by decide) (v := X24 16 (q)) (by omega) rfl dX0_acknowledge_33 ?_
      have o1 := hX 16 (q)
      refine i_const Z dX0_acknowledge_34 ?_
      refine i_sub Z dX0_acknowledge_35 ?_
      refine g_ast Z h (c_at_16 dA ad) (c_set_16 dA ad) (by decide) (i := q) (v := (X24 16 (q)) - 1) (by omega) dX0_acknowledge_36 (fun H locs h => ?_)
      have hX := okX_set hX 16 (q) ((X24 16 (q)) - 1) (by omega)
      refine lv_aload_n Z.1 Z.2.1 dX0_acknowledge_37 rfl (lv_at hl 0 rfl) ?_
      refine c_get Z h 5 (by decide) q37 rfl dX0_acknowledge_38 ?_
      refine lv_iload_n Z.1 Z.2.1 dX0_acknowledge_41 rfl (lv_at hl 2 rfl) ?_
      refine i_const Z dX0_acknowledge_42 ?_
      refine g_ast Z h (c_at_5 dA ad) (c_set_5 dA ad) (by decide) (i := a) (v := 2) (by omega) dX0_acknowledge_43 (fun H locs h => ?_)
      have hX := okX_set hX 5 (a) (2) (by omega)
      refine lv_aload_n Z.1 Z.2.1 dX0_acknowledge_44 rfl (lv_at hl 0 rfl) ?_
      refine c_get Z h 16 (by decide) q48 rfl dX0_acknowledge_45 ?_
      refine lv_iload_n Z.1 Z.2.1 dX0_acknowledge_48 rfl (lv_at hl 1 rfl) ?_
      refine g_ald Z h (c_at_16 dA ad) (by decide) (v := (X24 16 (q)) - 1) (by omega) (by simp [sU]) dX0_acknowledge_49 ?_
      have o2 := hX 16 (q)
      rw [show (sU (sU X24 16 (q) ((X24 16 (q)) - 1)) 5 (a) (2)) 16 (q) = (X24 16 (q)) - 1 from by simp [sU]] at o2
      have r5 : (sU (sU X24 16 (q) ((X24 16 (q)) - 1)) 5 (a) (2)) 5 = uI (X 5) a 2 := by rw [sU_u, sU_k (by decide), g5]
      have r16 : (sU (sU X24 16 (q) ((X24 16 (q)) - 1)) 5 (a) (2)) 16 = uI (X 16) (X 6 a) (X 16 (X 6 a) - 1) := by rw [sU_k (by decide), sU_u, g16, hd2.2.2.2]
      have r14 : (sU (sU X24 16 (q) ((X24 16 (q)) - 1)) 5 (a) (2)) 14 0 = X 14 0 - 1 := by rw [sU_k (by decide), sU_k (by decide)]; exact f2
      have hOU := OU_back hO ha (b6 a) p00 p01 p02 r14 (fun j j0 j1 => by rw [sU_k (by decide), sU_k (by decide)]; exact f3 j j0 j1) r16 (by rw [sU_k (by decide), sU_k (by decide), g0]) r5 (by omega) (by rw [sU_k (by decide), sU_k (by decide), g6]) (by rw [sU_k (by decide), sU_k (by decide), g7])
      have hQ3 : HQm (sU X24 16 (q) ((X24 16 (q)) - 1)) a := HQm_congr (HQ.hm hQ (by omega)) (fun k hk => by rw [sU_k (by omega), f1 k (by omega) (by omega)])
      have hE : EQ (sU (sU X24 16 (q) ((X24 16 (q)) - 1)) 5 (a) (2)) (sU X 5 a 2) := EQ.of (fun i => by rw [r5, sU_u]) (fun k hk h5 => by have w := cmn_ne hk; rw [sU_k h5, sU_k w.2.2.2.2.2.1, f1 k w.2.2.2.1 w.2.2.2.2.1, sU_k h5])
      have hz : outN (sU X 5 a 2) q = X 16 q - 1 := by
        have w := hOU.2
        rw [hd2.2.2.2] at w
        rw [← w]
        unfold outN
        rw [← hE 0 (by unfold cmn; decide) 0]
        exact cn_congr (fun i _ _ => by rw [hE 5 (by unfold cmn; decide) i, hE 6 (by unfold cmn; decide) i])
      exact g_ireturn Z hr hlocks h rfl (⟨⟨hX, HQm.out hQ3 (by omega), LV_congr hL (by rw [sU_k (by decide), sU_k (by decide), g17]) (by rw [sU_k (by decide), sU_k (by decide), g18]) (by rw [sU_k (by decide), sU_k (by decide), g8]) (by rw [sU_k (by decide), sU_k (by decide), g0]) (fun b _ _ w => by
          rw [r5] at w
          by_cases e : b = a
          · rw [e, uI_s] at w; omega
          · rw [uI_n e] at w; exact w), hOU.1⟩, Or.inr (Or.inr ⟨hq3, hd, by rw [hz, g16], hE⟩)⟩) dX0_acknowledge_50
    · refine i_bipush Z dX0_acknowledge_19 (by decide) ?_
      exact g_ireturn Z hr hlocks h rfl (⟨hI, Or.inr (Or.inl ⟨Classical.not_not.mp c4, c16, rfl, EQ.rf X⟩)⟩) dX0_acknowledge_21
  · refine i_bipush Z dX0_acknowledge_7 (by decide) ?_
    exact g_ireturn Z hr hlocks h rfl (⟨hI, Or.inl ⟨c4, rfl, EQ.rf X⟩⟩) dX0_acknowledge_9
set_option maxHeartbeats 4000000 in
set_option maxRecDepth 100000 in
theorem metX0_refuse (l : Launch) (D : va_G) (dA : ClassId) (A : Nat → Prop) (ad : Nat → Nat) (X : zS) (q a : Int) (N : Int) (hC : BC N X) (hN : N ≤ 64) (hI : IC X) (hq : -2147483648 ≤ q ∧ q ≤ 2147483647) (ha : -2147483648 ≤ a ∧ a ≤ 2147483647) : cMi l yX0_refuse cX0_refuse 3 (some .int) 5 112 D dA A ad [.ref (ad 0), .int (iI q), .int (iI a)] X (fun z X1 => IC X1 ∧ spRef q a X z X1) := by
  refine g_start_i (by decide) ?_
  intro p e s m below meth c Z hr hlocks h
  have Z : gC RX0 D dA p s m ([.ref (ad 0), .int (iI q), .int (iI a)] : List Value).toArray c cX0_refuse 3 := Z
  have hl := lv_entry ([.ref (ad 0), .int (iI q), .int (iI a)]) (n := 3) (Nat.le_of_ble_eq_true rfl)
  rw [lg_entry_eq]
  generalize (lg_sl ([.ref (ad 0), .int (iI q), .int (iI a)]) ++ List.replicate (3 - (lg_sl ([.ref (ad 0), .int (iI q), .int (iI a)])).length) Slot.unset).toArray = ls at hl ⊢
  have hl : lv_has ls 3 [(0, .ref (ad 0)), (1, .int (iI (q))), (2, .int (iI (a)))] := hl
  obtain ⟨b0, b1, b3, b4, b5, b6, b7, b8, b12, b13, b19⟩ := hC
  obtain ⟨hX, hQ, hL, hO⟩ := id hI
  refine lv_iload_n Z.1 Z.2.1 dX0_refuse_0 rfl (lv_at hl 1 rfl) ?_
  refine g_calls (As := [.int (iI (q))]) (rest := []) Z h (metX0_badConsumer l D dA A ad X q (by omega)) (va_cwS 1 Z.2.2.2.2.1 (lw_S q132 q133 q22 q134) rfl rfl rfl (by decide +kernel) ⟨Nat.le_of_ble_eq_true rfl, Nat.le_of_ble_eq_true rfl⟩) rfl hl.1 rfl (Nat.le_of_ble_eq_true rfl) ⟨Nat.zero_le _, Nat.zero_le _⟩ dX0_refuse_1 (fun z1 X1 H locs hp1 h => ?_)
  obtain ⟨ec9, hz1⟩ := hp1
  rw [ec9] at h
  refine b_ifeq (tgt := 10) Z hz1 dX0_refuse_4 (by decide) (fun c4 => ?_) (fun c4 => ?_)
  · refine lv_aload_n Z.1 Z.2.1 dX0_refuse_10 rfl (lv_at hl 0 rfl) ?_
    refine lv_iload_n Z.1 Z.2.1 dX0_refuse_11 rfl (lv_at hl 1 rfl) ?_
    refine lv_iload_n Z.1 Z.2.1 dX0_refuse_12 rfl (lv_at hl 2 rfl) ?_
    refine g_calli (As := [.int (iI (q)), .int (iI (a))]) (rest := []) (q := (RX0, TX0, 21)) (ci := 0) Z h (metX0_notOut l D dA A ad X q a hX b0 (by omega) (by omega)) (cwV 2 Z.2.2.2.2.1 (lw_V q151 q153 qs9 q22 q154) rfl rfl rfl (by decide +kernel) ⟨Nat.le_of_ble_eq_true rfl, Nat.le_of_ble_eq_true rfl⟩) rfl rfl rfl hl.1 rfl (Nat.le_of_ble_eq_true rfl) ⟨Nat.zero_le _, Nat.zero_le _⟩ dX0_refuse_13 (fun z13 X13 H locs hp13 h => ?_)
    obtain ⟨ec9, hz13⟩ := hp13
    rw [ec9] at h
    refine b_ifeq (tgt := 22) Z hz13 dX0_refuse_16 (by decide) (fun c16 => ?_) (fun c16 => ?_)
    · have hd : held X q a := Classical.not_not.mp c16
      have hq3 : 0 ≤ q ∧ q < 3 := Classical.not_not.mp c4
      have hd2 : 0 ≤ a ∧ a < X 0 0 ∧ X 5 a = 1 ∧ X 6 a = q := hd
      have ha : isOut X a := ⟨hd2.1, hd2.2.1, hd2.2.2.1⟩
      refine lv_aload_n Z.1 Z.2.1 dX0_refuse_22 rfl (lv_at hl 0 rfl) ?_
      refine lv_iload_n Z.1 Z.2.1 dX0_refuse_23 rfl (lv_at hl 2 rfl) ?_
      refine g_callv (As := [.int (iI (a))]) (rest := []) (q := (RX0, TX0, 21)) (ci := 0) Z h (metX0_comeBack l D dA A ad X a hX b0 b1 b6 hQ hL hO ha) (cwV 1 Z.2.2.2.2.1 (lw_V q163 q165 qs11 q22 q166) rfl rfl rfl (by decide +kernel) ⟨Nat.le_of_ble_eq_true rfl, Nat.le_of_ble_eq_true rfl⟩) rfl rfl rfl hl.1 rfl (Nat.le_of_ble_eq_true rfl) ⟨Nat.zero_le _, Nat.zero_le _⟩ dX0_refuse_24 (fun X24 H locs hp24 h => ?_)
      obtain ⟨hX, r5, rk, hQ4, hL4, hO4, _⟩ := hp24
      refine lv_aload_n Z.1 Z.2.1 dX0_refuse_27 rfl (lv_at hl 0 rfl) ?_
      refine c_get Z h 5 (by decide) q37 rfl dX0_refuse_28 ?_
      refine lv_iload_n Z.1 Z.2.1 dX0_refuse_31 rfl (lv_at hl 2 rfl) ?_
      refine g_ald Z h (c_at_5 dA ad) (by decide) (v := X24 5 (a)) (by omega) rfl dX0_refuse_32 ?_
      have o1 := hX 5 (a)
      have hE : EQ X24 (sU X 5 a (back X a)) := EQ.of (fun i => by rw [r5, sU_u]) (fun k hk h5 => by rw [rk k hk h5, sU_k h5])
      exact g_ireturn Z hr hlocks h rfl (⟨⟨hX, hQ4, hL4, hO4⟩, Or.inr (Or.inr ⟨hq3, hd, by rw [r5, uI_s], hE⟩)⟩) dX0_refuse_33
    · refine i_bipush Z dX0_refuse_19 (by decide) ?_
      exact g_ireturn Z hr hlocks h rfl (⟨hI, Or.inr (Or.inl ⟨Classical.not_not.mp c4, c16, rfl, EQ.rf X⟩)⟩) dX0_refuse_21
  · refine i_bipush Z dX0_refuse_7 (by decide) ?_
    exact g_ireturn Z hr hlocks h rfl (⟨hI, Or.inl ⟨c4, rfl, EQ.rf X⟩⟩) dX0_refuse_9
end
section
/-! sorting aside, the passing of time: plain -/
theorem OU_renew {X P Y : zS} {a p0 p d : Int} (hO : OU X) (ha : isOut X a) (p00 : 0 ≤ p0) (p01 : p0 < X 14 0) (p02 : X 15 p0 = a) (f14 : P 14 0 = X 14 0 - 1) (f15 : ∀ j, 0 ≤ j → j < X 14 0 - 1 → P 15 j = if j < p0 then X 15 j else X 15 (j + 1)) (f7 : P 7 = uI (X 7) a d) (q0 : 0 ≤ p) (q1 : p ≤ P 14 0) (hlo : p = 0 ∨ P 7 (P 15 (p - 1)) ≤ P 7 a) (hhi : ∀ j, p ≤ j → j < P 14 0 → P 7 a < P 7 (P 15 j)) (e14 : Y 14 0 = P 14 0 + 1) (e15 : ∀ j, 0 ≤ j → j ≤ P 14 0 → Y 15 j = if j < p then P 15 j else if j = p then a else P 15 (j - 1)) (e7 : Y 7 = P 7) (e0 : Y 0 = X 0) (e5 : Y 5 = X 5) (e6 : Y 6 = X 6) (e16 : Y 16 = X 16) : OU Y := by
  have h1 := OL_drop hO.1 p00 p01 p02 f14 f15 (fun b _ hne => by rw [f7, uI_n hne])
  have h2 := OL_ins h1 (fun w => w.2 rfl) q0 q1 hlo hhi e14 e15 e7
  refine ⟨OL_congr h2 rfl rfl (fun _ _ => rfl) (fun b => ?_), HL_congr hO.2 (by rw [e0]) e16 (fun b _ _ => by rw [e5]) e6⟩
  have he : isOut Y b ↔ isOut X b := by unfold isOut; rw [e0, e5]
  rw [he]
  constructor
  · intro w
    rcases w with w | w
    · exact w.1
    · rw [w]; exact ha
  · intro w
    by_cases e : b = a
    · exact Or.inr e
    · exact Or.inl ⟨w, e⟩
/-- the first kk places aside hold the first kk of the heap, in order -/
def SRT (Y X : zS) (q kk : Int) : Prop := (∃ ps : Int → Int, Bij (Y 20) ps kk (fun b => ∃ j, 0 ≤ j ∧ j < kk ∧ hsg X q j = b)) ∧ ∀ i j, 0 ≤ i → i < j → j < kk → bq (X 3) (Y 20 i) (Y 20 j)
theorem SRT_0 {Y X : zS} {q : Int} : SRT Y X q 0 := by
  refine ⟨⟨fun _ => 0, Int.le_refl 0, fun j j0 j1 => by omega, fun a w => ?_⟩, fun i j i0 ij j1 => by omega⟩
  obtain ⟨j, j0, j1, -⟩ := w
  omega
theorem SRT_ins {Z Y X : zS} {q kk p n : Int} {S : Int → Prop} (hS : SRT Z X q kk) (hB : Bij (hsg X q) (X 11) n S) (k0 : 0 ≤ kk) (k1 : kk < n) (p0 : 0 ≤ p) (p1 : p ≤ kk) (hlo : p = 0 ∨ ¬ bq (X 3) (hsg X q kk) (Z 20 (p - 1))) (hhi : ∀ j, p ≤ j → j < kk → bq (X 3) (hsg X q kk) (Z 20 j)) (e : ∀ j, 0 ≤ j → j ≤ kk → Y 20 j = if j < p then Z 20 j else if j = p then hsg X q kk else Z 20 (j - 1)) : SRT Y X q (kk + 1) := by
  obtain ⟨⟨ps, hZ⟩, hs⟩ := hS
  have hna : ¬ ∃ j, 0 ≤ j ∧ j < kk ∧ hsg X q j = hsg X q kk := by
    intro w
    obtain ⟨j, j0, j1, j2⟩ := w
    have := bij_inj hB (i := j) (j := kk) j0 (by omega) k0 k1 j2
    omega
  have hI := bij_ins hZ p0 p1 hna e
  refine ⟨⟨_, bij_congr hI (fun _ _ _ => rfl) (fun _ _ => rfl) (fun b => ?_)⟩, ?_⟩
  · constructor
    · intro w
      rcases w with ⟨j, j0, j1, j2⟩ | w
      · exact ⟨j, j0, by omega, j2⟩
      · exact ⟨kk, k0, by omega, w.symm⟩
    · intro w
      obtain ⟨j, j0, j1, j2⟩ := w
      by_cases c : j = kk
      · subst c; exact Or.inr j2.symm
      · exact Or.inl ⟨j, j0, by omega, j2⟩
  · intro i j i0 ij j1
    have lo : ∀ m, 0 ≤ m → m < p → bq (X 3) (Z 20 m) (hsg X q kk) := by
      intro m m0 m1
      have hp : bq (X 3) (Z 20 (p - 1)) (hsg X q kk) := by
        rcases hlo with w | w
        · omega
        · have hne : Z 20 (p - 1) ≠ hsg X q kk := by
            intro v
            have := (hZ.2.1 (p - 1) (by omega) (by omega)).1
            rw [v] at this
            exact hna this
          exact (bq_tot (X 3) hne).resolve_right w
      by_cases c : m = p - 1
      · rw [c]; exact hp
      · exact bq_trans _ (hs m (p - 1) m0 (by omega) (by omega)) hp
    rw [e i i0 (by omega), e j (by omega) (by omega)]
    by_cases c : i < p
    · rw [if_pos c]
      by_cases d : j < p
      · rw [if_pos d]; exact hs i j i0 ij (by omega)
      · rw [if_neg d]
        by_cases f : j = p
        · rw [if_pos f]; exact lo i i0 c
        · rw [if_neg f]; exact hs i (j - 1) i0 (by omega) (by omega)
    · rw [if_neg c, if_neg (show ¬ j < p by omega), if_neg (show ¬ j = p by omega)]
      by_cases d : i = p
      · rw [if_pos d]; exact hhi (j - 1) (by omega) (by omega)
      · rw [if_neg d]; exact hs (i - 1) (j - 1) (by omega) (by omega) (by omega)
theorem SRT_end {Y X : zS} {q i : Int} (hQ : HQ X) (q0 : 0 ≤ q) (q1 : q ≤ 2) (hS : SRT Y X q (X 9 q)) (i0 : 0 ≤ i) (i1 : i < X 9 q) : rdy X q (Y 20 i) ∧ rank X q (Y 20 i) = i := by
  obtain ⟨⟨ps, hZ⟩, hs⟩ := hS
  have hB := (hQ q q0 q1).1
  have hZ2 : Bij (Y 20) ps (X 9 q) (rdy X q) := bij_congr hZ (fun _ _ _ => rfl) (fun _ _ => rfl) (fun b => by
    constructor
    · intro w
      obtain ⟨j, j0, j1, j2⟩ := w
      rw [← j2]
      exact (hB.2.1 j j0 j1).1
    · intro w
      obtain ⟨p0, p1, p2⟩ := hB.2.2 b w
      exact ⟨X 11 b, p0, p1, p2⟩)
  refine ⟨(hZ2.2.1 i i0 i1).1, ?_⟩
  have e1 : rank X q (Y 20 i) = cn (fun b => rdy X q b ∧ bq (X 3) b (Y 20 i)) (X 0 0) := cn_congr (fun b b0 b1 => ⟨fun w => ⟨⟨b0, b1, w.1⟩, w.2⟩, fun w => ⟨w.1.2.2, w.2⟩⟩)
  rw [e1, bij_cn hZ2 (fun b w => ⟨w.1, w.2.1⟩) (fun b => bq (X 3) b (Y 20 i))]
  rw [cn_congr (q := fun j => j < i) (fun j j0 j1 => ?_), cn_below i0 (by omega)]
  constructor
  · intro w
    rcases Int.lt_or_le j i with v | v
    · exact v
    · by_cases c : j = i
      · subst c; exact absurd w (bq_irr _ _)
      · exact absurd w ((bq_ord (X 3)).1 _ _ (hs i j i0 (by omega) j1))
  · intro w
    exact hs j i j0 w i1
theorem EQ_set5 {X1 Y Z : zS} {a v : Int} (h : EQ Y Z) (e5 : X1 5 = uI (Y 5) a v) (ek : ∀ k, cmn k → k ≠ 5 → X1 k = Y k) : EQ X1 (sU Z 5 a v) := by
  refine EQ.of (fun i => ?_) (fun k hk h5 => ?_)
  · rw [e5, sU_u]
    unfold uI
    rw [h 5 (by unfold cmn; decide) i]
  · rw [ek k hk h5, sU_k h5]
    funext i
    exact h k hk i
theorem back_EQ {Y Z : zS} (h : EQ Y Z) (a : Int) : back Y a = back Z a := by
  unfold back
  rw [h 1 (by unfold cmn; decide), h 4 (by unfold cmn; decide), h 13 (by unfold cmn; decide)]
theorem back_ne {X : zS} {a : Int} : back X a ≠ 1 := by
  unfold back
  split <;> omega
/-- the deadlines: what came back so far -/
def PA1 (X Y : zS) (t k : Int) : Prop := (∀ f, cmn f → f ≠ 5 → f ≠ 19 → Y f = X f) ∧ Y 19 0 = t ∧ (∀ i, i ≠ 0 → Y 19 i = X 19 i) ∧ (∀ b, Y 5 b = X 5 b ∨ (0 ≤ b ∧ b < X 0 0 ∧ X 5 b = 1 ∧ X 7 b ≤ t ∧ Y 5 b = back X b)) ∧ k + cn (fun b => Y 5 b = 1 ∧ X 7 b ≤ t) (X 0 0) = cn (fun b => X 5 b = 1 ∧ X 7 b ≤ t) (X 0 0)
theorem PA1_0 {X : zS} {t : Int} : PA1 X (sU X 19 0 t) t 0 := by
  refine ⟨fun f _ _ h => sU_k h, sU_s, fun i hi => sU_i hi, fun b => Or.inl (by rw [sU_k (by decide)]), ?_⟩
  rw [sU_k (by decide)]
  omega
theorem PA1_back {X Y : zS} {t k a : Int} (h : PA1 X Y t k) : back Y a = back X a := by
  unfold back
  rw [h.1 1 (by unfold cmn; decide) (by decide) (by decide), h.1 4 (by unfold cmn; decide) (by decide) (by decide), h.1 13 (by unfold cmn; decide) (by decide) (by decide)]
theorem PA1_step {X Y V : zS} {t k a : Int} (h : PA1 X Y t k) (ha : isOut Y a) (h7 : Y 7 a ≤ t) (e5 : V 5 = uI (Y 5) a (back Y a)) (ek : ∀ f, cmn f → f ≠ 5 → V f = Y f) : PA1 X V t (k + 1) := by
  have hb := PA1_back (a := a) h
  obtain ⟨h1, h2, h3, h4, h5⟩ := h
  have e0 : Y 0 = X 0 := h1 0 (by unfold cmn; decide) (by decide) (by decide)
  have e7 : Y 7 = X 7 := h1 7 (by unfold cmn; decide) (by decide) (by decide)
  obtain ⟨a0, a1, a2⟩ := ha
  rw [e0] at a1
  rw [e7] at h7
  have hx5 : X 5 a = 1 := by
    rcases h4 a with w | ⟨_, _, _, _, w⟩
    · rw [← w]; exact a2
    · exact absurd (w.symm.trans a2) back_ne
  refine ⟨fun f f1 f2 f3 => by rw [ek f f1 f2]; exact h1 f f1 f2 f3, by rw [ek 19 (by unfold cmn; decide) (by decide)]; exact h2, fun i hi => by rw [ek 19 (by unfold cmn; decide) (by decide)]; exact h3 i hi, fun b => ?_, ?_⟩
  · rw [e5]
    by_cases e : b = a
    · subst e
      rw [uI_s]
      exact Or.inr ⟨a0, a1, hx5, h7, hb⟩
    · rw [uI_n e]; exact h4 b
  · have f : cn (fun b => Y 5 b = 1 ∧ X 7 b ≤ t) (X 0 0) = cn (fun b => V 5 b = 1 ∧ X 7 b ≤ t) (X 0 0) + 1 := by
      refine cn_flip a0 a1 ?_ ⟨a2, h7⟩ (fun i _ _ d => by rw [e5, uI_n d])
      rw [e5, uI_s]
      intro w
      exact back_ne w.1
    omega
/-- the lives: what ended so far -/
def PA2 (X Y : zS) (t : Int) : Prop := (∀ f, cmn f → f ≠ 5 → f ≠ 19 → Y f = X f) ∧ Y 19 0 = t ∧ (∀ i, i ≠ 0 → Y 19 i = X 19 i) ∧ (∀ b, ¬ (0 ≤ b ∧ b < X 0 0) → Y 5 b = X 5 b) ∧ (∀ b, 0 ≤ b → b < X 0 0 → Y 5 b = pa1 X t b ∨ (pa1 X t b = 0 ∧ 0 ≤ X 8 b ∧ X 8 b ≤ t ∧ Y 5 b = 2))
theorem PA1_end {X Y : zS} {t k : Int} (h : PA1 X Y t k) (hn : ∀ b, isOut Y b → t < Y 7 b) : PA2 X Y t ∧ k = cn (fun b => X 5 b = 1 ∧ X 7 b ≤ t) (X 0 0) := by
  obtain ⟨h1, h2, h3, h4, h5⟩ := h
  have e0 : Y 0 = X 0 := h1 0 (by unfold cmn; decide) (by decide) (by decide)
  have e7 : Y 7 = X 7 := h1 7 (by unfold cmn; decide) (by decide) (by decide)
  refine ⟨⟨h1, h2, h3, fun b hb => ?_, fun b b0 b1 => Or.inl ?_⟩, ?_⟩
  · rcases h4 b with w | ⟨w0, w1, _⟩
    · exact w
    · exact absurd ⟨w0, w1⟩ hb
  · rcases h4 b with w | ⟨_, _, w2, w3, w⟩
    · unfold pa1
      rw [if_neg]
      · exact w
      · intro v
        have := hn b ⟨b0, by rw [e0]; exact b1, by rw [w]; exact v.1⟩
        rw [e7] at this
        have := v.2
        omega
    · rw [w]
      unfold pa1
      rw [if_pos ⟨w2, w3⟩]
  · have z : cn (fun b => Y 5 b = 1 ∧ X 7 b ≤ t) (X 0 0) = 0 := cn_zero (fun b b0 b1 w => by
      have := hn b ⟨b0, by rw [e0]; exact b1, w.1⟩
      rw [e7] at this
      have := w.2
      omega)
    omega
theorem PA2_same {X Y V : zS} {t : Int} (h : PA2 X Y t) (ek : ∀ f, cmn f → V f = Y f) : PA2 X V t := by
  obtain ⟨h1, h2, h3, h4, h5⟩ := h
  have e5 := ek 5 (by unfold cmn; decide)
  have e19 := ek 19 (by unfold cmn; decide)
  exact ⟨fun f f1 f2 f3 => by rw [ek f f1]; exact h1 f f1 f2 f3, by rw [e19]; exact h2, fun i hi => by rw [e19]; exact h3 i hi, fun b hb => by rw [e5]; exact h4 b hb, fun b b0 b1 => by rw [e5]; exact h5 b b0 b1⟩
theorem PA2_step {X Y V : zS} {t a : Int} (h : PA2 X Y t) (a0 : 0 ≤ a) (a1 : a < X 0 0) (ha : Y 5 a = 0) (h8 : 0 ≤ X 8 a ∧ X 8 a ≤ t) (e5 : V 5 = uI (Y 5) a 2) (ek : ∀ f, cmn f → f ≠ 5 → V f = Y f) : PA2 X V t := by
  obtain ⟨h1, h2, h3, h4, h5⟩ := h
  have e19 := ek 19 (by unfold cmn; decide) (by decide)
  refine ⟨fun f f1 f2 f3 => by rw [ek f f1 f2]; exact h1 f f1 f2 f3, by rw [e19]; exact h2, fun i hi => by rw [e19]; exact h3 i hi, fun b hb => ?_, fun b b0 b1 => ?_⟩
  · rw [e5, uI_n (fun w => hb (by rw [w]; exact ⟨a0, a1⟩))]
    exact h4 b hb
  · rw [e5]
    by_cases e : b = a
    · subst e
      rw [uI_s]
      rcases h5 b b0 b1 with w | ⟨w, _⟩
      · exact Or.inr ⟨by rw [← w]; exact ha, h8.1, h8.2, rfl⟩
      · exact Or.inr ⟨w, h8.1, h8.2, rfl⟩
    · rw [uI_n e]; exact h5 b b0 b1
theorem PA2_end {X Y : zS} {n : Int} (h : PA2 X Y (X 19 0 + n)) (hn : ∀ b, 0 ≤ b → b < X 0 0 → Y 5 b = 0 → 0 ≤ X 8 b → X 19 0 + n < X 8 b) : EQ Y (paS X n) := by
  obtain ⟨h1, h2, h3, h4, h5⟩ := h
  intro k hk i
  unfold paS
  by_cases g : k = 19 ∧ i = 0
  · rw [if_pos g, g.1, g.2]; exact h2
  · rw [if_neg g]
    by_cases g2 : k = 5 ∧ 0 ≤ i ∧ i < X 0 0
    · rw [if_pos g2, g2.1]
      rcases h5 i g2.2.1 g2.2.2 with w | ⟨w, w1, w2, w3⟩
      · rw [w]
        unfold pa2
        rw [if_neg]
        intro v
        have := hn i g2.2.1 g2.2.2 (by rw [w]; exact v.1) v.2.1
        have := v.2.2
        omega
      · rw [w3]
        unfold pa2
        rw [if_pos ⟨w, w1, w2⟩]
    · rw [if_neg g2]
      by_cases e5 : k = 5
      · subst e5
        exact h4 i (fun w => g2 ⟨rfl, w⟩)
      · by_cases e19 : k = 19
        · subst e19
          exact h3 i (fun w => g ⟨rfl, w⟩)
        · rw [h1 k hk e5 e19]
theorem LV_pop {Y V : zS} {L : Int → Prop} {ps1 : Int → Int} {m : Int} (l3 : ∀ b, L b → 0 ≤ b ∧ b < Y 0 0 ∧ 0 ≤ Y 8 b) (l4 : ∀ b, 0 ≤ b → b < Y 0 0 → Y 5 b = 0 → 0 ≤ Y 8 b → L b) (hB : Bij (V 18) ps1 (V 17 0) (fun b => L b ∧ b ≠ m)) (hH : Hp (V 18) (V 17 0) (bl (Y 8))) (e8 : V 8 = Y 8) (e0 : V 0 = Y 0) (h5 : ∀ b, V 5 b = 0 → Y 5 b = 0 ∧ b ≠ m) : LV V := by
  refine ⟨_, ps1, hB, by rw [e8]; exact hH, fun b w => by rw [e0, e8]; exact l3 b w.1, fun b b0 b1 b2 b3 => ?_⟩
  rw [e0] at b1
  rw [e8] at b3
  exact ⟨l4 b b0 b1 (h5 b b2).1 b3, (h5 b b2).2⟩
/-- the life that ends first -/
theorem LV_min {Y : zS} {L : Int → Prop} {ps : Int → Int} (h1 : Bij (Y 18) ps (Y 17 0) L) (h2 : Hp (Y 18) (Y 17 0) (bl (Y 8))) {b : Int} (hb : L b) : Y 8 (Y 18 0) ≤ Y 8 b := by
  obtain ⟨p0, p1, p2⟩ := h1.2.2 b hb
  have := heap_root (bl_ord (Y 8)) h2 (bl_irr (Y 8)) (ps b) p0 p1
  rw [p2] at this
  unfold bl at this
  omega
end
section
set_option maxHeartbeats 4000000 in
set_option maxRecDepth 100000 in
theorem metX0_renew (l : Launch) (D : va_G) (dA : ClassId) (A : Nat → Prop) (ad : Nat → Nat) (X : zS) (q a : Int) (N : Int) (hC : BC N X) (hN : N ≤ 64) (hI : IC X) (hq : -2147483648 ≤ q ∧ q ≤ 2147483647) (ha : -2147483648 ≤ a ∧ a ≤ 2147483647) : cMi l yX0_renew cX0_renew 3 (some .int) 1 23 D dA A ad [.ref (ad 0), .int (iI q), .int (iI a)] X (fun z X1 => IC X1 ∧ spRen q a X z X1) := by
  refine g_start_i (by decide) ?_
  intro p e s m below meth c Z hr hlocks h
  have Z : gC RX0 D dA p s m ([.ref (ad 0), .int (iI q), .int (iI a)] : List Value).toArray c cX0_renew 3 := Z
  have hl := lv_entry ([.ref (ad 0), .int (iI q), .int (iI a)]) (n := 3) (Nat.le_of_ble_eq_true rfl)
  rw [lg_entry_eq]
  generalize (lg_sl ([.ref (ad 0), .int (iI q), .int (iI a)]) ++ List.replicate (3 - (lg_sl ([.ref (ad 0), .int (iI q), .int (iI a)])).length) Slot.unset).toArray = ls at hl ⊢
  have hl : lv_has ls 3 [(0, .ref (ad 0)), (1, .int (iI (q))), (2, .int (iI (a)))] := hl
  obtain ⟨b0, b1, b3, b4, b5, b6, b7, b8, b12, b13, b19⟩ := hC
  obtain ⟨hX, hQ, hL, hO⟩ := id hI
  refine lv_iload_n Z.1 Z.2.1 dX0_renew_0 rfl (lv_at hl 1 rfl) ?_
  refine g_calls (As := [.int (iI (q))]) (rest := []) Z h (metX0_badConsumer l D dA A ad X q (by omega)) (va_cwS 1 Z.2.2.2.2.1 (lw_S q132 q133 q22 q134) rfl rfl rfl (by decide +kernel) ⟨Nat.le_of_ble_eq_true rfl, Nat.le_of_ble_eq_true rfl⟩) rfl hl.1 rfl (Nat.le_of_ble_eq_true rfl) ⟨Nat.zero_le _, Nat.zero_le _⟩ dX0_renew_1 (fun z1 X1 H locs hp1 h => ?_)
  obtain ⟨ec9, hz1⟩ := hp1
  rw [ec9] at h
  refine b_ifeq (tgt := 10) Z hz1 dX0_renew_4 (by decide) (fun c4 => ?_) (fun c4 => ?_)
  · refine lv_aload_n Z.1 Z.2.1 dX0_renew_10 rfl (lv_at hl 0 rfl) ?_
    refine lv_iload_n Z.1 Z.2.1 dX0_renew_11 rfl (lv_at hl 1 rfl) ?_
    refine lv_iload_n Z.1 Z.2.1 dX0_renew_12 rfl (lv_at hl 2 rfl) ?_
    refine g_calli (As := [.int (iI (q)), .int (iI (a))]) (rest := []) (q := (RX0, TX0, 21)) (ci := 0) Z h (metX0_notOut l D dA A ad X q a hX b0 (by omega) (by omega)) (cwV 2 Z.2.2.2.2.1 (lw_V q151 q153 qs9 q22 q154) rfl rfl rfl (by decide +kernel) ⟨Nat.le_of_ble_eq_true rfl, Nat.le_of_ble_eq_true rfl⟩) rfl rfl rfl hl.1 rfl (Nat.le_of_ble_eq_true rfl) ⟨Nat.zero_le _, Nat.zero_le _⟩ dX0_renew_13 (fun z13 X13 H locs hp13 h => ?_)
    obtain ⟨ec9, hz13⟩ := hp13
    rw [ec9] at h
    refine b_ifeq (tgt := 22) Z hz13 dX0_renew_16 (by decide) (fun c16 => ?_) (fun c16 => ?_)
    · have hd : held X q a := Classical.not_not.mp c16
      have hq3 : 0 ≤ q ∧ q < 3 := Classical.not_not.mp c4
      have hd2 : 0 ≤ a ∧ a < X 0 0 ∧ X 5 a = 1 ∧ X 6 a = q := hd
      have ha : isOut X a := ⟨hd2.1, hd2.2.1, hd2.2.2.1⟩
      obtain ⟨p0, p00, p01, p02, p03⟩ := OL_at hO.1 ha
      have h6 := OU_six hO b0.1 b6
      have c1 := b1 a
      have c12 := b12 (X 1 a)
      refine lv_aload_n Z.1 Z.2.1 dX0_renew_22 rfl (lv_at hl 0 rfl) ?_
      refine lv_iload_n Z.1 Z.2.1 dX0_renew_23 rfl (lv_at hl 2 rfl) ?_
      refine g_callv (As := [.int (iI (a))]) (rest := []) (q := (RX0, TX0, 21)) (ci := 0) Z h (metX0_dropOut l D dA A ad X a p0 hX (by omega) p00 p01 p02 p03) (cwV 1 Z.2.2.2.2.1 (lw_V q155 q157 qs10 q22 q158) rfl rfl rfl (by decide +kernel) ⟨Nat.le_of_ble_eq_true rfl, Nat.le_of_ble_eq_true rfl⟩) rfl rfl rfl hl.1 rfl (Nat.le_of_ble_eq_true rfl) ⟨Nat.zero_le _, Nat.zero_le _⟩ dX0_renew_24 (fun X24 H locs hp24 h => ?_)
      obtain ⟨hX, f1, f2, f3⟩ := hp24
      have g0 : X24 0 = X 0 := f1 0 (by decide) (by decide)
      have g1 : X24 1 = X 1 := f1 1 (by decide) (by decide)
      have g3 : X24 3 = X 3 := f1 3 (by decide) (by decide)
      have g5 : X24 5 = X 5 := f1 5 (by decide) (by decide)
      have g6 : X24 6 = X 6 := f1 6 (by decide) (by decide)
      have g7 : X24 7 = X 7 := f1 7 (by decide) (by decide)
      have g8 : X24 8 = X 8 := f1 8 (by decide) (by decide)
      have g9 : X24 9 = X 9 := f1 9 (by decide) (by decide)
      have g10 : X24 10 = X 10 := f1 10 (by decide) (by decide)
      have g11 : X24 11 = X 11 := f1 11 (by decide) (by decide)
      have g12 : X24 12 = X 12 := f1 12 (by decide) (by decide)
      have g16 : X24 16 = X 16 := f1 16 (by decide) (by decide)
      have g17 : X24 17 = X 17 := f1 17 (by decide) (by decide)
      have g18 : X24 18 = X 18 := f1 18 (by decide) (by decide)
      have g19 : X24 19 = X 19 := f1 19 (by decide) (by decide)
      rw [← g1] at c1 c12
      rw [← g12] at c12
      have c19 := b19
      rw [← g19] at c19
      refine lv_aload_n Z.1 Z.2.1 dX0_renew_27 rfl (lv_at hl 0 rfl) ?_
      refine c_get Z h 7 (by decide) q39 rfl dX0_renew_28 ?_
      refine lv_iload_n Z.1 Z.2.1 dX0_renew_31 rfl (lv_at hl 2 rfl) ?_
      refine lv_aload_n Z.1 Z.2.1 dX0_renew_32 rfl (lv_at hl 0 rfl) ?_
      refine c_getI Z h 19 (by decide) q51 rfl (v := X24 19 (0)) rfl dX0_renew_33 ?_
      have o1 := hX 19 (0)
      refine lv_aload_n Z.1 Z.2.1 dX0_renew_36 rfl (lv_at hl 0 rfl) ?_
      refine c_get Z h 12 (by decide) q44 rfl dX0_renew_37 ?_
      refine lv_aload_n Z.1 Z.2.1 dX0_renew_40 rfl (lv_at hl 0 rfl) ?_
      refine c_get Z h 1 (by decide) q33 rfl dX0_renew_41 ?_
      refine lv_iload_n Z.1 Z.2.1 dX0_renew_44 rfl (lv_at hl 2 rfl) ?_
      refine g_ald Z h (c_at_1 dA ad) (by decide) (v := X24 1 (a)) (by omega) rfl dX0_renew_45 ?_
      have o2 := hX 1 (a)
      refine g_ald Z h (c_at_12 dA ad) (by decide) (v := X24 12 (X24 1 (a))) (by omega) rfl dX0_renew_46 ?_
      have o3 := hX 12 (X24 1 (a))
      refine i_add Z dX0_renew_47 ?_
      refine g_ast Z h (c_at_7 dA ad) (c_set_7 dA ad) (by decide) (i := a) (v := (X24 19 (0)) + (X24 12 (X24 1 (a)))) (by omega) dX0_renew_48 (fun H locs h => ?_)
      have hX := okX_set hX 7 (a) ((X24 19 (0)) + (X24 12 (X24 1 (a)))) (by omega)
      refine lv_aload_n Z.1 Z.2.1 dX0_renew_49 rfl (lv_at hl 0 rfl) ?_
      refine lv_iload_n Z.1 Z.2.1 dX0_renew_50 rfl (lv_at hl 2 rfl) ?_
      have fP14 : (sU X24 7 (a) ((X24 19 (0)) + (X24 12 (X24 1 (a))))) 14 0 = X 14 0 - 1 := by rw [sU_k (by decide)]; exact f2
      have fP7 : (sU X24 7 (a) ((X24 19 (0)) + (X24 12 (X24 1 (a))))) 7 = uI (X 7) a (X 19 0 + X 12 (X 1 a)) := by rw [sU_u, g7, g19, g12, g1]
      have hOLp : OL (sU X24 7 (a) ((X24 19 (0)) + (X24 12 (X24 1 (a))))) (fun b => isOut X b ∧ b ≠ a) := OL_drop hO.1 p00 p01 p02 fP14 (fun j j0 j1 => by rw [sU_k (by decide)]; exact f3 j j0 j1) (fun b _ hne => by rw [fP7, uI_n hne])
      refine g_callv (As := [.int (iI (a))]) (rest := []) (q := (RX0, TX0, 21)) (ci := 0) Z h (metX0_addOut l D dA A ad (sU X24 7 (a) ((X24 19 (0)) + (X24 12 (X24 1 (a))))) a hX (by rw [fP14]; omega) (by omega) (OL_b hOLp (fun b w => by have := w.1.1; have := w.1.2.1; omega))) (cwV 1 Z.2.2.2.2.1 (lw_V q143 q145 qs8 q22 q146) rfl rfl rfl (by decide +kernel) ⟨Nat.le_of_ble_eq_true rfl, Nat.le_of_ble_eq_true rfl⟩) rfl rfl rfl hl.1 rfl (Nat.le_of_ble_eq_true rfl) ⟨Nat.zero_le _, Nat.zero_le _⟩ dX0_renew_51 (fun X51 H locs hp51 h => ?_)
      obtain ⟨hX, a1, a2, p, q0, q1, hlo, hhi, a3⟩ := hp51
      refine lv_aload_n Z.1 Z.2.1 dX0_renew_54 rfl (lv_at hl 0 rfl) ?_
      refine c_get Z h 7 (by decide) q39 rfl dX0_renew_55 ?_
      refine lv_iload_n Z.1 Z.2.1 dX0_renew_58 rfl (lv_at hl 2 rfl) ?_
      refine g_ald Z h (c_at_7 dA ad) (by decide) (v := X51 7 (a)) (by omega) rfl dX0_renew_59 ?_
      have o4 := hX 7 (a)
      have s : ∀ k, k ≠ 7 → k ≠ 14 → k ≠ 15 → X51 k = X k := fun k k1 k2 k3 => by rw [a1 k k2 k3, sU_k k1, f1 k k2 k3]
      have s7 : X51 7 = uI (X 7) a (X 19 0 + X 12 (X 1 a)) := by rw [a1 7 (by decide) (by decide), fP7]
      have hOU := OU_renew hO ha p00 p01 p02 fP14 (fun j j0 j1 => by rw [sU_k (by decide)]; exact f3 j j0 j1) fP7 q0 q1 hlo hhi a2 a3 (a1 7 (by decide) (by decide)) (s 0 (by decide) (by decide) (by decide)) (s 5 (by decide) (by decide) (by decide)) (s 6 (by decide) (by decide) (by decide)) (s 16 (by decide) (by decide) (by decide))
      have hE : EQ X51 (sU X 7 a (X 19 0 + X 12 (X 1 a))) := by
        intro k hk i
        have w := cmn_ne hk
        by_cases e : k = 7
        · subst e; rw [s7, sU_u]
        · rw [s k e w.2.2.2.1 w.2.2.2.2.1, sU_k e]
      exact g_ireturn Z hr hlocks h rfl (⟨⟨hX, HQ_congr1 hQ (fun k hk => s k (by omega) (by omega) (by omega)), LV_congr hL (by rw [s 17 (by decide) (by decide) (by decide)]) (s 18 (by decide) (by decide) (by decide)) (s 8 (by decide) (by decide) (by decide)) (by rw [s 0 (by decide) (by decide) (by decide)]) (fun b _ _ w => by rw [s 5 (by decide) (by decide) (by decide)] at w; exact w), hOU⟩, Or.inr (Or.inr ⟨hq3, hd, by rw [s7, uI_s], hE⟩)⟩) dX0_renew_60
    · refine i_bipush Z dX0_renew_19 (by decide) ?_
      exact g_ireturn Z hr hlocks h rfl (⟨hI, Or.inr (Or.inl ⟨Classical.not_not.mp c4, c16, rfl, EQ.rf X⟩)⟩) dX0_renew_21
  · refine i_bipush Z dX0_renew_7 (by decide) ?_
    exact g_ireturn Z hr hlocks h rfl (⟨hI, Or.inl ⟨c4, rfl, EQ.rf X⟩⟩) dX0_renew_9
set_option maxHeartbeats 4000000 in
set_option maxRecDepth 100000 in
theorem metX0_take (l : Launch) (D : va_G) (dA : ClassId) (A : Nat → Prop) (ad : Nat → Nat) (X : zS) (q c0 : Int) (N : Int) (hC : BC N X) (hN : N ≤ 64) (hI : IC X) (hq : -2147483648 ≤ q ∧ q ≤ 2147483647) (hc : -2147483648 ≤ c0 ∧ c0 ≤ 2147483647) : cMi l yX0_take cX0_take 4 (some .int) 3 72 D dA A ad [.ref (ad 0), .int (iI q), .int (iI c0)] X (fun z X1 => IC X1 ∧ spTake q c0 X z X1) := by
  refine g_start_i (by decide) ?_
  intro p e s m below meth c Z hr hlocks h
  have Z : gC RX0 D dA p s m ([.ref (ad 0), .int (iI q), .int (iI c0)] : List Value).toArray c cX0_take 4 := Z
  have hl := lv_entry ([.ref (ad 0), .int (iI q), .int (iI c0)]) (n := 4) (Nat.le_of_ble_eq_true rfl)
  rw [lg_entry_eq]
  generalize (lg_sl ([.ref (ad 0), .int (iI q), .int (iI c0)]) ++ List.replicate (4 - (lg_sl ([.ref (ad 0), .int (iI q), .int (iI c0)])).length) Slot.unset).toArray = ls at hl ⊢
  have hl : lv_has ls 4 [(0, .ref (ad 0)), (1, .int (iI (q))), (2, .int (iI (c0)))] := hl
  obtain ⟨b0, b1, b3, b4, b5, b6, b7, b8, b12, b13, b19⟩ := hC
  obtain ⟨hX, hQ, hL, hO⟩ := id hI
  refine lv_iload_n Z.1 Z.2.1 dX0_take_0 rfl (lv_at hl 1 rfl) ?_
  refine g_calls (As := [.int (iI (q))]) (rest := []) Z h (metX0_badQueue l D dA A ad X q (by omega)) (va_cwS 1 Z.2.2.2.2.1 (lw_S q101 q102 q22 q103) rfl rfl rfl (by decide +kernel) ⟨Nat.le_of_ble_eq_true rfl, Nat.le_of_ble_eq_true rfl⟩) rfl hl.1 rfl (Nat.le_of_ble_eq_true rfl) ⟨Nat.zero_le _, Nat.zero_le _⟩ dX0_take_1 (fun z1 X1 H locs hp1 h => ?_)
  obtain ⟨ec9, hz1⟩ := hp1
  rw [ec9] at h
  refine b_ifeq (tgt := 9) Z hz1 dX0_take_4 (by decide) (fun c4 => ?_) (fun c4 => ?_)
  · refine lv_iload_n Z.1 Z.2.1 dX0_take_9 rfl (lv_at hl 2 rfl) ?_
    refine g_calls (As := [.int (iI (c0))]) (rest := []) Z h (metX0_badConsumer l D dA A ad X c0 (by omega)) (va_cwS 1 Z.2.2.2.2.1 (lw_S q132 q133 q22 q134) rfl rfl rfl (by decide +kernel) ⟨Nat.le_of_ble_eq_true rfl, Nat.le_of_ble_eq_true rfl⟩) rfl hl.1 rfl (Nat.le_of_ble_eq_true rfl) ⟨Nat.zero_le _, Nat.zero_le _⟩ dX0_take_10 (fun z10 X10 H locs hp10 h => ?_)
    obtain ⟨ec9, hz10⟩ := hp10
    rw [ec9] at h
    refine b_ifeq (tgt := 19) Z hz10 dX0_take_13 (by decide) (fun c13 => ?_) (fun c13 => ?_)
    · have hq3 : 0 ≤ q ∧ q < 3 := Classical.not_not.mp c4
      have hc3 : 0 ≤ c0 ∧ c0 < 3 := Classical.not_not.mp c13
      have hold := hO.2 c0 (by omega) (by omega)
      have hold0 := outN_rng (X := X) (c := c0) b0.1
      rw [← hold.1] at hold0
      refine lv_aload_n Z.1 Z.2.1 dX0_take_19 rfl (lv_at hl 0 rfl) ?_
      refine c_get Z h 16 (by decide) q48 rfl dX0_take_20 ?_
      refine lv_iload_n Z.1 Z.2.1 dX0_take_23 rfl (lv_at hl 2 rfl) ?_
      refine g_ald Z h (c_at_16 dA ad) (by decide) (v := X 16 (c0)) (by omega) rfl dX0_take_24 ?_
      have o1 := hX 16 (c0)
      refine i_const Z dX0_take_25 ?_
      refine i_icmp_lt (tgt := 32) Z (by omega) dX0_take_26 (by decide) (fun c26 => ?_) (fun c26 => ?_)
      · refine lv_aload_n Z.1 Z.2.1 dX0_take_32 rfl (lv_at hl 0 rfl) ?_
        refine c_get Z h 9 (by decide) q41 rfl dX0_take_33 ?_
        refine lv_iload_n Z.1 Z.2.1 dX0_take_36 rfl (lv_at hl 1 rfl) ?_
        refine g_ald Z h (c_at_9 dA ad) (by decide) (v := X 9 (q)) (by omega) rfl dX0_take_37 ?_
        have o2 := hX 9 (q)
        refine i_if_ne (tgt := 44) Z (by omega) dX0_take_38 (by decide) (fun c38 => ?_) (fun c38 => ?_)
        · have hfr := root_first hQ (by omega) (by omega) c38
          have hm0 := hfr.1.1
          have hm1 := hfr.1.2.1
          have hm5 : X 5 (X 10 (q * 40)) = 0 := hfr.1.2.2.2
          have hmq : X 1 (X 10 (q * 40)) = q := hfr.1.2.2.1
          obtain ⟨a, hae⟩ : ∃ a, a = X 10 (q * 40) := ⟨_, rfl⟩
          rw [← hae] at hfr hm0 hm1 hm5 hmq
          have c4a := b4 a
          have c12q := b12 q
          have h6 := OU_six hO b0.1 b6
          have hsum : X 14 0 < 6 := by
            have w0 := hO.2 0 (by omega) (by omega)
            have w1 := hO.2 1 (by omega) (by omega)
            have w2 := hO.2 2 (by omega) (by omega)
            rcases (show c0 = 0 ∨ c0 = 1 ∨ c0 = 2 by omega) with e | e | e <;> rw [e] at c26 <;> omega
          refine lv_aload_n Z.1 Z.2.1 dX0_take_44 rfl (lv_at hl 0 rfl) ?_
          refine c_get Z h 10 (by decide) q42 rfl dX0_take_45 ?_
          refine lv_iload_n Z.1 Z.2.1 dX0_take_48 rfl (lv_at hl 1 rfl) ?_
          refine i_bipush Z dX0_take_49 (by decide) ?_
          refine i_mul Z dX0_take_51 ?_
          refine g_ald Z h (c_at_10 dA ad) (by decide) (v := X 10 (q * 40)) (by omega) rfl dX0_take_52 ?_
          have o3 := hX 10 (q * 40)
          rw [← hae]
          refine lv_istore_n (lv' := [(3, .int (iI (a))), (0, .ref (ad 0)), (1, .int (iI (q))), (2, .int (iI (c0)))]) Z.1 Z.2.1 dX0_take_53 rfl hl (by decide) rfl (fun ls hl => ?_)
          refine lv_aload_n Z.1 Z.2.1 dX0_take_54 rfl (lv_at hl 1 rfl) ?_
          refine lv_iload_n Z.1 Z.2.1 dX0_take_55 rfl (lv_at hl 0 rfl) ?_
          refine g_callv (As := [.int (iI (a))]) (rest := []) (q := (RX0, TX0, 21)) (ci := 0) Z h (metX0_takeOut l D dA A ad X a hX b0 (b1 a) hQ (by rw [hmq]; exact hfr.1)) (cwV 1 Z.2.2.2.2.1 (lw_V q135 q137 qs6 q22 q138) rfl rfl rfl (by decide +kernel) ⟨Nat.le_of_ble_eq_true rfl, Nat.le_of_ble_eq_true rfl⟩) rfl rfl rfl hl.1 rfl (Nat.le_of_ble_eq_true rfl) ⟨Nat.zero_le _, Nat.zero_le _⟩ dX0_take_56 (fun X56 H locs hp56 h => ?_)
          obtain ⟨hX, f1, hQm⟩ := hp56
          have g0 : X56 0 = X 0 := f1 0 (by decide) (by decide) (by decide)
          have g1 : X56 1 = X 1 := f1 1 (by decide) (by decide) (by decide)
          have g3 : X56 3 = X 3 := f1 3 (by decide) (by decide) (by decide)
          have g4 : X56 4 = X 4 := f1 4 (by decide) (by decide) (by decide)
          have g5 : X56 5 = X 5 := f1 5 (by decide) (by decide) (by decide)
          have g6 : X56 6 = X 6 := f1 6 (by decide) (by decide) (by decide)
          have g7 : X56 7 = X 7 := f1 7 (by decide) (by decide) (by decide)
          have g8 : X56 8 = X 8 := f1 8 (by decide) (by decide) (by decide)
          have g12 : X56 12 = X 12 := f1 12 (by decide) (by decide) (by decide)
          have g14 : X56 14 = X 14 := f1 14 (by decide) (by decide) (by decide)
          have g15 : X56 15 = X 15 := f1 15 (by decide) (by decide) (by decide)
          have g16 : X56 16 = X 16 := f1 16 (by decide) (by decide) (by decide)
          have g17 : X56 17 = X 17 := f1 17 (by decide) (by decide) (by decide)
          have g18 : X56 18 = X 18 := f1 18 (by decide) (by decide) (by decide)
          have g19 : X56 19 = X 19 := f1 19 (by decide) (by decide) (by decide)
          rw [← g4] at c4a
          rw [← g12] at c12q
          have c19 := b19
          rw [← g19] at c19
          rw [← g16] at hold0
          refine lv_aload_n Z.1 Z.2.1 dX0_take_59 rfl (lv_at hl 1 rfl) ?_
          refine c_get Z h 5 (by decide) q37 rfl dX0_take_60 ?_
          refine lv_iload_n Z.1 Z.2.1 dX0_take_63 rfl (lv_at hl 0 rfl) ?_
          refine i_const Z dX0_take_64 ?_
          refine g_ast Z h (c_at_5 dA ad) (c_set_5 dA ad) (by decide) (i := a) (v := 1) (by omega) dX0_take_65 (fun H locs h => ?_)
          have hX := okX_set hX 5 (a) (1) (by omega)
          refine lv_aload_n Z.1 Z.2.1 dX0_take_66 rfl (lv_at hl 1 rfl) ?_
          refine c_get Z h 4 (by decide) q36 rfl dX0_take_67 ?_
          refine lv_iload_n Z.1 Z.2.1 dX0_take_70 rfl (lv_at hl 0 rfl) ?_
          refine i_dup2 Z dX0_take_71 rfl rfl ?_
          refine g_ald Z h (c_at_4 dA ad) (by decide) (v := X56 4 (a)) (by omega) (by simp [sU]) dX0_take_72 ?_
          have o4 := hX 4 (a)
          rw [show (sU X56 5 (a) (1)) 4 (a) = X56 4 (a) from by simp [sU]] at o4
          refine i_const Z dX0_take_73 ?_
          refine i_add Z dX0_take_74 ?_
          refine g_ast Z h (c_at_4 dA ad) (c_set_4 dA ad) (by decide) (i := a) (v := (X56 4 (a)) + 1) (by omega) dX0_take_75 (fun H locs h => ?_)
          have hX := okX_set hX 4 (a) ((X56 4 (a)) + 1) (by omega)
          refine lv_aload_n Z.1 Z.2.1 dX0_take_76 rfl (lv_at hl 1 rfl) ?_
          refine c_get Z h 6 (by decide) q38 rfl dX0_take_77 ?_
          refine lv_iload_n Z.1 Z.2.1 dX0_take_80 rfl (lv_at hl 0 rfl) ?_
          refine lv_iload_n Z.1 Z.2.1 dX0_take_81 rfl (lv_at hl 3 rfl) ?_
          refine g_ast Z h (c_at_6 dA ad) (c_set_6 dA ad) (by decide) (i := a) (v := c0) (by omega) dX0_take_82 (fun H locs h => ?_)
          have hX := okX_set hX 6 (a) (c0) (by omega)
          refine lv_aload_n Z.1 Z.2.1 dX0_take_83 rfl (lv_at hl 1 rfl) ?_
          refine c_get Z h 16 (by decide) q48 rfl dX0_take_84 ?_
          refine lv_iload_n Z.1 Z.2.1 dX0_take_87 rfl (lv_at hl 3 rfl) ?_
          refine i_dup2 Z dX0_take_88 rfl rfl ?_
          refine g_ald Z h (c_at_16 dA ad) (by decide) (v := X56 16 (c0)) (by omega) (by simp [sU]) dX0_take_89 ?_
          have o5 := hX 16 (c0)
          rw [show (sU (sU (sU X56 5 (a) (1)) 4 (a) ((X56 4 (a)) + 1)) 6 (a) (c0)) 16 (c0) = X56 16 (c0) from by simp [sU]] at o5
          refine i_const Z dX0_take_90 ?_
          refine i_add Z dX0_take_91 ?_
          refine g_ast Z h (c_at_16 dA ad) (c_set_16 dA ad) (by decide) (i := c0) (v := (X56 16 (c0)) + 1) (by omega) dX0_take_92 (fun H locs h => ?_)
          have hX := okX_set hX 16 (c0) ((X56 16 (c0)) + 1) (by omega)
          refine lv_aload_n Z.1 Z.2.1 dX0_take_93 rfl (lv_at hl 1 rfl) ?_
          refine c_get Z h 7 (by decide) q39 rfl dX0_take_94 ?_
          refine lv_iload_n Z.1 Z.2.1 dX0_take_97 rfl (lv_at hl 0 rfl) ?_
          refine lv_aload_n Z.1 Z.2.1 dX0_take_98 rfl (lv_at hl 1 rfl) ?_
          refine c_getI Z h 19 (by decide) q51 rfl (v := X56 19 (0)) (by simp [sU]) dX0_take_99 ?_
          have o6 := hX 19 (0)
          rw [show (sU (sU (sU (sU X56 5 (a) (1)) 4 (a) ((X56 4 (a)) + 1)) 6 (a) (c0)) 16 (c0) ((X56 16 (c0)) + 1)) 19 (0) = X56 19 (0) from by simp [sU]] at o6
          refine lv_aload_n Z.1 Z.2.1 dX0_take_102 rfl (lv_at hl 1 rfl) ?_
          refine c_get Z h 12 (by decide) q44 rfl dX0_take_103 ?_
          refine lv_iload_n Z.1 Z.2.1 dX0_take_106 rfl (lv_at hl 2 rfl) ?_
          refine g_ald Z h (c_at_12 dA ad) (by decide) (v := X56 12 (q)) (by omega) (by simp [sU]) dX0_take_107 ?_
          have o7 := hX 12 (q)
          rw [show (sU (sU (sU (sU X56 5 (a) (1)) 4 (a) ((X56 4 (a)) + 1)) 6 (a) (c0)) 16 (c0) ((X56 16 (c0)) + 1)) 12 (q) = X56 12 (q) from by simp [sU]] at o7
          refine i_add Z dX0_take_108 ?_
          refine g_ast Z h (c_at_7 dA ad) (c_set_7 dA ad) (by decide) (i := a) (v := (X56 19 (0)) + (X56 12 (q))) (by omega) dX0_take_109 (fun H locs h => ?_)
          have hX := okX_set hX 7 (a) ((X56 19 (0)) + (X56 12 (q))) (by omega)
          refine lv_aload_n Z.1 Z.2.1 dX0_take_110 rfl (lv_at hl 1 rfl) ?_
          refine lv_iload_n Z.1 Z.2.1 dX0_take_111 rfl (lv_at hl 0 rfl) ?_
          obtain ⟨P, hP⟩ : ∃ P, P = (sU (sU (sU (sU (sU X56 5 (a) (1)) 4 (a) ((X56 4 (a)) + 1)) 6 (a) (c0)) 16 (c0) ((X56 16 (c0)) + 1)) 7 (a) ((X56 19 (0)) + (X56 12 (q)))) := ⟨_, rfl⟩
          rw [← hP] at h hX
          have fP : ∀ k, k ≠ 4 → k ≠ 5 → k ≠ 6 → k ≠ 7 → k ≠ 9 → k ≠ 10 → k ≠ 11 → k ≠ 16 → P k = X k := fun k k1 k2 k3 k4 k5 k6 k7 k8 => by rw [hP, sU_k k4, sU_k k8, sU_k k3, sU_k k1, sU_k k2, f1 k k5 k6 k7]
          have fP7 : P 7 = uI (X 7) a (X 19 0 + X 12 q) := by rw [hP, sU_u, sU_k (by decide), sU_k (by decide), sU_k (by decide), sU_k (by decide), g7, g19, g12]
          have fP5 : P 5 = uI (X 5) a 1 := by rw [hP, sU_k (by decide), sU_k (by decide), sU_k (by decide), sU_k (by decide), sU_u, g5]
          have fP4 : P 4 = uI (X 4) a (X 4 a + 1) := by rw [hP, sU_k (by decide), sU_k (by decide), sU_k (by decide), sU_u, sU_k (by decide), g4]
          have fP6 : P 6 = uI (X 6) a c0 := by rw [hP, sU_k (by decide), sU_k (by decide), sU_u, sU_k (by decide), sU_k (by decide), g6]
          have fP16 : P 16 = uI (X 16) c0 (X 16 c0 + 1) := by rw [hP, sU_k (by decide), sU_u, sU_k (by decide), sU_k (by decide), sU_k (by decide), g16]
          have fP14 : P 14 0 = X 14 0 := by rw [fP 14 (by decide) (by decide) (by decide) (by decide) (by decide) (by decide) (by decide) (by decide)]
          have fP15 : P 15 = X 15 := fP 15 (by decide) (by decide) (by decide) (by decide) (by decide) (by decide) (by decide) (by decide)
          have hQP : HQ P := by rw [hP]; exact HQ_congr1 (HQm.out hQm (v := 1) (by omega)) (fun k hk => by rw [sU_k (by omega), sU_k (by omega), sU_k (by omega), sU_k (by omega)])
          refine g_callv (As := [.int (iI (a))]) (rest := []) (q := (RX0, TX0, 21)) (ci := 0) Z h (metX0_addOut l D dA A ad P a hX (by rw [fP14]; omega) (by omega) (by rw [fP14, fP15]; exact OL_b hO.1 (fun b w => by have := w.1; have := w.2.1; omega))) (cwV 1 Z.2.2.2.2.1 (lw_V q143 q145 qs8 q22 q146) rfl rfl rfl (by decide +kernel) ⟨Nat.le_of_ble_eq_true rfl, Nat.le_of_ble_eq_true rfl⟩) rfl rfl rfl hl.1 rfl (Nat.le_of_ble_eq_true rfl) ⟨Nat.zero_le _, Nat.zero_le _⟩ dX0_take_112 (fun X112 H locs hp112 h => ?_)
          obtain ⟨hX, a1, a2, p, q0, q1, hlo, hhi, a3⟩ := hp112
          refine lv_iload_n Z.1 Z.2.1 dX0_take_115 rfl (lv_at hl 0 rfl) ?_
          have s : ∀ k, k ≠ 14 → k ≠ 15 → X112 k = P k := a1
          have hOU := OU_take (d := X 19 0 + X 12 q) hO ⟨hm0, hm1⟩ hm5 (by omega) fP14 fP15 fP7 q0 q1 hlo hhi a2 a3 (s 7 (by decide) (by decide)) (by rw [s 0 (by decide) (by decide), fP 0 (by decide) (by decide) (by decide) (by decide) (by decide) (by decide) (by decide) (by decide)]) (by rw [s 5 (by decide) (by decide), fP5]) (by rw [s 6 (by decide) (by decide), fP6]) (by rw [s 16 (by decide) (by decide), fP16])
          have hE : EQ X112 (tkS X q c0 a) := by
            intro k hk i
            have w := cmn_ne hk
            rw [s k w.2.2.2.1 w.2.2.2.2.1]
            unfold tkS
            by_cases e7 : k = 7
            · subst e7; rw [fP7, sU_u, sU_k (by decide), sU_k (by decide), sU_k (by decide)]
            · rw [sU_k e7]
              by_cases e6 : k = 6
              · subst e6; rw [fP6, sU_u, sU_k (by decide), sU_k (by decide)]
              · rw [sU_k e6]
                by_cases e4 : k = 4
                · subst e4; rw [fP4, sU_u, sU_k (by decide)]
                · rw [sU_k e4]
                  by_cases e5 : k = 5
                  · subst e5; rw [fP5, sU_u]
                  · rw [sU_k e5, fP k e4 e5 e6 e7 w.1 w.2.1 w.2.2.1 w.2.2.2.2.2.1]
          have hLV : LV X112 := LV_congr hL (by rw [s 17 (by decide) (by decide), fP 17 (by decide) (by decide) (by decide) (by decide) (by decide) (by decide) (by decide) (by decide)]) (by rw [s 18 (by decide) (by decide), fP 18 (by decide) (by decide) (by decide) (by decide) (by decide) (by decide) (by decide) (by decide)]) (by rw [s 8 (by decide) (by decide), fP 8 (by decide) (by decide) (by decide) (by decide) (by decide) (by decide) (by decide) (by decide)]) (by rw [s 0 (by decide) (by decide), fP 0 (by decide) (by decide) (by decide) (by decide) (by decide) (by decide) (by decide) (by decide)]) (fun b _ _ w => by
              rw [s 5 (by decide) (by decide), fP5] at w
              by_cases e : b = a
              · rw [e, uI_s] at w; omega
              · rw [uI_n e] at w; exact w)
          exact g_ireturn Z hr hlocks h rfl (⟨⟨hX, HQ_congr1 hQP (fun k hk => s k (by omega) (by omega)), hLV, hOU⟩, Or.inr (Or.inr (Or.inr (Or.inr ⟨hq3, hc3, by rw [← hold.1]; omega, hfr, hE⟩)))⟩) dX0_take_116
        · refine i_bipush Z dX0_take_41 (by decide) ?_
          exact g_ireturn Z hr hlocks h rfl (⟨hI, Or.inr (Or.inr (Or.inr (Or.inl ⟨hq3, hc3, by rw [← hold.1]; omega, none_ready hQ (by omega) (by omega) c38, rfl, EQ.rf X⟩)))⟩) dX0_take_43
      · refine i_bipush Z dX0_take_29 (by decide) ?_
        exact g_ireturn Z hr hlocks h rfl (⟨hI, Or.inr (Or.inr (Or.inl ⟨hq3, hc3, by rw [← hold.1]; omega, rfl, EQ.rf X⟩))⟩) dX0_take_31
    · refine i_bipush Z dX0_take_16 (by decide) ?_
      exact g_ireturn Z hr hlocks h rfl (⟨hI, Or.inr (Or.inl ⟨Classical.not_not.mp c4, c13, rfl, EQ.rf X⟩)⟩) dX0_take_18
  · refine i_const Z dX0_take_7 ?_
    exact g_ireturn Z hr hlocks h rfl (⟨hI, Or.inl ⟨c4, rfl, EQ.rf X⟩⟩) dX0_take_8
set_option maxHeartbeats 4000000 in
set_option maxRecDepth 100000 in
theorem metX0_publish (l : Launch) (D : va_G) (dA : ClassId) (A : Nat → Prop) (ad : Nat → Nat) (X : zS) (q b pr lf : Int) (N : Int) (hC : BC N X) (hN : N ≤ 64) (hI : IC X) (hq : -2147483648 ≤ q ∧ q ≤ 2147483647) (hb : -2147483648 ≤ b ∧ b ≤ 2147483647) (hpr : -2147483648 ≤ pr ∧ pr ≤ 2147483647) (hlf : -2147483648 ≤ lf ∧ lf ≤ 2147483647) : cMi l yX0_publish cX0_publish 6 (some .int) 3 69 D dA A ad [.ref (ad 0), .int (iI q), .int (iI b), .int (iI pr), .int (iI lf)] X (fun z X1 => IC X1 ∧ spPub q b pr lf X z X1) := by
  refine g_start_i (by decide) ?_
  intro p e s m below meth c Z hr hlocks h
  have Z : gC RX0 D dA p s m ([.ref (ad 0), .int (iI q), .int (iI b), .int (iI pr), .int (iI lf)] : List Value).toArray c cX0_publish 6 := Z
  have hl := lv_entry ([.ref (ad 0), .int (iI q), .int (iI b), .int (iI pr), .int (iI lf)]) (n := 6) (Nat.le_of_ble_eq_true rfl)
  rw [lg_entry_eq]
  generalize (lg_sl ([.ref (ad 0), .int (iI q), .int (iI b), .int (iI pr), .int (iI lf)]) ++ List.replicate (6 - (lg_sl ([.ref (ad 0), .int (iI q), .int (iI b), .int (iI pr), .int (iI lf)])).length) Slot.unset).toArray = ls at hl ⊢
  have hl : lv_has ls 6 [(0, .ref (ad 0)), (1, .int (iI (q))), (2, .int (iI (b))), (3, .int (iI (pr))), (4, .int (iI (lf)))] := hl
  obtain ⟨b0, b1, b3, b4, b5, b6, b7, b8, b12, b13, b19⟩ := hC
  obtain ⟨hX, hQ, hL, hO⟩ := id hI
  refine lv_iload_n Z.1 Z.2.1 dX0_publish_0 rfl (lv_at hl 1 rfl) ?_
  refine g_calls (As := [.int (iI (q))]) (rest := []) Z h (metX0_badQueue l D dA A ad X q (by omega)) (va_cwS 1 Z.2.2.2.2.1 (lw_S q101 q102 q22 q103) rfl rfl rfl (by decide +kernel) ⟨Nat.le_of_ble_eq_true rfl, Nat.le_of_ble_eq_true rfl⟩) rfl hl.1 rfl (Nat.le_of_ble_eq_true rfl) ⟨Nat.zero_le _, Nat.zero_le _⟩ dX0_publish_1 (fun z1 X1 H locs hp1 h => ?_)
  obtain ⟨ec9, hz1⟩ := hp1
  rw [ec9] at h
  refine b_ifeq (tgt := 9) Z hz1 dX0_publish_4 (by decide) (fun c4 => ?_) (fun c4 => ?_)
  · refine lv_iload_n Z.1 Z.2.1 dX0_publish_9 rfl (lv_at hl 3 rfl) ?_
    refine i_if_lt (tgt := 30) Z (by omega) dX0_publish_10 (by decide) (fun c10 => ?_) (fun c10 => ?_)
    · refine i_bipush Z dX0_publish_30 (by decide) ?_
      exact g_ireturn Z hr hlocks h rfl (⟨hI, Or.inr (Or.inl ⟨Classical.not_not.mp c4, by omega, rfl, EQ.rf X⟩)⟩) dX0_publish_32
    · refine lv_iload_n Z.1 Z.2.1 dX0_publish_13 rfl (lv_at hl 3 rfl) ?_
      refine i_const Z dX0_publish_14 ?_
      refine i_icmp_gt (tgt := 30) Z (by omega) dX0_publish_15 (by decide) (fun c15 => ?_) (fun c15 => ?_)
      · refine i_bipush Z dX0_publish_30 (by decide) ?_
        exact g_ireturn Z hr hlocks h rfl (⟨hI, Or.inr (Or.inl ⟨Classical.not_not.mp c4, by omega, rfl, EQ.rf X⟩)⟩) dX0_publish_32
      · refine lv_iload Z.1 Z.2.1 dX0_publish_18 (lv_at hl 4 rfl) ?_
        refine i_if_lt (tgt := 30) Z (by omega) dX0_publish_20 (by decide) (fun c20 => ?_) (fun c20 => ?_)
        · refine i_bipush Z dX0_publish_30 (by decide) ?_
          exact g_ireturn Z hr hlocks h rfl (⟨hI, Or.inr (Or.inl ⟨Classical.not_not.mp c4, by omega, rfl, EQ.rf X⟩)⟩) dX0_publish_32
        · refine lv_iload Z.1 Z.2.1 dX0_publish_23 (lv_at hl 4 rfl) ?_
          refine i_bipush Z dX0_publish_25 (by decide) ?_
          refine i_icmp_le (tgt := 33) Z (by omega) dX0_publish_27 (by decide) (fun c27 => ?_) (fun c27 => ?_)
          · refine lv_aload_n Z.1 Z.2.1 dX0_publish_33 rfl (lv_at hl 0 rfl) ?_
            refine c_getI Z h 0 (by decide) q32 rfl (v := X 0 (0)) rfl dX0_publish_34 ?_
            have o1 := hX 0 (0)
            refine i_bipush Z dX0_publish_37 (by decide) ?_
            refine i_icmp_lt (tgt := 45) Z (by omega) dX0_publish_39 (by decide) (fun c39 => ?_) (fun c39 => ?_)
            · refine lv_aload_n Z.1 Z.2.1 dX0_publish_45 rfl (lv_at hl 0 rfl) ?_
              refine c_getI Z h 0 (by decide) q32 rfl (v := X 0 (0)) rfl dX0_publish_46 ?_
              have o2 := hX 0 (0)
              refine lv_istore (lv' := [(5, .int (iI (X 0 (0)))), (0, .ref (ad 0)), (1, .int (iI (q))), (2, .int (iI (b))), (3, .int (iI (pr))), (4, .int (iI (lf)))]) Z.1 Z.2.1 dX0_publish_49 hl (by decide) rfl (fun ls hl => ?_)
              refine lv_aload_n Z.1 Z.2.1 dX0_publish_51 rfl (lv_at hl 1 rfl) ?_
              refine c_get Z h 1 (by decide) q33 rfl dX0_publish_52 ?_
              refine lv_iload Z.1 Z.2.1 dX0_publish_55 (lv_at hl 0 rfl) ?_
              refine lv_iload_n Z.1 Z.2.1 dX0_publish_57 rfl (lv_at hl 2 rfl) ?_
              refine g_ast Z h (c_at_1 dA ad) (c_set_1 dA ad) (by decide) (i := X 0 (0)) (v := q) (by omega) dX0_publish_58 (fun H locs h => ?_)
              have hX := okX_set hX 1 (X 0 (0)) (q) (by omega)
              refine lv_aload_n Z.1 Z.2.1 dX0_publish_59 rfl (lv_at hl 1 rfl) ?_
              refine c_get Z h 2 (by decide) q34 rfl dX0_publish_60 ?_
              refine lv_iload Z.1 Z.2.1 dX0_publish_63 (lv_at hl 0 rfl) ?_
              refine lv_iload_n Z.1 Z.2.1 dX0_publish_65 rfl (lv_at hl 3 rfl) ?_
              refine g_ast Z h (c_at_2 dA ad) (c_set_2 dA ad) (by decide) (i := X 0 (0)) (v := b) (by omega) dX0_publish_66 (fun H locs h => ?_)
              have hX := okX_set hX 2 (X 0 (0)) (b) (by omega)
              refine lv_aload_n Z.1 Z.2.1 dX0_publish_67 rfl (lv_at hl 1 rfl) ?_
              refine c_get Z h 3 (by decide) q35 rfl dX0_publish_68 ?_
              refine lv_iload Z.1 Z.2.1 dX0_publish_71 (lv_at hl 0 rfl) ?_
              refine lv_iload_n Z.1 Z.2.1 dX0_publish_73 rfl (lv_at hl 4 rfl) ?_
              refine g_ast Z h (c_at_3 dA ad) (c_set_3 dA ad) (by decide) (i := X 0 (0)) (v := pr) (by omega) dX0_publish_74 (fun H locs h => ?_)
              have hX := okX_set hX 3 (X 0 (0)) (pr) (by omega)
              refine lv_aload_n Z.1 Z.2.1 dX0_publish_75 rfl (lv_at hl 1 rfl) ?_
              refine c_get Z h 4 (by decide) q36 rfl dX0_publish_76 ?_
              refine lv_iload Z.1 Z.2.1 dX0_publish_79 (lv_at hl 0 rfl) ?_
              refine i_const Z dX0_publish_81 ?_
              refine g_ast Z h (c_at_4 dA ad) (c_set_4 dA ad) (by decide) (i := X 0 (0)) (v := 0) (by omega) dX0_publish_82 (fun H locs h => ?_)
              have hX := okX_set hX 4 (X 0 (0)) (0) (by omega)
              refine lv_aload_n Z.1 Z.2.1 dX0_publish_83 rfl (lv_at hl 1 rfl) ?_
              refine c_get Z h 8 (by decide) q40 rfl dX0_publish_84 ?_
              refine lv_iload Z.1 Z.2.1 dX0_publish_87 (lv_at hl 0 rfl) ?_
              refine lv_iload Z.1 Z.2.1 dX0_publish_89 (lv_at hl 5 rfl) ?_
              refine i_if_le (tgt := 104) Z (by omega) dX0_publish_91 (by decide) (fun c91 => ?_) (fun c91 => ?_)
              · refine i_const Z dX0_publish_104 ?_
                refine g_ast Z h (c_at_8 dA ad) (c_set_8 dA ad) (by decide) (i := X 0 (0)) (v := -1) (by omega) dX0_publish_105 (fun H locs h => ?_)
                have hX := okX_set hX 8 (X 0 (0)) (-1) (by omega)
                refine lv_aload_n Z.1 Z.2.1 dX0_publish_106 rfl (lv_at hl 1 rfl) ?_
                refine i_dup Z dX0_publish_107 rfl ?_
                refine c_getI Z h 0 (by decide) q32 rfl (v := X 0 (0)) (by simp [sU]) dX0_publish_108 ?_
                have o3 := hX 0 (0)
                rw [show (sU (sU (sU (sU (sU X 1 (X 0 (0)) (q)) 2 (X 0 (0)) (b)) 3 (X 0 (0)) (pr)) 4 (X 0 (0)) (0)) 8 (X 0 (0)) (-1)) 0 (0) = X 0 (0) from by simp [sU]] at o3
                refine i_const Z dX0_publish_111 ?_
                refine i_add Z dX0_publish_112 ?_
                refine c_put (v := (X 0 (0)) + 1) Z h 0 (by decide) q32 (c_put_0 dA ad) rfl (by decide +kernel) dX0_publish_113 (fun H locs h => ?_)
                have hX := okX_set hX 0 0 ((X 0 (0)) + 1) (by omega)
                refine lv_aload_n Z.1 Z.2.1 dX0_publish_116 rfl (lv_at hl 1 rfl) ?_
                refine lv_iload Z.1 Z.2.1 dX0_publish_117 (lv_at hl 0 rfl) ?_
                obtain ⟨P, hP⟩ : ∃ P, P = (sU (sU (sU (sU (sU (sU X 1 (X 0 (0)) (q)) 2 (X 0 (0)) (b)) 3 (X 0 (0)) (pr)) 4 (X 0 (0)) (0)) 8 (X 0 (0)) (-1)) 0 (0) ((X 0 (0)) + 1)) := ⟨_, rfl⟩
                rw [← hP] at h hX
                have fP : ∀ k, k ≠ 0 → k ≠ 1 → k ≠ 2 → k ≠ 3 → k ≠ 4 → k ≠ 8 → P k = X k := fun k k0 k1 k2 k3 k4 k8 => by rw [hP, sU_k k0, sU_k k8, sU_k k4, sU_k k3, sU_k k2, sU_k k1]
                have fP0 : P 0 0 = X 0 0 + 1 := by rw [hP, sU_s]
                have fP0i : P 0 = uI (X 0) 0 (X 0 0 + 1) := by rw [hP, sU_u, sU_k (by decide), sU_k (by decide), sU_k (by decide), sU_k (by decide), sU_k (by decide)]
                have fP1 : P 1 = uI (X 1) (X 0 0) q := by rw [hP, sU_k (by decide), sU_k (by decide), sU_k (by decide), sU_k (by decide), sU_k (by decide), sU_u]
                have fP2 : P 2 = uI (X 2) (X 0 0) b := by rw [hP, sU_k (by decide), sU_k (by decide), sU_k (by decide), sU_k (by decide), sU_u, sU_k (by decide)]
                have fP3 : P 3 = uI (X 3) (X 0 0) pr := by rw [hP, sU_k (by decide), sU_k (by decide), sU_k (by decide), sU_u, sU_k (by decide), sU_k (by decide)]
                have fP4 : P 4 = uI (X 4) (X 0 0) 0 := by rw [hP, sU_k (by decide), sU_k (by decide), sU_u, sU_k (by decide), sU_k (by decide), sU_k (by decide)]
                have fP8 : P 8 = uI (X 8) (X 0 0) (-1) := by rw [hP, sU_k (by decide), sU_u, sU_k (by decide), sU_k (by decide), sU_k (by decide), sU_k (by decide)]
                have hQP : HQm P (X 0 0) := HQ_pub hQ fP0 (fun b hb => by rw [fP1, uI_n hb]) (fun b hb => by rw [fP3, uI_n hb]) (fP 5 (by decide) (by decide) (by decide) (by decide) (by decide) (by decide)) (fP 9 (by decide) (by decide) (by decide) (by decide) (by decide) (by decide)) (fP 10 (by decide) (by decide) (by decide) (by decide) (by decide) (by decide)) (fP 11 (by decide) (by decide) (by decide) (by decide) (by decide) (by decide))
                refine g_callv (As := [.int (iI (X 0 (0)))]) (rest := []) (q := (RX0, TX0, 21)) (ci := 0) Z h (metX0_makeReady l D dA A ad P (X 0 0) hX (by rw [fP0]; omega) (by rw [fP0]; omega) (by rw [fP1, uI_s]; omega) hQP) (cwV 1 Z.2.2.2.2.1 (lw_V q104 q106 qs0 q22 q107) rfl rfl rfl (by decide +kernel) ⟨Nat.le_of_ble_eq_true rfl, Nat.le_of_ble_eq_true rfl⟩) rfl rfl rfl hl.1 rfl (Nat.le_of_ble_eq_true rfl) ⟨Nat.zero_le _, Nat.zero_le _⟩ dX0_publish_119 (fun X119 H locs hp119 h => ?_)
                obtain ⟨hX, r5, rk, hQ4⟩ := hp119
                have r5b : X119 5 = uI (X 5) (X 0 0) 0 := by rw [r5, fP 5 (by decide) (by decide) (by decide) (by decide) (by decide) (by decide)]
                have rP : ∀ k, k ≠ 0 → k ≠ 1 → k ≠ 2 → k ≠ 3 → k ≠ 4 → k ≠ 8 → k ≠ 5 → k ≠ 9 → k ≠ 10 → k ≠ 11 → X119 k = X k := fun k k0 k1 k2 k3 k4 k8 k5 k9 k10 k11 => by rw [rk k k5 k9 k10 k11, fP k k0 k1 k2 k3 k4 k8]
                have rC : ∀ k, k ≠ 5 → k ≠ 9 → k ≠ 10 → k ≠ 11 → X119 k = P k := rk
                have r17 : X119 17 0 = X 17 0 := by rw [rP 17 (by decide) (by decide) (by decide) (by decide) (by decide) (by decide) (by decide) (by decide) (by decide) (by decide)]
                have r18 : X119 18 = X 18 := rP 18 (by decide) (by decide) (by decide) (by decide) (by decide) (by decide) (by decide) (by decide) (by decide) (by decide)
                have r0 : X119 0 0 = X 0 0 + 1 := by rw [rC 0 (by decide) (by decide) (by decide) (by decide), fP0]
                have r8 : X119 8 = uI (X 8) (X 0 0) (-1) := by rw [rC 8 (by decide) (by decide) (by decide) (by decide), fP8]
                have hOU := OU_pub hO b0.1 r0 r5b (rP 6 (by decide) (by decide) (by decide) (by decide) (by decide) (by decide) (by decide) (by decide) (by decide) (by decide)) (rP 7 (by decide) (by decide) (by decide) (by decide) (by decide) (by decide) (by decide) (by decide) (by decide) (by decide)) (rP 14 (by decide) (by decide) (by decide) (by decide) (by decide) (by decide) (by decide) (by decide) (by decide) (by decide)) (rP 15 (by decide) (by decide) (by decide) (by decide) (by decide) (by decide) (by decide) (by decide) (by decide) (by decide)) (rP 16 (by decide) (by decide) (by decide) (by decide) (by decide) (by decide) (by decide) (by decide) (by decide) (by decide))
                obtain ⟨L, ps0, l1, l2, l3, l4⟩ := LV_pub hL b0.1 r17 r18 (fun b hb => by rw [r8, uI_n hb]) r0 (fun b hb => by rw [r5b, uI_n hb])
                have hE : EQ X119 (pubS X q b pr lf) := by
                  intro k hk i
                  have w := cmn_ne hk
                  unfold pubS
                  rw [show (if 0 < lf then X 19 0 + lf else -1) = -1 from if_neg (by omega)]
                  by_cases e5 : k = 5
                  · subst e5; rw [r5b, sU_k (by decide), sU_k (by decide), sU_k (by decide), sU_u, sU_k (by decide), sU_k (by decide), sU_k (by decide)]
                  · rw [rC k e5 w.1 w.2.1 w.2.2.1, hP]
                    by_cases e0 : k = 0
                    · subst e0; simp [sU]
                    · rw [sU_k e0, sU_k e0]
                      by_cases e8 : k = 8
                      · subst e8; simp [sU]
                      · rw [sU_k e8, sU_k e8]
                        by_cases e4 : k = 4
                        · subst e4; simp [sU]
                        · rw [sU_k e4, sU_k e4, sU_k e5]
                refine lv_iload Z.1 Z.2.1 dX0_publish_122 (lv_at hl 5 rfl) ?_
                refine i_if_le (tgt := 133) Z (by omega) dX0_publish_124 (by decide) (fun c124 => ?_) (fun c124 => ?_)
                · refine lv_iload Z.1 Z.2.1 dX0_publish_133 (lv_at hl 0 rfl) ?_
                  have hLV : LV X119 := ⟨L, ps0, l1, l2, fun b w => by have := l3 b w; rw [r0]; omega, fun b b0 b1 b2 b3 => l4 b b0 b1 b2 b3 (fun e => by rw [e, r8, uI_s] at b3; omega)⟩
                  exact g_ireturn Z hr hlocks h rfl (⟨⟨hX, hQ4, hLV, hOU⟩, Or.inr (Or.inr (Or.inr ⟨Classical.not_not.mp c4, by omega, by omega, rfl, hE⟩))⟩) dX0_publish_135
                · refine lv_aload_n Z.1 Z.2.1 dX0_publish_127 rfl (lv_at hl 1 rfl) ?_
                  refine lv_iload Z.1 Z.2.1 dX0_publish_128 (lv_at hl 0 rfl) ?_
                  refine g_callv (As := [.int (iI (X 0 (0)))]) (rest := []) (q := (RX0, TX0, 21)) (ci := 0) Z h (metX0_addLife l D dA A ad X119 (X 0 0) L ps0 hX (fun b w => by have := l3 b w; omega) (by omega) l1 l2 (fun w => by have := l3 _ w; omega)) (cwV 1 Z.2.2.2.2.1 (lw_V q120 q122 qs4 q22 q123) rfl rfl rfl (by decide +kernel) ⟨Nat.le_of_ble_eq_true rfl, Nat.le_of_ble_eq_true rfl⟩) rfl rfl rfl hl.1 rfl (Nat.le_of_ble_eq_true rfl) ⟨Nat.zero_le _, Nat.zero_le _⟩ dX0_publish_130 (fun X130 H locs hp130 h => ?_)
                  obtain ⟨hX, a1, a2, ps1, a3, a4⟩ := hp130
                  refine lv_iload Z.1 Z.2.1 dX0_publish_133 (lv_at hl 0 rfl) ?_
                  have hLV : LV X130 := by
                    refine ⟨_, ps1, by rw [a2]; exact a3, by rw [a2, a1 8 (by decide) (by decide)]; exact a4, fun b w => ?_, fun b b0 b1 b2 b3 => ?_⟩
                    · rw [a1 0 (by decide) (by decide), a1 8 (by decide) (by decide), r0]
                      rcases w with w | w
                      · have := l3 b w; omega
                      · rw [w, r8, uI_s]; omega
                    · rw [a1 0 (by decide) (by decide)] at b1
                      rw [a1 5 (by decide) (by decide)] at b2
                      rw [a1 8 (by decide) (by decide)] at b3
                      by_cases e : b = X 0 0
                      · exact Or.inr e
                      · exact Or.inl (l4 b b0 b1 b2 b3 e)
                  exact g_ireturn Z hr hlocks h rfl (⟨⟨hX, HQ_congr1 hQ4 (fun k hk => a1 k (by omega) (by omega)), hLV, OL_congr hOU.1 (by rw [a1 14 (by decide) (by decide)]) (a1 15 (by decide) (by decide)) (fun b _ => by rw [a1 7 (by decide) (by decide)]) (fun b => by unfold isOut; rw [a1 0 (by decide) (by decide), a1 5 (by decide) (by decide)]), HL_congr hOU.2 (by rw [a1 0 (by decide) (by decide)]) (a1 16 (by decide) (by decide)) (fun b _ _ => by rw [a1 5 (by decide) (by decide)]) (a1 6 (by decide) (by decide))⟩, Or.inr (Or.inr (Or.inr ⟨Classical.not_not.mp c4, by omega, by omega, rfl, (show EQ X130 X119 from fun k hk i => by rw [a1 k (cmn_ne hk).2.2.2.2.2.2.1 (cmn_ne hk).2.2.2.2.2.2.2.1]).tr hE⟩))⟩) dX0_publish_135
              · refine lv_aload_n Z.1 Z.2.1 dX0_publish_94 rfl (lv_at hl 1 rfl) ?_
                refine c_getI Z h 19 (by decide) q51 rfl (v := X 19 (0)) (by simp [sU]) dX0_publish_95 ?_
                have o4 := hX 19 (0)
                rw [show (sU (sU (sU (sU X 1 (X 0 (0)) (q)) 2 (X 0 (0)) (b)) 3 (X 0 (0)) (pr)) 4 (X 0 (0)) (0)) 19 (0) = X 19 (0) from by simp [sU]] at o4
                refine lv_iload Z.1 Z.2.1 dX0_publish_98 (lv_at hl 5 rfl) ?_
                refine i_add Z dX0_publish_100 ?_
                refine lv_goto (tgt := 105) Z.1 Z.2.1 dX0_publish_101 (by decide) ?_
                refine g_ast Z h (c_at_8 dA ad) (c_set_8 dA ad) (by decide) (i := X 0 (0)) (v := (X 19 (0)) + lf) (by omega) dX0_publish_105 (fun H locs h => ?_)
                have hX := okX_set hX 8 (X 0 (0)) ((X 19 (0)) + lf) (by omega)
                refine lv_aload_n Z.1 Z.2.1 dX0_publish_106 rfl (lv_at hl 1 rfl) ?_
                refine i_dup Z dX0_publish_107 rfl ?_
                refine c_getI Z h 0 (by decide) q32 rfl (v := X 0 (0)) (by simp [sU]) dX0_publish_108 ?_
                have o5 := hX 0 (0)
                rw [show (sU (sU (sU (sU (sU X 1 (X 0 (0)) (q)) 2 (X 0 (0)) (b)) 3 (X 0 (0)) (pr)) 4 (X 0 (0)) (0)) 8 (X 0 (0)) ((X 19 (0)) + lf)) 0 (0) = X 0 (0) from by simp [sU]] at o5
                refine i_const Z dX0_publish_111 ?_
                refine i_add Z dX0_publish_112 ?_
                refine c_put (v := (X 0 (0)) + 1) Z h 0 (by decide) q32 (c_put_0 dA ad) rfl (by decide +kernel) dX0_publish_113 (fun H locs h => ?_)
                have hX := okX_set hX 0 0 ((X 0 (0)) + 1) (by omega)
                refine lv_aload_n Z.1 Z.2.1 dX0_publish_116 rfl (lv_at hl 1 rfl) ?_
                refine lv_iload Z.1 Z.2.1 dX0_publish_117 (lv_at hl 0 rfl) ?_
                obtain ⟨P, hP⟩ : ∃ P, P = (sU (sU (sU (sU (sU (sU X 1 (X 0 (0)) (q)) 2 (X 0 (0)) (b)) 3 (X 0 (0)) (pr)) 4 (X 0 (0)) (0)) 8 (X 0 (0)) ((X 19 (0)) + lf)) 0 (0) ((X 0 (0)) + 1)) := ⟨_, rfl⟩
                rw [← hP] at h hX
                have fP : ∀ k, k ≠ 0 → k ≠ 1 → k ≠ 2 → k ≠ 3 → k ≠ 4 → k ≠ 8 → P k = X k := fun k k0 k1 k2 k3 k4 k8 => by rw [hP, sU_k k0, sU_k k8, sU_k k4, sU_k k3, sU_k k2, sU_k k1]
                have fP0 : P 0 0 = X 0 0 + 1 := by rw [hP, sU_s]
                have fP0i : P 0 = uI (X 0) 0 (X 0 0 + 1) := by rw [hP, sU_u, sU_k (by decide), sU_k (by decide), sU_k (by decide), sU_k (by decide), sU_k (by decide)]
                have fP1 : P 1 = uI (X 1) (X 0 0) q := by rw [hP, sU_k (by decide), sU_k (by decide), sU_k (by decide), sU_k (by decide), sU_k (by decide), sU_u]
                have fP2 : P 2 = uI (X 2) (X 0 0) b := by rw [hP, sU_k (by decide), sU_k (by decide), sU_k (by decide), sU_k (by decide), sU_u, sU_k (by decide)]
                have fP3 : P 3 = uI (X 3) (X 0 0) pr := by rw [hP, sU_k (by decide), sU_k (by decide), sU_k (by decide), sU_u, sU_k (by decide), sU_k (by decide)]
                have fP4 : P 4 = uI (X 4) (X 0 0) 0 := by rw [hP, sU_k (by decide), sU_k (by decide), sU_u, sU_k (by decide), sU_k (by decide), sU_k (by decide)]
                have fP8 : P 8 = uI (X 8) (X 0 0) ((X 19 (0)) + lf) := by rw [hP, sU_k (by decide), sU_u, sU_k (by decide), sU_k (by decide), sU_k (by decide), sU_k (by decide)]
                have hQP : HQm P (X 0 0) := HQ_pub hQ fP0 (fun b hb => by rw [fP1, uI_n hb]) (fun b hb => by rw [fP3, uI_n hb]) (fP 5 (by decide) (by decide) (by decide) (by decide) (by decide) (by decide)) (fP 9 (by decide) (by decide) (by decide) (by decide) (by decide) (by decide)) (fP 10 (by decide) (by decide) (by decide) (by decide) (by decide) (by decide)) (fP 11 (by decide) (by decide) (by decide) (by decide) (by decide) (by decide))
                refine g_callv (As := [.int (iI (X 0 (0)))]) (rest := []) (q := (RX0, TX0, 21)) (ci := 0) Z h (metX0_makeReady l D dA A ad P (X 0 0) hX (by rw [fP0]; omega) (by rw [fP0]; omega) (by rw [fP1, uI_s]; omega) hQP) (cwV 1 Z.2.2.2.2.1 (lw_V q104 q106 qs0 q22 q107) rfl rfl rfl (by decide +kernel) ⟨Nat.le_of_ble_eq_true rfl, Nat.le_of_ble_eq_true rfl⟩) rfl rfl rfl hl.1 rfl (Nat.le_of_ble_eq_true rfl) ⟨Nat.zero_le _, Nat.zero_le _⟩ dX0_publish_119 (fun X119 H locs hp119 h => ?_)
                obtain ⟨hX, r5, rk, hQ4⟩ := hp119
                have r5b : X119 5 = uI (X 5) (X 0 0) 0 := by rw [r5, fP 5 (by decide) (by decide) (by decide) (by decide) (by decide) (by decide)]
                have rP : ∀ k, k ≠ 0 → k ≠ 1 → k ≠ 2 → k ≠ 3 → k ≠ 4 → k ≠ 8 → k ≠ 5 → k ≠ 9 → k ≠ 10 → k ≠ 11 → X119 k = X k := fun k k0 k1 k2 k3 k4 k8 k5 k9 k10 k11 => by rw [rk k k5 k9 k10 k11, fP k k0 k1 k2 k3 k4 k8]
                have rC : ∀ k, k ≠ 5 → k ≠ 9 → k ≠ 10 → k ≠ 11 → X119 k = P k := rk
                have r17 : X119 17 0 = X 17 0 := by rw [rP 17 (by decide) (by decide) (by decide) (by decide) (by decide) (by decide) (by decide) (by decide) (by decide) (by decide)]
                have r18 : X119 18 = X 18 := rP 18 (by decide) (by decide) (by decide) (by decide) (by decide) (by decide) (by decide) (by decide) (by decide) (by decide)
                have r0 : X119 0 0 = X 0 0 + 1 := by rw [rC 0 (by decide) (by decide) (by decide) (by decide), fP0]
                have r8 : X119 8 = uI (X 8) (X 0 0) ((X 19 (0)) + lf) := by rw [rC 8 (by decide) (by decide) (by decide) (by decide), fP8]
                have hOU := OU_pub hO b0.1 r0 r5b (rP 6 (by decide) (by decide) (by decide) (by decide) (by decide) (by decide) (by decide) (by decide) (by decide) (by decide)) (rP 7 (by decide) (by decide) (by decide) (by decide) (by decide) (by decide) (by decide) (by decide) (by decide) (by decide)) (rP 14 (by decide) (by decide) (by decide) (by decide) (by decide) (by decide) (by decide) (by decide) (by decide) (by decide)) (rP 15 (by decide) (by decide) (by decide) (by decide) (by decide) (by decide) (by decide) (by decide) (by decide) (by decide)) (rP 16 (by decide) (by decide) (by decide) (by decide) (by decide) (by decide) (by decide) (by decide) (by decide) (by decide))
                obtain ⟨L, ps0, l1, l2, l3, l4⟩ := LV_pub hL b0.1 r17 r18 (fun b hb => by rw [r8, uI_n hb]) r0 (fun b hb => by rw [r5b, uI_n hb])
                have hE : EQ X119 (pubS X q b pr lf) := by
                  intro k hk i
                  have w := cmn_ne hk
                  unfold pubS
                  rw [show (if 0 < lf then X 19 0 + lf else -1) = (X 19 (0)) + lf from if_pos (by omega)]
                  by_cases e5 : k = 5
                  · subst e5; rw [r5b, sU_k (by decide), sU_k (by decide), sU_k (by decide), sU_u, sU_k (by decide), sU_k (by decide), sU_k (by decide)]
                  · rw [rC k e5 w.1 w.2.1 w.2.2.1, hP]
                    by_cases e0 : k = 0
                    · subst e0; simp [sU]
                    · rw [sU_k e0, sU_k e0]
                      by_cases e8 : k = 8
                      · subst e8; simp [sU]
                      · rw [sU_k e8, sU_k e8]
                        by_cases e4 : k = 4
                        · subst e4; simp [sU]
                        · rw [sU_k e4, sU_k e4, sU_k e5]
                refine lv_iload Z.1 Z.2.1 dX0_publish_122 (lv_at hl 5 rfl) ?_
                refine i_if_le (tgt := 133) Z (by omega) dX0_publish_124 (by decide) (fun c124 => ?_) (fun c124 => ?_)
                · refine lv_iload Z.1 Z.2.1 dX0_publish_133 (lv_at hl 0 rfl) ?_
                  have hLV : LV X119 := ⟨L, ps0, l1, l2, fun b w => by have := l3 b w; rw [r0]; omega, fun b b0 b1 b2 b3 => l4 b b0 b1 b2 b3 (fun e => by rw [e, r8, uI_s] at b3; omega)⟩
                  exact g_ireturn Z hr hlocks h rfl (⟨⟨hX, hQ4, hLV, hOU⟩, Or.inr (Or.inr (Or.inr ⟨Classical.not_not.mp c4, by omega, by omega, rfl, hE⟩))⟩) dX0_publish_135
                · refine lv_aload_n Z.1 Z.2.1 dX0_publish_127 rfl (lv_at hl 1 rfl) ?_
                  refine lv_iload Z.1 Z.2.1 dX0_publish_128 (lv_at hl 0 rfl) ?_
                  refine g_callv (As := [.int (iI (X 0 (0)))]) (rest := []) (q := (RX0, TX0, 21)) (ci := 0) Z h (metX0_addLife l D dA A ad X119 (X 0 0) L ps0 hX (fun b w => by have := l3 b w; omega) (by omega) l1 l2 (fun w => by have := l3 _ w; omega)) (cwV 1 Z.2.2.2.2.1 (lw_V q120 q122 qs4 q22 q123) rfl rfl rfl (by decide +kernel) ⟨Nat.le_of_ble_eq_true rfl, Nat.le_of_ble_eq_true rfl⟩) rfl rfl rfl hl.1 rfl (Nat.le_of_ble_eq_true rfl) ⟨Nat.zero_le _, Nat.zero_le _⟩ dX0_publish_130 (fun X130 H locs hp130 h => ?_)
                  obtain ⟨hX, a1, a2, ps1, a3, a4⟩ := hp130
                  refine lv_iload Z.1 Z.2.1 dX0_publish_133 (lv_at hl 0 rfl) ?_
                  have hLV : LV X130 := by
                    refine ⟨_, ps1, by rw [a2]; exact a3, by rw [a2, a1 8 (by decide) (by decide)]; exact a4, fun b w => ?_, fun b b0 b1 b2 b3 => ?_⟩
                    · rw [a1 0 (by decide) (by decide), a1 8 (by decide) (by decide), r0]
                      rcases w with w | w
                      · have := l3 b w; omega
                      · rw [w, r8, uI_s]; omega
                    · rw [a1 0 (by decide) (by decide)] at b1
                      rw [a1 5 (by decide) (by decide)] at b2
                      rw [a1 8 (by decide) (by decide)] at b3
                      by_cases e : b = X 0 0
                      · exact Or.inr e
                      · exact Or.inl (l4 b b0 b1 b2 b3 e)
                  exact g_ireturn Z hr hlocks h rfl (⟨⟨hX, HQ_congr1 hQ4 (fun k hk => a1 k (by omega) (by omega)), hLV, OL_congr hOU.1 (by rw [a1 14 (by decide) (by decide)]) (a1 15 (by decide) (by decide)) (fun b _ => by rw [a1 7 (by decide) (by decide)]) (fun b => by unfold isOut; rw [a1 0 (by decide) (by decide), a1 5 (by decide) (by decide)]), HL_congr hOU.2 (by rw [a1 0 (by decide) (by decide)]) (a1 16 (by decide) (by decide)) (fun b _ _ => by rw [a1 5 (by decide) (by decide)]) (a1 6 (by decide) (by decide))⟩, Or.inr (Or.inr (Or.inr ⟨Classical.not_not.mp c4, by omega, by omega, rfl, (show EQ X130 X119 from fun k hk i => by rw [a1 k (cmn_ne hk).2.2.2.2.2.2.1 (cmn_ne hk).2.2.2.2.2.2.2.1]).tr hE⟩))⟩) dX0_publish_135
            · refine i_bipush Z dX0_publish_42 (by decide) ?_
              exact g_ireturn Z hr hlocks h rfl (⟨hI, Or.inr (Or.inr (Or.inl ⟨Classical.not_not.mp c4, by omega, by omega, rfl, EQ.rf X⟩))⟩) dX0_publish_44
          · refine i_bipush Z dX0_publish_30 (by decide) ?_
            exact g_ireturn Z hr hlocks h rfl (⟨hI, Or.inr (Or.inl ⟨Classical.not_not.mp c4, by omega, rfl, EQ.rf X⟩)⟩) dX0_publish_32
  · refine i_const Z dX0_publish_7 ?_
    exact g_ireturn Z hr hlocks h rfl (⟨hI, Or.inl ⟨c4, rfl, EQ.rf X⟩⟩) dX0_publish_8
end
section
set_option maxHeartbeats 4000000 in
set_option maxRecDepth 100000 in
theorem metX0_lose (l : Launch) (D : va_G) (dA : ClassId) (A : Nat → Prop) (ad : Nat → Nat) (X : zS) (q : Int) (N : Int) (hC : BC N X) (hN : N ≤ 64) (hI : IC X) (hq : -2147483648 ≤ q ∧ q ≤ 2147483647) : cMi l yX0_lose cX0_lose 4 (some .int) 5 112 D dA A ad [.ref (ad 0), .int (iI q)] X (fun z X1 => IC X1 ∧ spLose q X z X1) := by
  refine g_start_i (by decide) ?_
  intro p e s m below meth c Z hr hlocks h
  have Z : gC RX0 D dA p s m ([.ref (ad 0), .int (iI q)] : List Value).toArray c cX0_lose 4 := Z
  have hl := lv_entry ([.ref (ad 0), .int (iI q)]) (n := 4) (Nat.le_of_ble_eq_true rfl)
  rw [lg_entry_eq]
  generalize (lg_sl ([.ref (ad 0), .int (iI q)]) ++ List.replicate (4 - (lg_sl ([.ref (ad 0), .int (iI q)])).length) Slot.unset).toArray = ls at hl ⊢
  have hl : lv_has ls 4 [(0, .ref (ad 0)), (1, .int (iI (q)))] := hl
  obtain ⟨b0, b1, b3, b4, b5, b6, b7, b8, b12, b13, b19⟩ := hC
  obtain ⟨hX, hQ, hL, hO⟩ := id hI
  refine lv_iload_n Z.1 Z.2.1 dX0_lose_0 rfl (lv_at hl 1 rfl) ?_
  refine g_calls (As := [.int (iI (q))]) (rest := []) Z h (metX0_badConsumer l D dA A ad X q (by omega)) (va_cwS 1 Z.2.2.2.2.1 (lw_S q132 q133 q22 q134) rfl rfl rfl (by decide +kernel) ⟨Nat.le_of_ble_eq_true rfl, Nat.le_of_ble_eq_true rfl⟩) rfl hl.1 rfl (Nat.le_of_ble_eq_true rfl) ⟨Nat.zero_le _, Nat.zero_le _⟩ dX0_lose_1 (fun z1 X1 H locs hp1 h => ?_)
  obtain ⟨ec9, hz1⟩ := hp1
  rw [ec9] at h
  refine b_ifeq (tgt := 10) Z hz1 dX0_lose_4 (by decide) (fun c4 => ?_) (fun c4 => ?_)
  · refine i_const Z dX0_lose_10 ?_
    refine lv_istore_n (lv' := [(2, .int (iI (0))), (0, .ref (ad 0)), (1, .int (iI (q)))]) Z.1 Z.2.1 dX0_lose_11 rfl hl (by decide) rfl (fun ls hl => ?_)
    refine i_const Z dX0_lose_12 ?_
    refine lv_istore_n (lv' := [(3, .int (iI (0))), (2, .int (iI (0))), (0, .ref (ad 0)), (1, .int (iI (q)))]) Z.1 Z.2.1 dX0_lose_13 rfl hl (by decide) rfl (fun ls hl => ?_)
    have loop : ∀ (n : Nat) (i : Int) (k : Int) (Y : zS) (H : Heap) (locs : List Loc) (ls : Array Slot), (X 0 0 - i < (n : Int)) → (IC Y) → (EQ Y (loP X q i)) → (0 ≤ i ∧ i ≤ X 0 0) → (k = cn (fun a => X 5 a = 1 ∧ X 6 a = q) i) → gH D A (cWG dA ad (gG Y)) s.heap H locs → lv_has ls 4 [(0, .ref (ad 0)), (1, .int (iI (q))), (2, .int (iI (k))), (3, .int (iI (i)))] → W p l e ({ frames := 5, cells := 0, slots := 0, locals := 112 } : Room) s m ([.ref (ad 0), .int (iI q)] : List Value).toArray below meth c H locs 0 0 (MQ below (gQi D dA A (cWG dA ad) (fun z X1 => IC X1 ∧ spLose q X z X1)) ([.ref (ad 0), .int (iI q)] : List Value).toArray s 0 0 A) (F0 m 14 ls []) := by
      intro n
      induction n with
      | zero =>
        intro i k Y H locs ls hm hI2 hE hi hk h hl
        exfalso; omega
      | succ n ih =>
        intro i k Y H locs ls hm hI2 hE hi hk h hl
        obtain ⟨hX, hQy, hLy, hOy⟩ := id hI2
        have e5 : Y 5 i = X 5 i := by rw [hE 5 (by unfold cmn; decide)]; exact loP_i
        have e0 : Y 0 0 = X 0 0 := by rw [hE 0 (by unfold cmn; decide), loP_k (by decide)]
        have e6 : Y 6 i = X 6 i := by rw [hE 6 (by unfold cmn; decide), loP_k (by decide)]
        have y1 : ∀ a, 0 ≤ Y 1 a ∧ Y 1 a ≤ 2 := fun a => by rw [hE 1 (by unfold cmn; decide), loP_k (by decide)]; exact b1 a
        have y6 : ∀ a, 0 ≤ Y 6 a ∧ Y 6 a ≤ 2 := fun a => by rw [hE 6 (by unfold cmn; decide), loP_k (by decide)]; exact b6 a
        have eb : back Y i = back X i := by rw [back_EQ hE]; unfold back; rw [loP_k (by decide), loP_k (by decide), loP_k (by decide)]
        refine lv_iload_n Z.1 Z.2.1 dX0_lose_14 rfl (lv_at hl 3 rfl) ?_
        refine lv_aload_n Z.1 Z.2.1 dX0_lose_15 rfl (lv_at hl 0 rfl) ?_
        refine c_getI Z h 0 (by decide) q32 rfl (v := Y 0 (0)) rfl dX0_lose_16 ?_
        have o1 := hX 0 (0)
        refine i_icmp_ge (tgt := 56) Z (by omega) dX0_lose_19 (by decide) (fun c19 => ?_) (fun c19 => ?_)
        · refine lv_iload_n Z.1 Z.2.1 dX0_lose_56 rfl (lv_at hl 2 rfl) ?_
          exact g_ireturn Z hr hlocks h rfl (⟨hI2, Or.inr ⟨Classical.not_not.mp c4, by unfold outN; rw [show X 0 0 = i by omega]; exact hk, by rw [show i = X 0 0 by omega] at hE; exact hE⟩⟩) dX0_lose_57
        · refine lv_aload_n Z.1 Z.2.1 dX0_lose_22 rfl (lv_at hl 0 rfl) ?_
          refine c_get Z h 5 (by decide) q37 rfl dX0_lose_23 ?_
          refine lv_iload_n Z.1 Z.2.1 dX0_lose_26 rfl (lv_at hl 3 rfl) ?_
          refine g_ald Z h (c_at_5 dA ad) (by decide) (v := Y 5 (i)) (by omega) rfl dX0_lose_27 ?_
          have o2 := hX 5 (i)
          refine i_const Z dX0_lose_28 ?_
          refine i_icmp_ne (tgt := 50) Z (by omega) dX0_lose_29 (by decide) (fun c29 => ?_) (fun c29 => ?_)
          · refine i_inc (lv' := [(3, .int (iI (i + 1))), (0, .ref (ad 0)), (1, .int (iI (q))), (2, .int (iI (k)))]) Z dX0_lose_50 hl (k := 3) rfl (by decide) rfl (fun ls hl => ?_)
            refine lv_goto (tgt := 14) Z.1 Z.2.1 dX0_lose_53 (by decide) ?_
            exact ih (i + 1) k Y _ _ _ (by omega) hI2 (by rw [← loP_f (by omega)]; exact hE) (by omega) (cn_st (by omega) hk (by omega)) h (lv_sub hl [1, 2, 3, 0] rfl)
          · refine lv_aload_n Z.1 Z.2.1 dX0_lose_32 rfl (lv_at hl 0 rfl) ?_
            refine c_get Z h 6 (by decide) q38 rfl dX0_lose_33 ?_
            refine lv_iload_n Z.1 Z.2.1 dX0_lose_36 rfl (lv_at hl 3 rfl) ?_
            refine g_ald Z h (c_at_6 dA ad) (by decide) (v := Y 6 (i)) (by omega) rfl dX0_lose_37 ?_
            have o3 := hX 6 (i)
            refine lv_iload_n Z.1 Z.2.1 dX0_lose_38 rfl (lv_at hl 1 rfl) ?_
            refine i_icmp_ne (tgt := 50) Z (by omega) dX0_lose_39 (by decide) (fun c39 => ?_) (fun c39 => ?_)
            · refine i_inc (lv' := [(3, .int (iI (i + 1))), (0, .ref (ad 0)), (1, .int (iI (q))), (2, .int (iI (k)))]) Z dX0_lose_50 hl (k := 3) rfl (by decide) rfl (fun ls hl => ?_)
              refine lv_goto (tgt := 14) Z.1 Z.2.1 dX0_lose_53 (by decide) ?_
              exact ih (i + 1) k Y _ _ _ (by omega) hI2 (by rw [← loP_f (by omega)]; exact hE) (by omega) (cn_st (by omega) hk (by omega)) h (lv_sub hl [1, 2, 3, 0] rfl)
            · refine lv_aload_n Z.1 Z.2.1 dX0_lose_42 rfl (lv_at hl 0 rfl) ?_
              refine lv_iload_n Z.1 Z.2.1 dX0_lose_43 rfl (lv_at hl 3 rfl) ?_
              refine g_callv (As := [.int (iI (i))]) (rest := []) (q := (RX0, TX0, 21)) (ci := 0) Z h (metX0_comeBack l D dA A ad Y i hX (by omega) y1 y6 hQy hLy hOy ⟨by omega, by omega, by omega⟩) (cwV 1 Z.2.2.2.2.1 (lw_V q163 q165 qs11 q22 q166) rfl rfl rfl (by decide +kernel) ⟨Nat.le_of_ble_eq_true rfl, Nat.le_of_ble_eq_true rfl⟩) rfl rfl rfl hl.1 rfl (Nat.le_of_ble_eq_true rfl) ⟨Nat.zero_le _, Nat.zero_le _⟩ dX0_lose_44 (fun X44 H locs hp44 h => ?_)
              obtain ⟨hX, r5, rk, hQ4, hL4, hO4, _⟩ := hp44
              refine i_inc (lv' := [(2, .int (iI (k + 1))), (0, .ref (ad 0)), (1, .int (iI (q))), (3, .int (iI (i)))]) Z dX0_lose_47 hl (k := 2) rfl (by decide) rfl (fun ls hl => ?_)
              refine i_inc (lv' := [(3, .int (iI (i + 1))), (2, .int (iI (k + 1))), (0, .ref (ad 0)), (1, .int (iI (q)))]) Z dX0_lose_50 hl (k := 3) rfl (by decide) rfl (fun ls hl => ?_)
              refine lv_goto (tgt := 14) Z.1 Z.2.1 dX0_lose_53 (by decide) ?_
              exact ih (i + 1) (k + 1) X44 _ _ _ (by omega) ⟨hX, hQ4, hL4, hO4⟩ (by rw [← loP_t (by omega) (by omega), ← eb]; exact EQ_set5 hE r5 rk) (by omega) (cn_st (by omega) hk (by omega)) h (lv_sub hl [2, 3, 1, 0] rfl)
    exact loop ((X 0 0 - 0 + 1 : Int).toNat) 0 0 X _ _ _ (by omega) hI (by rw [loP_0]; exact EQ.rf X) (by omega) rfl h (lv_sub hl [2, 3, 1, 0] rfl)
  · refine i_bipush Z dX0_lose_7 (by decide) ?_
    exact g_ireturn Z hr hlocks h rfl (⟨hI, Or.inl ⟨c4, rfl, EQ.rf X⟩⟩) dX0_lose_9
set_option maxHeartbeats 4000000 in
set_option maxRecDepth 100000 in
theorem metX0_revive (l : Launch) (D : va_G) (dA : ClassId) (A : Nat → Prop) (ad : Nat → Nat) (X : zS) (q : Int) (N : Int) (hC : BC N X) (hN : N ≤ 64) (hI : IC X) (hq : -2147483648 ≤ q ∧ q ≤ 2147483647) : cMi l yX0_revive cX0_revive 4 (some .int) 4 91 D dA A ad [.ref (ad 0), .int (iI q)] X (fun z X1 => IC X1 ∧ spRev q X z X1) := by
  refine g_start_i (by decide) ?_
  intro p e s m below meth c Z hr hlocks h
  have Z : gC RX0 D dA p s m ([.ref (ad 0), .int (iI q)] : List Value).toArray c cX0_revive 4 := Z
  have hl := lv_entry ([.ref (ad 0), .int (iI q)]) (n := 4) (Nat.le_of_ble_eq_true rfl)
  rw [lg_entry_eq]
  generalize (lg_sl ([.ref (ad 0), .int (iI q)]) ++ List.replicate (4 - (lg_sl ([.ref (ad 0), .int (iI q)])).length) Slot.unset).toArray = ls at hl ⊢
  have hl : lv_has ls 4 [(0, .ref (ad 0)), (1, .int (iI (q)))] := hl
  obtain ⟨b0, b1, b3, b4, b5, b6, b7, b8, b12, b13, b19⟩ := hC
  obtain ⟨hX, hQ, hL, hO⟩ := id hI
  refine lv_iload_n Z.1 Z.2.1 dX0_revive_0 rfl (lv_at hl 1 rfl) ?_
  refine g_calls (As := [.int (iI (q))]) (rest := []) Z h (metX0_badQueue l D dA A ad X q (by omega)) (va_cwS 1 Z.2.2.2.2.1 (lw_S q101 q102 q22 q103) rfl rfl rfl (by decide +kernel) ⟨Nat.le_of_ble_eq_true rfl, Nat.le_of_ble_eq_true rfl⟩) rfl hl.1 rfl (Nat.le_of_ble_eq_true rfl) ⟨Nat.zero_le _, Nat.zero_le _⟩ dX0_revive_1 (fun z1 X1 H locs hp1 h => ?_)
  obtain ⟨ec9, hz1⟩ := hp1
  rw [ec9] at h
  refine b_ifeq (tgt := 9) Z hz1 dX0_revive_4 (by decide) (fun c4 => ?_) (fun c4 => ?_)
  · refine i_const Z dX0_revive_9 ?_
    refine lv_istore_n (lv' := [(2, .int (iI (0))), (0, .ref (ad 0)), (1, .int (iI (q)))]) Z.1 Z.2.1 dX0_revive_10 rfl hl (by decide) rfl (fun ls hl => ?_)
    refine i_const Z dX0_revive_11 ?_
    refine lv_istore_n (lv' := [(3, .int (iI (0))), (2, .int (iI (0))), (0, .ref (ad 0)), (1, .int (iI (q)))]) Z.1 Z.2.1 dX0_revive_12 rfl hl (by decide) rfl (fun ls hl => ?_)
    have loop : ∀ (n : Nat) (i : Int) (k : Int) (Y : zS) (H : Heap) (locs : List Loc) (ls : Array Slot), (X 0 0 - i < (n : Int)) → (IC Y) → (EQ Y (reP X q i)) → (0 ≤ i ∧ i ≤ X 0 0) → (k = cn (fun a => X 1 a = q ∧ X 5 a = 3) i) → gH D A (cWG dA ad (gG Y)) s.heap H locs → lv_has ls 4 [(0, .ref (ad 0)), (1, .int (iI (q))), (2, .int (iI (k))), (3, .int (iI (i)))] → W p l e ({ frames := 4, cells := 0, slots := 0, locals := 91 } : Room) s m ([.ref (ad 0), .int (iI q)] : List Value).toArray below meth c H locs 0 0 (MQ below (gQi D dA A (cWG dA ad) (fun z X1 => IC X1 ∧ spRev q X z X1)) ([.ref (ad 0), .int (iI q)] : List Value).toArray s 0 0 A) (F0 m 13 ls []) := by
      intro n
      induction n with
      | zero =>
        intro i k Y H locs ls hm hI2 hE hi hk h hl
        exfalso; omega
      | succ n ih =>
        intro i k Y H locs ls hm hI2 hE hi hk h hl
        obtain ⟨hX, hQy, hLy, hOy⟩ := id hI2
        have e5 : Y 5 i = X 5 i := by rw [hE 5 (by unfold cmn; decide)]; exact reP_i
        have e1 : Y 1 i = X 1 i := by rw [hE 1 (by unfold cmn; decide)]; exact reP_i
        have e0 : Y 0 0 = X 0 0 := by rw [hE 0 (by unfold cmn; decide), reP_k (by decide) (by decide)]
        have y1 : 0 ≤ Y 1 i ∧ Y 1 i ≤ 2 := by rw [e1]; exact b1 i
        refine lv_iload_n Z.1 Z.2.1 dX0_revive_13 rfl (lv_at hl 3 rfl) ?_
        refine lv_aload_n Z.1 Z.2.1 dX0_revive_14 rfl (lv_at hl 0 rfl) ?_
        refine c_getI Z h 0 (by decide) q32 rfl (v := Y 0 (0)) rfl dX0_revive_15 ?_
        have o1 := hX 0 (0)
        refine i_icmp_ge (tgt := 62) Z (by omega) dX0_revive_18 (by decide) (fun c18 => ?_) (fun c18 => ?_)
        · refine lv_iload_n Z.1 Z.2.1 dX0_revive_62 rfl (lv_at hl 2 rfl) ?_
          exact g_ireturn Z hr hlocks h rfl (⟨hI2, Or.inr ⟨Classical.not_not.mp c4, by rw [show X 0 0 = i by omega]; exact hk, by rw [show i = X 0 0 by omega] at hE; exact hE⟩⟩) dX0_revive_63
        · refine lv_aload_n Z.1 Z.2.1 dX0_revive_21 rfl (lv_at hl 0 rfl) ?_
          refine c_get Z h 5 (by decide) q37 rfl dX0_revive_22 ?_
          refine lv_iload_n Z.1 Z.2.1 dX0_revive_25 rfl (lv_at hl 3 rfl) ?_
          refine g_ald Z h (c_at_5 dA ad) (by decide) (v := Y 5 (i)) (by omega) rfl dX0_revive_26 ?_
          have o2 := hX 5 (i)
          refine i_const Z dX0_revive_27 ?_
          refine i_icmp_ne (tgt := 56) Z (by omega) dX0_revive_28 (by decide) (fun c28 => ?_) (fun c28 => ?_)
          · refine i_inc (lv' := [(3, .int (iI (i + 1))), (0, .ref (ad 0)), (1, .int (iI (q))), (2, .int (iI (k)))]) Z dX0_revive_56 hl (k := 3) rfl (by decide) rfl (fun ls hl => ?_)
            refine lv_goto (tgt := 13) Z.1 Z.2.1 dX0_revive_59 (by decide) ?_
            exact ih (i + 1) k Y _ _ _ (by omega) hI2 (by rw [← reP_f (by omega)]; exact hE) (by omega) (cn_st (by omega) hk (by omega)) h (lv_sub hl [1, 2, 3, 0] rfl)
          · refine lv_aload_n Z.1 Z.2.1 dX0_revive_31 rfl (lv_at hl 0 rfl) ?_
            refine c_get Z h 1 (by decide) q33 rfl dX0_revive_32 ?_
            refine lv_iload_n Z.1 Z.2.1 dX0_revive_35 rfl (lv_at hl 3 rfl) ?_
            refine g_ald Z h (c_at_1 dA ad) (by decide) (v := Y 1 (i)) (by omega) rfl dX0_revive_36 ?_
            have o3 := hX 1 (i)
            refine lv_iload_n Z.1 Z.2.1 dX0_revive_37 rfl (lv_at hl 1 rfl) ?_
            refine i_icmp_ne (tgt := 56) Z (by omega) dX0_revive_38 (by decide) (fun c38 => ?_) (fun c38 => ?_)
            · refine i_inc (lv' := [(3, .int (iI (i + 1))), (0, .ref (ad 0)), (1, .int (iI (q))), (2, .int (iI (k)))]) Z dX0_revive_56 hl (k := 3) rfl (by decide) rfl (fun ls hl => ?_)
              refine lv_goto (tgt := 13) Z.1 Z.2.1 dX0_revive_59 (by decide) ?_
              exact ih (i + 1) k Y _ _ _ (by omega) hI2 (by rw [← reP_f (by omega)]; exact hE) (by omega) (cn_st (by omega) hk (by omega)) h (lv_sub hl [1, 2, 3, 0] rfl)
            · refine lv_aload_n Z.1 Z.2.1 dX0_revive_41 rfl (lv_at hl 0 rfl) ?_
              refine c_get Z h 4 (by decide) q36 rfl dX0_revive_42 ?_
              refine lv_iload_n Z.1 Z.2.1 dX0_revive_45 rfl (lv_at hl 3 rfl) ?_
              refine i_const Z dX0_revive_46 ?_
              refine g_ast Z h (c_at_4 dA ad) (c_set_4 dA ad) (by decide) (i := i) (v := 0) (by omega) dX0_revive_47 (fun H locs h => ?_)
              have hX := okX_set hX 4 (i) (0) (by omega)
              refine lv_aload_n Z.1 Z.2.1 dX0_revive_48 rfl (lv_at hl 0 rfl) ?_
              refine lv_iload_n Z.1 Z.2.1 dX0_revive_49 rfl (lv_at hl 3 rfl) ?_
              have g : ∀ k, k ≠ 4 → (sU Y 4 (i) (0)) k = Y k := fun k hk => sU_k hk
              have hQ3 : HQm (sU Y 4 (i) (0)) i := HQm_congr (HQ.hm hQy (by omega)) (fun k hk => g k (by omega))
              have hL3 : LVm (sU Y 4 (i) (0)) i := LVm_congr (hLy.hm i) (by rw [g 17 (by decide)]) (g 18 (by decide)) (g 8 (by decide)) (by rw [g 0 (by decide)]) (fun b _ _ _ w => by rw [g 5 (by decide)] at w; exact w)
              refine g_callv (As := [.int (iI (i))]) (rest := []) (q := (RX0, TX0, 21)) (ci := 0) Z h (metX0_readyAgain l D dA A ad (sU Y 4 (i) (0)) i hX (by rw [g 0 (by decide)]; omega) (by rw [g 0 (by decide)]; omega) (by rw [g 1 (by decide)]; exact y1) hQ3 hL3) (cwV 1 Z.2.2.2.2.1 (lw_V q167 q169 qs12 q22 q170) rfl rfl rfl (by decide +kernel) ⟨Nat.le_of_ble_eq_true rfl, Nat.le_of_ble_eq_true rfl⟩) rfl rfl rfl hl.1 rfl (Nat.le_of_ble_eq_true rfl) ⟨Nat.zero_le _, Nat.zero_le _⟩ dX0_revive_50 (fun X50 H locs hp50 h => ?_)
              obtain ⟨hX, r5, rk, hQ4, hL4⟩ := hp50
              rw [g 5 (by decide)] at r5
              have s : ∀ k, k ≠ 4 → k ≠ 5 → k ≠ 9 → k ≠ 10 → k ≠ 11 → k ≠ 17 → k ≠ 18 → X50 k = Y k := fun k k4 k5 k9 k10 k11 k17 k18 => by rw [rk k k5 k9 k10 k11 k17 k18, g k k4]
              have s4 : X50 4 = uI (Y 4) i 0 := by rw [rk 4 (by decide) (by decide) (by decide) (by decide) (by decide) (by decide), sU_u]
              have hOU : OU X50 := ⟨OL_congr hOy.1 (by rw [s 14 (by decide) (by decide) (by decide) (by decide) (by decide) (by decide) (by decide)]) (s 15 (by decide) (by decide) (by decide) (by decide) (by decide) (by decide) (by decide)) (fun b _ => by rw [s 7 (by decide) (by decide) (by decide) (by decide) (by decide) (by decide) (by decide)]) (fun b => by
                  unfold isOut
                  rw [s 0 (by decide) (by decide) (by decide) (by decide) (by decide) (by decide) (by decide), r5]
                  by_cases e : b = i
                  · subst e; rw [uI_s]; omega
                  · rw [uI_n e]), HL_congr hOy.2 (by rw [s 0 (by decide) (by decide) (by decide) (by decide) (by decide) (by decide) (by decide)]) (s 16 (by decide) (by decide) (by decide) (by decide) (by decide) (by decide) (by decide)) (fun b _ _ => by
                  rw [r5]
                  by_cases e : b = i
                  · subst e; rw [uI_s]; omega
                  · rw [uI_n e]) (s 6 (by decide) (by decide) (by decide) (by decide) (by decide) (by decide) (by decide))⟩
              have hE2 : EQ X50 (reP X q (i + 1)) := by
                rw [← reP_t (by omega) (by omega)]
                intro k hk j
                have w := cmn_ne hk
                by_cases k4 : k = 4
                · subst k4
                  rw [s4, sU_u, sU_k (by decide)]
                  unfold uI
                  rw [hE 4 (by unfold cmn; decide)]
                · rw [sU_k k4]
                  by_cases k5 : k = 5
                  · subst k5
                    rw [r5, sU_u]
                    unfold uI
                    rw [hE 5 (by unfold cmn; decide)]
                  · rw [sU_k k5, s k k4 k5 w.1 w.2.1 w.2.2.1 w.2.2.2.2.2.2.1 w.2.2.2.2.2.2.2.1]
                    exact hE k hk j
              refine i_inc (lv' := [(2, .int (iI (k + 1))), (0, .ref (ad 0)), (1, .int (iI (q))), (3, .int (iI (i)))]) Z dX0_revive_53 hl (k := 2) rfl (by decide) rfl (fun ls hl => ?_)
              refine i_inc (lv' := [(3, .int (iI (i + 1))), (2, .int (iI (k + 1))), (0, .ref (ad 0)), (1, .int (iI (q)))]) Z dX0_revive_56 hl (k := 3) rfl (by decide) rfl (fun ls hl => ?_)
              refine lv_goto (tgt := 13) Z.1 Z.2.1 dX0_revive_59 (by decide) ?_
              exact ih (i + 1) (k + 1) X50 _ _ _ (by omega) ⟨hX, hQ4, hL4, hOU⟩ hE2 (by omega) (cn_st (by omega) hk (by omega)) h (lv_sub hl [2, 3, 1, 0] rfl)
    exact loop ((X 0 0 - 0 + 1 : Int).toNat) 0 0 X _ _ _ (by omega) hI (by rw [reP_0]; exact EQ.rf X) (by omega) rfl h (lv_sub hl [2, 3, 1, 0] rfl)
  · refine i_const Z dX0_revive_7 ?_
    exact g_ireturn Z hr hlocks h rfl (⟨hI, Or.inl ⟨c4, rfl, EQ.rf X⟩⟩) dX0_revive_8
set_option maxHeartbeats 4000000 in
set_option maxRecDepth 100000 in
theorem metX0_clear (l : Launch) (D : va_G) (dA : ClassId) (A : Nat → Prop) (ad : Nat → Nat) (X : zS)  (hX : okX X) : cMv l yX0_clear cX0_clear 2 0 0 D dA A ad [.ref (ad 0)] X (fun X1 => IC X1 ∧ EQ X1 (sU X 0 0 0)) := by
  refine g_start_v (by decide) ?_
  intro p e s m below meth c Z hr hlocks h
  have Z : gC RX0 D dA p s m ([.ref (ad 0)] : List Value).toArray c cX0_clear 2 := Z
  have hl := lv_entry ([.ref (ad 0)]) (n := 2) (Nat.le_of_ble_eq_true rfl)
  rw [lg_entry_eq]
  generalize (lg_sl ([.ref (ad 0)]) ++ List.replicate (2 - (lg_sl ([.ref (ad 0)])).length) Slot.unset).toArray = ls at hl ⊢
  have hl : lv_has ls 2 [(0, .ref (ad 0))] := hl
  refine lv_aload_n Z.1 Z.2.1 dX0_clear_0 rfl (lv_at hl 0 rfl) ?_
  refine i_const Z dX0_clear_1 ?_
  refine c_put (v := 0) Z h 0 (by decide) q32 (c_put_0 dA ad) rfl (by decide +kernel) dX0_clear_2 (fun H locs h => ?_)
  have hX := okX_set hX 0 0 (0) (by omega)
  refine lv_aload_n Z.1 Z.2.1 dX0_clear_5 rfl (lv_at hl 0 rfl) ?_
  refine i_const Z dX0_clear_6 ?_
  refine c_put (v := 0) Z h 14 (by decide) q46 (c_put_14 dA ad) rfl (by decide +kernel) dX0_clear_7 (fun H locs h => ?_)
  have hX := okX_set hX 14 0 (0) (by omega)
  refine lv_aload_n Z.1 Z.2.1 dX0_clear_10 rfl (lv_at hl 0 rfl) ?_
  refine i_const Z dX0_clear_11 ?_
  refine c_put (v := 0) Z h 17 (by decide) q49 (c_put_17 dA ad) rfl (by decide +kernel) dX0_clear_12 (fun H locs h => ?_)
  have hX := okX_set hX 17 0 (0) (by omega)
  refine i_const Z dX0_clear_15 ?_
  refine lv_istore_n (lv' := [(1, .int (iI (0))), (0, .ref (ad 0))]) Z.1 Z.2.1 dX0_clear_16 rfl hl (by decide) rfl (fun ls hl => ?_)
  have loop : ∀ (n : Nat) (i : Int) (Y : zS) (H : Heap) (locs : List Loc) (ls : Array Slot), (3 - i < (n : Int)) → (okX Y) → (∀ k, k ≠ 9 → k ≠ 16 → k ≠ 14 → k ≠ 17 → Y k = sU X 0 0 0 k) → (Y 14 0 = 0) → (Y 17 0 = 0) → (0 ≤ i ∧ i ≤ 3) → (∀ c, 0 ≤ c → c < i → Y 9 c = 0 ∧ Y 16 c = 0) → gH D A (cWG dA ad (gG Y)) s.heap H locs → lv_has ls 2 [(0, .ref (ad 0)), (1, .int (iI (i)))] → W p l e ({ frames := 0, cells := 0, slots := 0, locals := 0 } : Room) s m ([.ref (ad 0)] : List Value).toArray below meth c H locs 0 0 (MQ below (gQv D dA A (cWG dA ad) (fun X1 => IC X1 ∧ EQ X1 (sU X 0 0 0))) ([.ref (ad 0)] : List Value).toArray s 0 0 A) (F0 m 17 ls []) := by
    intro n
    induction n with
    | zero =>
      intro i Y H locs ls hm hX hE h14 h17 hi hz h hl
      exfalso; omega
    | succ n ih =>
      intro i Y H locs ls hm hX hE h14 h17 hi hz h hl
      refine lv_iload_n Z.1 Z.2.1 dX0_clear_17 rfl (lv_at hl 1 rfl) ?_
      refine i_const Z dX0_clear_18 ?_
      refine i_icmp_ge (tgt := 42) Z (by omega) dX0_clear_19 (by decide) (fun c19 => ?_) (fun c19 => ?_)
      · have y0 : Y 0 0 = 0 := by rw [hE 0 (by decide) (by decide) (by decide) (by decide), sU_s]
        have y14 : Y 14 0 = 0 := h14
        have y17 : Y 17 0 = 0 := h17
        have hQ2 : HQ Y := by
          intro r r0 r1
          rw [(hz r r0 (by omega)).1]
          exact ⟨⟨Int.le_refl 0, fun j j0 j1 => by omega, fun b w => by have := w.1; have := w.2.1; omega⟩, fun j j0 j1 => by omega⟩
        have hL2 : LV Y := ⟨fun _ => False, fun _ => 0, by rw [y17]; exact ⟨Int.le_refl 0, fun j j0 j1 => by omega, fun b w => w.elim⟩, by rw [y17]; exact fun j j0 j1 => by omega, fun b w => w.elim, fun b b0 b1 => by omega⟩
        have hO2 : OU Y := by
          refine ⟨⟨⟨fun _ => 0, ?_⟩, fun i j i0 ij j1 => by omega⟩, fun c c0 c1 => ?_⟩
          · rw [y14]; exact ⟨Int.le_refl 0, fun j j0 j1 => by omega, fun b w => by have := w.1; have := w.2.1; omega⟩
          · rw [(hz c c0 (by omega)).2]
            unfold outN
            rw [y0]
            exact ⟨rfl, by omega⟩
        exact g_return Z hr hlocks h (⟨⟨hX, hQ2, hL2, hO2⟩, fun k hk j => by have w := cmn_ne hk; rw [hE k w.1 w.2.2.2.2.2.1 w.2.2.2.1 w.2.2.2.2.2.2.1]⟩) dX0_clear_42
      · refine lv_aload_n Z.1 Z.2.1 dX0_clear_22 rfl (lv_at hl 0 rfl) ?_
        refine c_get Z h 9 (by decide) q41 rfl dX0_clear_23 ?_
        refine lv_iload_n Z.1 Z.2.1 dX0_clear_26 rfl (lv_at hl 1 rfl) ?_
        refine i_const Z dX0_clear_27 ?_
        refine g_ast Z h (c_at_9 dA ad) (c_set_9 dA ad) (by decide) (i := i) (v := 0) (by omega) dX0_clear_28 (fun H locs h => ?_)
        have hX := okX_set hX 9 (i) (0) (by omega)
        refine lv_aload_n Z.1 Z.2.1 dX0_clear_29 rfl (lv_at hl 0 rfl) ?_
        refine c_get Z h 16 (by decide) q48 rfl dX0_clear_30 ?_
        refine lv_iload_n Z.1 Z.2.1 dX0_clear_33 rfl (lv_at hl 1 rfl) ?_
        refine i_const Z dX0_clear_34 ?_
        refine g_ast Z h (c_at_16 dA ad) (c_set_16 dA ad) (by decide) (i := i) (v := 0) (by omega) dX0_clear_35 (fun H locs h => ?_)
        have hX := okX_set hX 16 (i) (0) (by omega)
        refine i_inc (lv' := [(1, .int (iI (i + 1))), (0, .ref (ad 0))]) Z dX0_clear_36 hl (k := 1) rfl (by decide) rfl (fun ls hl => ?_)
        refine lv_goto (tgt := 17) Z.1 Z.2.1 dX0_clear_39 (by decide) ?_
        exact ih (i + 1) ((sU (sU Y 9 (i) (0)) 16 (i) (0))) _ _ _ (by omega) hX (fun k k9 k16 k14 k17 => by rw [sU_k k16, sU_k k9]; exact hE k k9 k16 k14 k17) (by rw [sU_k (by decide), sU_k (by decide)]; exact h14) (by rw [sU_k (by decide), sU_k (by decide)]; exact h17) (by omega) (fun c c0 c1 => by
            rw [sU_k (show 9 ≠ 16 by decide), sU_u, sU_u, sU_k (show 16 ≠ 9 by decide)]
            by_cases e : c = i
            · rw [e, uI_s, uI_s]; exact ⟨rfl, rfl⟩
            · rw [uI_n e, uI_n e]; exact hz c c0 (by omega)) h (lv_sub hl [1, 0] rfl)
  exact loop ((3 - 0 + 1 : Int).toNat) 0 ((sU (sU (sU X 0 (0) (0)) 14 (0) (0)) 17 (0) (0))) _ _ _ (by omega) hX (fun k k9 k16 k14 k17 => by rw [sU_k k17, sU_k k14]) (by rw [sU_k (by decide), sU_s]) sU_s (by omega) (fun c c0 c1 => by omega) h (lv_sub hl [1, 0] rfl)
set_option maxHeartbeats 4000000 in
set_option maxRecDepth 100000 in
theorem metX0_peek (l : Launch) (D : va_G) (dA : ClassId) (A : Nat → Prop) (ad : Nat → Nat) (X : zS) (q j0 : Int) (N : Int) (hC : BC N X) (hN : N ≤ 64) (hI : IC X) (hq : -2147483648 ≤ q ∧ q ≤ 2147483647) (hj : -2147483648 ≤ j0 ∧ j0 ≤ 2147483647) : cMi l yX0_peek cX0_peek 6 (some .int) 1 22 D dA A ad [.ref (ad 0), .int (iI q), .int (iI j0)] X (fun z X1 => IC X1 ∧ spPeek q j0 X z X1) := by
  refine g_start_i (by decide) ?_
  intro p e s m below meth c Z hr hlocks h
  have Z : gC RX0 D dA p s m ([.ref (ad 0), .int (iI q), .int (iI j0)] : List Value).toArray c cX0_peek 6 := Z
  have hl := lv_entry ([.ref (ad 0), .int (iI q), .int (iI j0)]) (n := 6) (Nat.le_of_ble_eq_true rfl)
  rw [lg_entry_eq]
  generalize (lg_sl ([.ref (ad 0), .int (iI q), .int (iI j0)]) ++ List.replicate (6 - (lg_sl ([.ref (ad 0), .int (iI q), .int (iI j0)])).length) Slot.unset).toArray = ls at hl ⊢
  have hl : lv_has ls 6 [(0, .ref (ad 0)), (1, .int (iI (q))), (2, .int (iI (j0)))] := hl
  obtain ⟨b0, b1, b3, b4, b5, b6, b7, b8, b12, b13, b19⟩ := hC
  obtain ⟨hX, hQ, hL, hO⟩ := id hI
  refine lv_iload_n Z.1 Z.2.1 dX0_peek_0 rfl (lv_at hl 1 rfl) ?_
  refine g_calls (As := [.int (iI (q))]) (rest := []) Z h (metX0_badQueue l D dA A ad X q (by omega)) (va_cwS 1 Z.2.2.2.2.1 (lw_S q101 q102 q22 q103) rfl rfl rfl (by decide +kernel) ⟨Nat.le_of_ble_eq_true rfl, Nat.le_of_ble_eq_true rfl⟩) rfl hl.1 rfl (Nat.le_of_ble_eq_true rfl) ⟨Nat.zero_le _, Nat.zero_le _⟩ dX0_peek_1 (fun z1 X1 H locs hp1 h => ?_)
  obtain ⟨ec9, hz1⟩ := hp1
  rw [ec9] at h
  refine b_ifeq (tgt := 9) Z hz1 dX0_peek_4 (by decide) (fun c4 => ?_) (fun c4 => ?_)
  · have hq3 : 0 ≤ q ∧ q < 3 := Classical.not_not.mp c4
    have hBq := (hQ q (by omega) (by omega)).1
    have hn4 := bij_le hBq b0.1 (fun b w => ⟨w.1, w.2.1⟩)
    have hn0 := hBq.1
    refine lv_iload_n Z.1 Z.2.1 dX0_peek_9 rfl (lv_at hl 2 rfl) ?_
    refine i_if_lt (tgt := 23) Z (by omega) dX0_peek_10 (by decide) (fun c10 => ?_) (fun c10 => ?_)
    · refine i_bipush Z dX0_peek_23 (by decide) ?_
      exact g_ireturn Z hr hlocks h rfl (⟨hI, EQ.rf X, Or.inr (Or.inl ⟨hq3, fun a ha w => by have w1 := rank_rng (q := q) (a := a) b0.1; have w2 := rank_n hQ (by omega) (by omega) ha; omega, rfl⟩)⟩) dX0_peek_25
    · refine lv_iload_n Z.1 Z.2.1 dX0_peek_13 rfl (lv_at hl 2 rfl) ?_
      refine lv_aload_n Z.1 Z.2.1 dX0_peek_14 rfl (lv_at hl 0 rfl) ?_
      refine c_get Z h 9 (by decide) q41 rfl dX0_peek_15 ?_
      refine lv_iload_n Z.1 Z.2.1 dX0_peek_18 rfl (lv_at hl 1 rfl) ?_
      refine g_ald Z h (c_at_9 dA ad) (by decide) (v := X 9 (q)) (by omega) rfl dX0_peek_19 ?_
      have o1 := hX 9 (q)
      refine i_icmp_lt (tgt := 26) Z (by omega) dX0_peek_20 (by decide) (fun c20 => ?_) (fun c20 => ?_)
      · refine i_const Z dX0_peek_26 ?_
        refine lv_istore_n (lv' := [(3, .int (iI (0))), (0, .ref (ad 0)), (1, .int (iI (q))), (2, .int (iI (j0)))]) Z.1 Z.2.1 dX0_peek_27 rfl hl (by decide) rfl (fun ls hl => ?_)
        have loop : ∀ (n : Nat) (kk : Int) (Y : zS) (H : Heap) (locs : List Loc) (ls : Array Slot), (X 9 q - kk < (n : Int)) → (okX Y) → (∀ k, k ≠ 20 → Y k = X k) → (0 ≤ kk ∧ kk ≤ X 9 q) → (SRT Y X q kk) → gH D A (cWG dA ad (gG Y)) s.heap H locs → lv_has ls 6 [(0, .ref (ad 0)), (1, .int (iI (q))), (2, .int (iI (j0))), (3, .int (iI (kk)))] → W p l e ({ frames := 1, cells := 0, slots := 0, locals := 22 } : Room) s m ([.ref (ad 0), .int (iI q), .int (iI j0)] : List Value).toArray below meth c H locs 0 0 (MQ below (gQi D dA A (cWG dA ad) (fun z X1 => IC X1 ∧ spPeek q j0 X z X1)) ([.ref (ad 0), .int (iI q), .int (iI j0)] : List Value).toArray s 0 0 A) (F0 m 28 ls []) := by
          intro n
          induction n with
          | zero =>
            intro kk Y H locs ls hm hX hK hi hS h hl
            exfalso; omega
          | succ n ih =>
            intro kk Y H locs ls hm hX hK hi hS h hl
            have e9 : Y 9 q = X 9 q := by rw [hK 9 (by decide)]
            have e10 : Y 10 = X 10 := hK 10 (by decide)
            refine lv_iload_n Z.1 Z.2.1 dX0_peek_28 rfl (lv_at hl 3 rfl) ?_
            refine lv_aload_n Z.1 Z.2.1 dX0_peek_29 rfl (lv_at hl 0 rfl) ?_
            refine c_get Z h 9 (by decide) q41 rfl dX0_peek_30 ?_
            refine lv_iload_n Z.1 Z.2.1 dX0_peek_33 rfl (lv_at hl 1 rfl) ?_
            refine g_ald Z h (c_at_9 dA ad) (by decide) (v := Y 9 (q)) (by omega) rfl dX0_peek_34 ?_
            have o2 := hX 9 (q)
            refine i_icmp_ge (tgt := 114) Z (by omega) dX0_peek_35 (by decide) (fun c35 => ?_) (fun c35 => ?_)
            · refine lv_aload_n Z.1 Z.2.1 dX0_peek_114 rfl (lv_at hl 0 rfl) ?_
              refine c_get Z h 20 (by decide) q52 rfl dX0_peek_115 ?_
              refine lv_iload_n Z.1 Z.2.1 dX0_peek_118 rfl (lv_at hl 2 rfl) ?_
              refine g_ald Z h (c_at_20 dA ad) (by decide) (v := Y 20 (j0)) (by omega) rfl dX0_peek_119 ?_
              have o3 := hX 20 (j0)
              exact g_ireturn Z hr hlocks h rfl (by
                have hS2 : SRT Y X q (X 9 q) := by rw [show X 9 q = kk by omega]; exact hS
                have hE := SRT_end hQ (by omega) (by omega) hS2 (i := j0) (by omega) (by omega)
                exact ⟨⟨hX, HQ_congr1 hQ (fun k hk => hK k (by omega)), LV_congr hL (by rw [hK 17 (by decide)]) (hK 18 (by decide)) (hK 8 (by decide)) (by rw [hK 0 (by decide)]) (fun b _ _ w => by rw [hK 5 (by decide)] at w; exact w), OL_congr hO.1 (by rw [hK 14 (by decide)]) (hK 15 (by decide)) (fun b _ => by rw [hK 7 (by decide)]) (fun b => by unfold isOut; rw [hK 0 (by decide), hK 5 (by decide)]), HL_congr hO.2 (by rw [hK 0 (by decide)]) (hK 16 (by decide)) (fun b _ _ => by rw [hK 5 (by decide)]) (hK 6 (by decide))⟩, fun k hk i => by rw [hK k (cmn_ne hk).2.2.2.2.2.2.2.2], Or.inr (Or.inr ⟨hq3, hE.1, hE.2⟩)⟩) dX0_peek_120
            · have hmr := (hBq.2.1 kk (by omega) (by omega)).1
              have hmb : 0 ≤ X 10 (q * 40 + kk) ∧ X 10 (q * 40 + kk) < 40 := by have w1 := hmr.1; have w2 := hmr.2.1; unfold hsg at w1 w2; omega
              obtain ⟨a, hae⟩ : ∃ a, a = X 10 (q * 40 + kk) := ⟨_, rfl⟩
              refine lv_aload_n Z.1 Z.2.1 dX0_peek_38 rfl (lv_at hl 0 rfl) ?_
              refine c_get Z h 10 (by decide) q42 rfl dX0_peek_39 ?_
              refine lv_iload_n Z.1 Z.2.1 dX0_peek_42 rfl (lv_at hl 1 rfl) ?_
              refine i_bipush Z dX0_peek_43 (by decide) ?_
              refine i_mul Z dX0_peek_45 ?_
              refine lv_iload_n Z.1 Z.2.1 dX0_peek_46 rfl (lv_at hl 3 rfl) ?_
              refine i_add Z dX0_peek_47 ?_
              refine g_ald Z h (c_at_10 dA ad) (by decide) (v := Y 10 ((q * 40) + kk)) (by omega) rfl dX0_peek_48 ?_
              have o4 := hX 10 ((q * 40) + kk)
              rw [e10, ← hae]
              refine lv_istore (lv' := [(4, .int (iI (a))), (0, .ref (ad 0)), (1, .int (iI (q))), (2, .int (iI (j0))), (3, .int (iI (kk)))]) Z.1 Z.2.1 dX0_peek_49 hl (by decide) rfl (fun ls hl => ?_)
              refine lv_iload_n Z.1 Z.2.1 dX0_peek_51 rfl (lv_at hl 4 rfl) ?_
              refine lv_istore (lv' := [(5, .int (iI (kk))), (4, .int (iI (a))), (0, .ref (ad 0)), (1, .int (iI (q))), (2, .int (iI (j0))), (3, .int (iI (kk)))]) Z.1 Z.2.1 dX0_peek_52 hl (by decide) rfl (fun ls hl => ?_)
              have inner : ∀ (n_inner : Nat) (at0 : Int) (V : zS) (H : Heap) (locs : List Loc) (ls : Array Slot), (at0 < (n_inner : Int)) → (okX V) → (∀ k, k ≠ 20 → V k = Y k) → (0 ≤ at0 ∧ at0 ≤ kk) → (∀ j, at0 ≤ j → j < kk → bq (X 3) a (Y 20 j)) → (∀ j, V 20 j = if at0 < j ∧ j ≤ kk then Y 20 (j - 1) else Y 20 j) → gH D A (cWG dA ad (gG V)) s.heap H locs → lv_has ls 6 [(0, .ref (ad 0)), (1, .int (iI (q))), (2, .int (iI (j0))), (3, .int (iI (kk))), (4, .int (iI (a))), (5, .int (iI (at0)))] → W p l e ({ frames := 1, cells := 0, slots := 0, locals := 22 } : Room) s m ([.ref (ad 0), .int (iI q), .int (iI j0)] : List Value).toArray below meth c H locs 0 0 (MQ below (gQi D dA A (cWG dA ad) (fun z X1 => IC X1 ∧ spPeek q j0 X z X1)) ([.ref (ad 0), .int (iI q), .int (iI j0)] : List Value).toArray s 0 0 A) (F0 m 54 ls []) := by
                intro n_inner
                induction n_inner with
                | zero =>
                  intro at0 V H locs ls hm hX hKV hat hg hE h hl
                  exfalso; omega
                | succ n_inner ih_inner =>
                  intro at0 V H locs ls hm hX hKV hat hg hE h hl
                  have i3 : V 3 = X 3 := by rw [hKV 3 (by decide)]; exact hK 3 (by decide)
                  have iY : 0 < at0 → V 20 (at0 - 1) = Y 20 (at0 - 1) := fun w => by rw [hE (at0 - 1), if_neg (by omega)]
                  have iB : 0 < at0 → 0 ≤ V 20 (at0 - 1) ∧ V 20 (at0 - 1) < 40 := fun w => by
                    rw [iY w]
                    obtain ⟨⟨ps, hBs⟩, _⟩ := hS
                    obtain ⟨j, j0, j1, j2⟩ := (hBs.2.1 (at0 - 1) (by omega) (by omega)).1
                    rw [← j2]
                    have w9 := (hBq.2.1 j j0 (by omega)).1
                    have w1 := w9.1
                    have w2 := w9.2.1
                    omega
                  refine lv_iload Z.1 Z.2.1 dX0_peek_54 (lv_at hl 5 rfl) ?_
                  refine i_if_le (tgt := 99) Z (by omega) dX0_peek_56 (by decide) (fun c56 => ?_) (fun c56 => ?_)
                  · refine lv_aload_n Z.1 Z.2.1 dX0_peek_99 rfl (lv_at hl 0 rfl) ?_
                    refine c_get Z h 20 (by decide) q52 rfl dX0_peek_100 ?_
                    refine lv_iload Z.1 Z.2.1 dX0_peek_103 (lv_at hl 5 rfl) ?_
                    refine lv_iload Z.1 Z.2.1 dX0_peek_105 (lv_at hl 4 rfl) ?_
                    refine g_ast Z h (c_at_20 dA ad) (c_set_20 dA ad) (by decide) (i := at0) (v := a) (by omega) dX0_peek_107 (fun H locs h => ?_)
                    have hX := okX_set hX 20 (at0) (a) (by omega)
                    refine i_inc (lv' := [(3, .int (iI (kk + 1))), (0, .ref (ad 0)), (1, .int (iI (q))), (2, .int (iI (j0))), (4, .int (iI (a))), (5, .int (iI (at0)))]) Z dX0_peek_108 hl (k := 3) rfl (by decide) rfl (fun ls hl => ?_)
                    refine lv_goto (tgt := 28) Z.1 Z.2.1 dX0_peek_111 (by decide) ?_
                    exact ih (kk + 1) ((sU V 20 (at0) (a))) _ _ _ (by omega) hX (fun k hk9 => by rw [sU_k hk9, hKV k hk9]; exact hK k hk9) (by omega) (SRT_ins hS hBq (by omega) (by omega) hat.1 hat.2 (by first | exact Or.inl (by omega) | exact Or.inr (by intro w9; apply c74; rw [i3, iY2, hae]; exact w9)) (fun j j0 j1 => by have w9 := hg j j0 j1; rw [hae] at w9; exact w9) (fun j j0 j1 => by
                        rw [sU_u]
                        by_cases e : j = at0
                        · rw [e, uI_s, if_neg (by omega), if_pos rfl, hae]; rfl
                        · rw [uI_n e, hE j]
                          by_cases e2 : j < at0
                          · rw [if_neg (by omega), if_pos e2]
                          · rw [if_pos (by omega), if_neg e2, if_neg e])) h (lv_sub hl [1, 2, 3, 0] rfl)
                  · have iB2 := iB (by omega)
                    have iY2 := iY (by omega)
                    refine lv_aload_n Z.1 Z.2.1 dX0_peek_59 rfl (lv_at hl 0 rfl) ?_
                    refine lv_iload Z.1 Z.2.1 dX0_peek_60 (lv_at hl 4 rfl) ?_
                    refine lv_aload_n Z.1 Z.2.1 dX0_peek_62 rfl (lv_at hl 0 rfl) ?_
                    refine c_get Z h 20 (by decide) q52 rfl dX0_peek_63 ?_
                    refine lv_iload Z.1 Z.2.1 dX0_peek_66 (lv_at hl 5 rfl) ?_
                    refine i_const Z dX0_peek_68 ?_
                    refine i_sub Z dX0_peek_69 ?_
                    refine g_ald Z h (c_at_20 dA ad) (by decide) (v := V 20 (at0 - 1)) (by omega) rfl dX0_peek_70 ?_
                    have o5 := hX 20 (at0 - 1)
                    refine g_calli (As := [.int (iI (a)), .int (iI (V 20 (at0 - 1)))]) (rest := []) (q := (RX0, TX0, 21)) (ci := 0) Z h (metX0_before l D dA A ad V a (V 20 (at0 - 1)) hX (by omega) (by omega)) (cwV 2 Z.2.2.2.2.1 (lw_V q112 q114 qs2 q22 q115) rfl rfl rfl (by decide +kernel) ⟨Nat.le_of_ble_eq_true rfl, Nat.le_of_ble_eq_true rfl⟩) rfl rfl rfl hl.1 rfl (Nat.le_of_ble_eq_true rfl) ⟨Nat.zero_le _, Nat.zero_le _⟩ dX0_peek_71 (fun z71 X71 H locs hp71 h => ?_)
                    obtain ⟨ec9, hz71⟩ := hp71
                    rw [ec9] at h
                    refine b_ifeq (tgt := 99) Z hz71 dX0_peek_74 (by decide) (fun c74 => ?_) (fun c74 => ?_)
                    · refine lv_aload_n Z.1 Z.2.1 dX0_peek_99 rfl (lv_at hl 0 rfl) ?_
                      refine c_get Z h 20 (by decide) q52 rfl dX0_peek_100 ?_
                      refine lv_iload Z.1 Z.2.1 dX0_peek_103 (lv_at hl 5 rfl) ?_
                      refine lv_iload Z.1 Z.2.1 dX0_peek_105 (lv_at hl 4 rfl) ?_
                      refine g_ast Z h (c_at_20 dA ad) (c_set_20 dA ad) (by decide) (i := at0) (v := a) (by omega) dX0_peek_107 (fun H locs h => ?_)
                      have hX := okX_set hX 20 (at0) (a) (by omega)
                      refine i_inc (lv' := [(3, .int (iI (kk + 1))), (0, .ref (ad 0)), (1, .int (iI (q))), (2, .int (iI (j0))), (4, .int (iI (a))), (5, .int (iI (at0)))]) Z dX0_peek_108 hl (k := 3) rfl (by decide) rfl (fun ls hl => ?_)
                      refine lv_goto (tgt := 28) Z.1 Z.2.1 dX0_peek_111 (by decide) ?_
                      exact ih (kk + 1) ((sU V 20 (at0) (a))) _ _ _ (by omega) hX (fun k hk9 => by rw [sU_k hk9, hKV k hk9]; exact hK k hk9) (by omega) (SRT_ins hS hBq (by omega) (by omega) hat.1 hat.2 (by first | exact Or.inl (by omega) | exact Or.inr (by intro w9; apply c74; rw [i3, iY2, hae]; exact w9)) (fun j j0 j1 => by have w9 := hg j j0 j1; rw [hae] at w9; exact w9) (fun j j0 j1 => by
                          rw [sU_u]
                          by_cases e : j = at0
                          · rw [e, uI_s, if_neg (by omega), if_pos rfl, hae]; rfl
                          · rw [uI_n e, hE j]
                            by_cases e2 : j < at0
                            · rw [if_neg (by omega), if_pos e2]
                            · rw [if_pos (by omega), if_neg e2, if_neg e])) h (lv_sub hl [1, 2, 3, 0] rfl)
                    · refine lv_aload_n Z.1 Z.2.1 dX0_peek_77 rfl (lv_at hl 0 rfl) ?_
                      refine c_get Z h 20 (by decide) q52 rfl dX0_peek_78 ?_
                      refine lv_iload Z.1 Z.2.1 dX0_peek_81 (lv_at hl 5 rfl) ?_
                      refine lv_aload_n Z.1 Z.2.1 dX0_peek_83 rfl (lv_at hl 0 rfl) ?_
                      refine c_get Z h 20 (by decide) q52 rfl dX0_peek_84 ?_
                      refine lv_iload Z.1 Z.2.1 dX0_peek_87 (lv_at hl 5 rfl) ?_
                      refine i_const Z dX0_peek_89 ?_
                      refine i_sub Z dX0_peek_90 ?_
                      refine g_ald Z h (c_at_20 dA ad) (by decide) (v := V 20 (at0 - 1)) (by omega) rfl dX0_peek_91 ?_
                      have o6 := hX 20 (at0 - 1)
                      refine g_ast Z h (c_at_20 dA ad) (c_set_20 dA ad) (by decide) (i := at0) (v := V 20 (at0 - 1)) (by omega) dX0_peek_92 (fun H locs h => ?_)
                      have hX := okX_set hX 20 (at0) (V 20 (at0 - 1)) (by omega)
                      refine i_inc (lv' := [(5, .int (iI (at0 + -1))), (0, .ref (ad 0)), (1, .int (iI (q))), (2, .int (iI (j0))), (3, .int (iI (kk))), (4, .int (iI (a)))]) Z dX0_peek_93 hl (k := 5) rfl (by decide) rfl (fun ls hl => ?_)
                      refine lv_goto (tgt := 54) Z.1 Z.2.1 dX0_peek_96 (by decide) ?_
                      exact ih_inner (at0 + -1) ((sU V 20 (at0) (V 20 (at0 - 1)))) _ _ _ (by omega) hX (fun k hk9 => by rw [sU_k hk9]; exact hKV k hk9) (by omega) (fun j j0 j1 => by
                          by_cases e : j = at0 - 1
                          · rw [i3, iY2] at c74; rw [e]; exact c74
                          · exact hg j (by omega) j1) (fun j => by
                          rw [sU_u]
                          by_cases e : j = at0
                          · rw [e, uI_s, hE (at0 - 1), if_neg (by omega), if_pos (by omega)]
                          · rw [uI_n e, hE j]
                            by_cases e2 : at0 < j ∧ j ≤ kk
                            · rw [if_pos e2, if_pos (by omega)]
                            · rw [if_neg e2, if_neg (by omega)]) h (lv_sub hl [1, 2, 3, 4, 5, 0] rfl)
              exact inner ((kk + 1 : Int).toNat) kk Y _ _ _ (by omega) hX (fun _ _ => rfl) (by omega) (fun j j0 j1 => by omega) (fun j => by rw [if_neg (by omega)]) h (lv_sub hl [2, 3, 4, 5, 1, 0] rfl)
        exact loop ((X 9 q - 0 + 1 : Int).toNat) 0 X _ _ _ (by omega) hX (fun _ _ => rfl) (by omega) SRT_0 h (lv_sub hl [1, 2, 3, 0] rfl)
      · refine i_bipush Z dX0_peek_23 (by decide) ?_
        exact g_ireturn Z hr hlocks h rfl (⟨hI, EQ.rf X, Or.inr (Or.inl ⟨hq3, fun a ha w => by have w1 := rank_rng (q := q) (a := a) b0.1; have w2 := rank_n hQ (by omega) (by omega) ha; omega, rfl⟩)⟩) dX0_peek_25
  · refine i_const Z dX0_peek_7 ?_
    exact g_ireturn Z hr hlocks h rfl (⟨hI, EQ.rf X, Or.inl ⟨c4, rfl⟩⟩) dX0_peek_8
end
section
set_option maxHeartbeats 4000000 in
set_option maxRecDepth 100000 in
theorem metX0_pass (l : Launch) (D : va_G) (dA : ClassId) (A : Nat → Prop) (ad : Nat → Nat) (X : zS) (n0 : Int) (N : Int) (hC : BC N X) (hN : N ≤ 64) (hI : IC X) (hq : -2147483648 ≤ n0 ∧ n0 ≤ 2147483647) : cMi l yX0_pass cX0_pass 4 (some .int) 5 112 D dA A ad [.ref (ad 0), .int (iI n0)] X (fun z X1 => IC X1 ∧ spPass n0 X z X1) := by
  refine g_start_i (by decide) ?_
  intro p e s m below meth c Z hr hlocks h
  have Z : gC RX0 D dA p s m ([.ref (ad 0), .int (iI n0)] : List Value).toArray c cX0_pass 4 := Z
  have hl := lv_entry ([.ref (ad 0), .int (iI n0)]) (n := 4) (Nat.le_of_ble_eq_true rfl)
  rw [lg_entry_eq]
  generalize (lg_sl ([.ref (ad 0), .int (iI n0)]) ++ List.replicate (4 - (lg_sl ([.ref (ad 0), .int (iI n0)])).length) Slot.unset).toArray = ls at hl ⊢
  have hl : lv_has ls 4 [(0, .ref (ad 0)), (1, .int (iI (n0)))] := hl
  obtain ⟨b0, b1, b3, b4, b5, b6, b7, b8, b12, b13, b19⟩ := hC
  obtain ⟨hX, hQ, hL, hO⟩ := id hI
  refine lv_iload_n Z.1 Z.2.1 dX0_pass_0 rfl (lv_at hl 1 rfl) ?_
  refine i_if_lt (tgt := 10) Z (by omega) dX0_pass_1 (by decide) (fun c1 => ?_) (fun c1 => ?_)
  · refine i_bipush Z dX0_pass_10 (by decide) ?_
    exact g_ireturn Z hr hlocks h rfl (⟨hI, Or.inl ⟨by omega, rfl, EQ.rf X⟩⟩) dX0_pass_12
  · refine lv_iload_n Z.1 Z.2.1 dX0_pass_4 rfl (lv_at hl 1 rfl) ?_
    refine i_bipush Z dX0_pass_5 (by decide) ?_
    refine i_icmp_le (tgt := 13) Z (by omega) dX0_pass_7 (by decide) (fun c7 => ?_) (fun c7 => ?_)
    · refine lv_aload_n Z.1 Z.2.1 dX0_pass_13 rfl (lv_at hl 0 rfl) ?_
      refine i_dup Z dX0_pass_14 rfl ?_
      refine c_getI Z h 19 (by decide) q51 rfl (v := X 19 (0)) rfl dX0_pass_15 ?_
      have o1 := hX 19 (0)
      refine lv_iload_n Z.1 Z.2.1 dX0_pass_18 rfl (lv_at hl 1 rfl) ?_
      refine i_add Z dX0_pass_19 ?_
      refine c_put (v := (X 19 (0)) + n0) Z h 19 (by decide) q51 (c_put_19 dA ad) rfl (by decide +kernel) dX0_pass_20 (fun H locs h => ?_)
      have hX := okX_set hX 19 0 ((X 19 (0)) + n0) (by omega)
      refine i_const Z dX0_pass_23 ?_
      refine lv_istore_n (lv' := [(2, .int (iI (0))), (0, .ref (ad 0)), (1, .int (iI (n0)))]) Z.1 Z.2.1 dX0_pass_24 rfl hl (by decide) rfl (fun ls hl => ?_)
      have h6 := OU_six hO b0.1 b6
      have k19 : ∀ k, k ≠ 19 → (sU X 19 (0) ((X 19 (0)) + n0)) k = X k := fun k hk => sU_k hk
      have hI1 : IC (sU X 19 (0) ((X 19 (0)) + n0)) := ⟨hX, HQ_congr1 hQ (fun k hk => k19 k (by omega)), LV_congr hL (by rw [k19 17 (by decide)]) (k19 18 (by decide)) (k19 8 (by decide)) (by rw [k19 0 (by decide)]) (fun b _ _ w => by rw [k19 5 (by decide)] at w; exact w), OL_congr hO.1 (by rw [k19 14 (by decide)]) (k19 15 (by decide)) (fun b _ => by rw [k19 7 (by decide)]) (fun b => by unfold isOut; rw [k19 0 (by decide), k19 5 (by decide)]), HL_congr hO.2 (by rw [k19 0 (by decide)]) (k19 16 (by decide)) (fun b _ _ => by rw [k19 5 (by decide)]) (k19 6 (by decide))⟩
      have loop : ∀ (n : Nat) (k : Int) (Y : zS) (H : Heap) (locs : List Loc) (ls : Array Slot), (Y 14 0 < (n : Int)) → (IC Y) → (PA1 X Y (X 19 0 + n0) k) → gH D A (cWG dA ad (gG Y)) s.heap H locs → lv_has ls 4 [(0, .ref (ad 0)), (1, .int (iI (n0))), (2, .int (iI (k)))] → W p l e ({ frames := 5, cells := 0, slots := 0, locals := 112 } : Room) s m ([.ref (ad 0), .int (iI n0)] : List Value).toArray below meth c H locs 0 0 (MQ below (gQi D dA A (cWG dA ad) (fun z X1 => IC X1 ∧ spPass n0 X z X1)) ([.ref (ad 0), .int (iI n0)] : List Value).toArray s 0 0 A) (F0 m 25 ls []) := by
        intro n
        induction n with
        | zero =>
          intro k Y H locs ls hm hI2 hA h hl
          obtain ⟨_, _, _, hOz⟩ := hI2
          obtain ⟨⟨⟨ps, hBz⟩, _⟩, _⟩ := hOz
          have w9 := hBz.1
          exfalso; omega
        | succ n ih =>
          intro k Y H locs ls hm hI2 hA h hl
          obtain ⟨hX, hQy, hLy, hOy⟩ := id hI2
          have eY0 : Y 0 0 = X 0 0 := by rw [hA.1 0 (by unfold cmn; decide) (by decide) (by decide)]
          have y1 : ∀ a, 0 ≤ Y 1 a ∧ Y 1 a ≤ 2 := fun a => by rw [hA.1 1 (by unfold cmn; decide) (by decide) (by decide)]; exact b1 a
          have y6 : ∀ a, 0 ≤ Y 6 a ∧ Y 6 a ≤ 2 := fun a => by rw [hA.1 6 (by unfold cmn; decide) (by decide) (by decide)]; exact b6 a
          have e19 : Y 19 0 = X 19 0 + n0 := hA.2.1
          refine lv_aload_n Z.1 Z.2.1 dX0_pass_25 rfl (lv_at hl 0 rfl) ?_
          refine c_getI Z h 14 (by decide) q46 rfl (v := Y 14 (0)) rfl dX0_pass_26 ?_
          have o2 := hX 14 (0)
          refine i_if_le (tgt := 66) Z (by omega) dX0_pass_29 (by decide) (fun c29 => ?_) (fun c29 => ?_)
          · have hE1 := PA1_end hA (fun b hb => by first | exact absurd hb (OU_none hOy (by omega) b) | (have w9 := hmn.2 b hb; omega))
            have hl7 : Y 17 0 ≤ 40 := by
              obtain ⟨L, ps, l1, l2, l3, l4⟩ := hLy
              have w9 := bij_le l1 (N := Y 0 0) (by omega) (fun b w => ⟨(l3 b w).1, (l3 b w).2.1⟩)
              omega
            have inner : ∀ (n_inner : Nat)  (V : zS) (H : Heap) (locs : List Loc) (ls : Array Slot), (V 17 0 < (n_inner : Int)) → (IC V) → (PA2 X V (X 19 0 + n0)) → gH D A (cWG dA ad (gG V)) s.heap H locs → lv_has ls 4 [(0, .ref (ad 0)), (1, .int (iI (n0))), (2, .int (iI (k)))] → W p l e ({ frames := 5, cells := 0, slots := 0, locals := 112 } : Room) s m ([.ref (ad 0), .int (iI n0)] : List Value).toArray below meth c H locs 0 0 (MQ below (gQi D dA A (cWG dA ad) (fun z X1 => IC X1 ∧ spPass n0 X z X1)) ([.ref (ad 0), .int (iI n0)] : List Value).toArray s 0 0 A) (F0 m 66 ls []) := by
              intro n_inner
              induction n_inner with
              | zero =>
                intro  V H locs ls hm hI3 hA2 h hl
                obtain ⟨_, _, hLz, _⟩ := hI3
                obtain ⟨L, ps, l1, _⟩ := hLz
                have w9 := l1.1
                exfalso; omega
              | succ n_inner ih_inner =>
                intro  V H locs ls hm hI3 hA2 h hl
                obtain ⟨hX, hQv, hLv, hOv⟩ := id hI3
                obtain ⟨L, ps, l1, l2, l3, l4⟩ := id hLv
                have v0 : V 0 = X 0 := hA2.1 0 (by unfold cmn; decide) (by decide) (by decide)
                have v8 : V 8 = X 8 := hA2.1 8 (by unfold cmn; decide) (by decide) (by decide)
                have v1 : ∀ a, 0 ≤ V 1 a ∧ V 1 a ≤ 2 := fun a => by rw [hA2.1 1 (by unfold cmn; decide) (by decide) (by decide)]; exact b1 a
                have eV0 : V 0 0 = X 0 0 := by rw [v0]
                have e19v : V 19 0 = X 19 0 + n0 := hA2.2.1
                have hlb : ∀ b, L b → 0 ≤ b ∧ b < 40 := fun b w => by have w9 := l3 b w; omega
                refine lv_aload_n Z.1 Z.2.1 dX0_pass_66 rfl (lv_at hl 0 rfl) ?_
                refine c_getI Z h 17 (by decide) q49 rfl (v := V 17 (0)) rfl dX0_pass_67 ?_
                have o3 := hX 17 (0)
                refine i_if_le (tgt := 120) Z (by omega) dX0_pass_70 (by decide) (fun c70 => ?_) (fun c70 => ?_)
                · refine lv_iload_n Z.1 Z.2.1 dX0_pass_120 rfl (lv_at hl 2 rfl) ?_
                  exact g_ireturn Z hr hlocks h rfl (⟨hI3, Or.inr ⟨by omega, hE1.2, PA2_end hA2 (fun b b0 b1 b2 b3 => by
                    have w1 := l4 b b0 (by omega) b2 (by rw [v8]; exact b3)
                    first
                      | (have w2 := l1.2.2 b w1; omega)
                      | (have w2 := LV_min l1 l2 w1; rw [v8] at w2; rw [v8] at c88; omega))⟩⟩) dX0_pass_121
                · have hl0 := (l1.2.1 0 (by omega) (by omega)).1
                  have hl3 := l3 _ hl0
                  refine lv_aload_n Z.1 Z.2.1 dX0_pass_73 rfl (lv_at hl 0 rfl) ?_
                  refine c_get Z h 8 (by decide) q40 rfl dX0_pass_74 ?_
                  refine lv_aload_n Z.1 Z.2.1 dX0_pass_77 rfl (lv_at hl 0 rfl) ?_
                  refine c_get Z h 18 (by decide) q50 rfl dX0_pass_78 ?_
                  refine i_const Z dX0_pass_81 ?_
                  refine g_ald Z h (c_at_18 dA ad) (by decide) (v := V 18 (0)) (by omega) rfl dX0_pass_82 ?_
                  have o4 := hX 18 (0)
                  refine g_ald Z h (c_at_8 dA ad) (by decide) (v := V 8 (V 18 (0))) (by omega) rfl dX0_pass_83 ?_
                  have o5 := hX 8 (V 18 (0))
                  refine lv_aload_n Z.1 Z.2.1 dX0_pass_84 rfl (lv_at hl 0 rfl) ?_
                  refine c_getI Z h 19 (by decide) q51 rfl (v := V 19 (0)) rfl dX0_pass_85 ?_
                  have o6 := hX 19 (0)
                  refine i_icmp_gt (tgt := 120) Z (by omega) dX0_pass_88 (by decide) (fun c88 => ?_) (fun c88 => ?_)
                  · refine lv_iload_n Z.1 Z.2.1 dX0_pass_120 rfl (lv_at hl 2 rfl) ?_
                    exact g_ireturn Z hr hlocks h rfl (⟨hI3, Or.inr ⟨by omega, hE1.2, PA2_end hA2 (fun b b0 b1 b2 b3 => by
                      have w1 := l4 b b0 (by omega) b2 (by rw [v8]; exact b3)
                      first
                        | (have w2 := l1.2.2 b w1; omega)
                        | (have w2 := LV_min l1 l2 w1; rw [v8] at w2; rw [v8] at c88; omega))⟩⟩) dX0_pass_121
                  · refine lv_aload_n Z.1 Z.2.1 dX0_pass_91 rfl (lv_at hl 0 rfl) ?_
                    refine g_calli (As := []) (rest := []) (q := (RX0, TX0, 21)) (ci := 0) Z h (metX0_firstLife l D dA A ad V L ps hX hlb l1 l2 (by omega)) (cwV 0 Z.2.2.2.2.1 (lw_V q187 q189 qs14 q22 q190) rfl rfl rfl (by decide +kernel) ⟨Nat.le_of_ble_eq_true rfl, Nat.le_of_ble_eq_true rfl⟩) rfl rfl rfl hl.1 rfl (Nat.le_of_ble_eq_true rfl) ⟨Nat.zero_le _, Nat.zero_le _⟩ dX0_pass_92 (fun z92 X92 H locs hp92 h => ?_)
                    obtain ⟨ez, hX, f1, f2, ps1, f3, f4⟩ := hp92
                    subst ez
                    refine lv_istore_n (lv' := [(3, .int (iI (V 18 (0)))), (0, .ref (ad 0)), (1, .int (iI (n0))), (2, .int (iI (k)))]) Z.1 Z.2.1 dX0_pass_95 rfl hl (by decide) rfl (fun ls hl => ?_)
                    refine lv_aload_n Z.1 Z.2.1 dX0_pass_96 rfl (lv_at hl 1 rfl) ?_
                    refine c_get Z h 5 (by decide) q37 rfl dX0_pass_97 ?_
                    refine lv_iload_n Z.1 Z.2.1 dX0_pass_100 rfl (lv_at hl 0 rfl) ?_
                    refine g_ald Z h (c_at_5 dA ad) (by decide) (v := X92 5 (V 18 (0))) (by omega) rfl dX0_pass_101 ?_
                    have o7 := hX 5 (V 18 (0))
                    refine i_if_ne (tgt := 117) Z (by omega) dX0_pass_102 (by decide) (fun c102 => ?_) (fun c102 => ?_)
                    · refine lv_goto (tgt := 66) Z.1 Z.2.1 dX0_pass_117 (by decide) ?_
                      have hOU9 : OU X92 := ⟨OL_congr hOv.1 (by rw [f1 14 (by decide) (by decide)]) (f1 15 (by decide) (by decide)) (fun b _ => by rw [f1 7 (by decide) (by decide)]) (fun b => by unfold isOut; rw [f1 0 (by decide) (by decide), f1 5 (by decide) (by decide)]), HL_congr hOv.2 (by rw [f1 0 (by decide) (by decide)]) (f1 16 (by decide) (by decide)) (fun b _ _ => by rw [f1 5 (by decide) (by decide)]) (f1 6 (by decide) (by decide))⟩
                      have hLV9 : LV X92 := LV_pop l3 l4 (by rw [f2]; exact f3) (by rw [f2]; exact f4) (f1 8 (by decide) (by decide)) (f1 0 (by decide) (by decide)) (fun b w => ⟨by rw [← f1 5 (by decide) (by decide)]; exact w, fun e => c102 (by rw [← e]; exact w)⟩)
                      exact ih_inner  X92 _ _ _ (by omega) ⟨hX, HQ_congr1 hQv (fun k hk => f1 k (by omega) (by omega)), hLV9, hOU9⟩ (PA2_same hA2 (fun f hf => f1 f (cmn_ne hf).2.2.2.2.2.2.1 (cmn_ne hf).2.2.2.2.2.2.2.1)) h (lv_sub hl [1, 2, 3] rfl)
                    · refine lv_aload_n Z.1 Z.2.1 dX0_pass_105 rfl (lv_at hl 1 rfl) ?_
                      refine lv_iload_n Z.1 Z.2.1 dX0_pass_106 rfl (lv_at hl 0 rfl) ?_
                      have hQ9 : HQ X92 := HQ_congr1 hQv (fun k hk => f1 k (by omega) (by omega))
                      have g0 : X92 0 0 = X 0 0 := by rw [f1 0 (by decide) (by decide), v0]
                      have g1 : 0 ≤ X92 1 (V 18 (0)) ∧ X92 1 (V 18 (0)) ≤ 2 := by rw [f1 1 (by decide) (by decide)]; exact v1 _
                      have hr9 : rdy X92 (X92 1 (V 18 (0))) (V 18 (0)) := ⟨by omega, by omega, rfl, c102⟩
                      refine g_callv (As := [.int (iI (V 18 (0)))]) (rest := []) (q := (RX0, TX0, 21)) (ci := 0) Z h (metX0_takeOut l D dA A ad X92 (V 18 (0)) hX (by omega) g1 hQ9 hr9) (cwV 1 Z.2.2.2.2.1 (lw_V q135 q137 qs6 q22 q138) rfl rfl rfl (by decide +kernel) ⟨Nat.le_of_ble_eq_true rfl, Nat.le_of_ble_eq_true rfl⟩) rfl rfl rfl hl.1 rfl (Nat.le_of_ble_eq_true rfl) ⟨Nat.zero_le _, Nat.zero_le _⟩ dX0_pass_107 (fun X107 H locs hp107 h => ?_)
                      obtain ⟨hX, t1, hQm⟩ := hp107
                      refine lv_aload_n Z.1 Z.2.1 dX0_pass_110 rfl (lv_at hl 1 rfl) ?_
                      refine c_get Z h 5 (by decide) q37 rfl dX0_pass_111 ?_
                      refine lv_iload_n Z.1 Z.2.1 dX0_pass_114 rfl (lv_at hl 0 rfl) ?_
                      refine i_const Z dX0_pass_115 ?_
                      refine g_ast Z h (c_at_5 dA ad) (c_set_5 dA ad) (by decide) (i := V 18 (0)) (v := 2) (by omega) dX0_pass_116 (fun H locs h => ?_)
                      have hX := okX_set hX 5 (V 18 (0)) (2) (by omega)
                      refine lv_goto (tgt := 66) Z.1 Z.2.1 dX0_pass_117 (by decide) ?_
                      have s : ∀ k, k ≠ 5 → k ≠ 9 → k ≠ 10 → k ≠ 11 → k ≠ 17 → k ≠ 18 → (sU X107 5 (V 18 (0)) (2)) k = V k := fun k k5 k9 k10 k11 k17 k18 => by rw [sU_k k5, t1 k k9 k10 k11, f1 k k17 k18]
                      have s5 : (sU X107 5 (V 18 (0)) (2)) 5 = uI (V 5) (V 18 0) 2 := by rw [sU_u, t1 5 (by decide) (by decide) (by decide), f1 5 (by decide) (by decide)]
                      have s17 : (sU X107 5 (V 18 (0)) (2)) 17 = X92 17 := by rw [sU_k (by decide), t1 17 (by decide) (by decide) (by decide)]
                      have s18 : (sU X107 5 (V 18 (0)) (2)) 18 = X92 18 := by rw [sU_k (by decide), t1 18 (by decide) (by decide) (by decide)]
                      have v5 : V 5 (V 18 0) = 0 := by rw [← f1 5 (by decide) (by decide)]; exact c102
                      have hOU9 : OU (sU X107 5 (V 18 (0)) (2)) := ⟨OL_congr hOv.1 (by rw [s 14 (by decide) (by decide) (by decide) (by decide) (by decide) (by decide)]) (s 15 (by decide) (by decide) (by decide) (by decide) (by decide) (by decide)) (fun b _ => by rw [s 7 (by decide) (by decide) (by decide) (by decide) (by decide) (by decide)]) (fun b => by
                          unfold isOut
                          rw [s 0 (by decide) (by decide) (by decide) (by decide) (by decide) (by decide), s5]
                          by_cases e : b = V 18 0
                          · rw [e, uI_s, v5]; omega
                          · rw [uI_n e]), HL_congr hOv.2 (by rw [s 0 (by decide) (by decide) (by decide) (by decide) (by decide) (by decide)]) (s 16 (by decide) (by decide) (by decide) (by decide) (by decide) (by decide)) (fun b _ _ => by
                          rw [s5]
                          by_cases e : b = V 18 0
                          · rw [e, uI_s, v5]; omega
                          · rw [uI_n e]) (s 6 (by decide) (by decide) (by decide) (by decide) (by decide) (by decide))⟩
                      have hLV9 : LV (sU X107 5 (V 18 (0)) (2)) := LV_pop l3 l4 (by rw [s17, s18, f2]; exact f3) (by rw [s17, s18, f2]; exact f4) (s 8 (by decide) (by decide) (by decide) (by decide) (by decide) (by decide)) (s 0 (by decide) (by decide) (by decide) (by decide) (by decide) (by decide)) (fun b w => by
                          rw [s5] at w
                          by_cases e : b = V 18 0
                          · rw [e, uI_s] at w; omega
                          · rw [uI_n e] at w; exact ⟨w, e⟩)
                      have h8 : 0 ≤ X 8 (V 18 0) ∧ X 8 (V 18 0) ≤ X 19 0 + n0 := by rw [← v8]; omega
                      exact ih_inner  ((sU X107 5 (V 18 (0)) (2))) _ _ _ (by rw [s17]; omega) ⟨hX, HQm.out hQm (by omega), hLV9, hOU9⟩ (PA2_step hA2 (by omega) (by omega) v5 h8 s5 (fun f hf h5 => by have w := cmn_ne hf; exact s f h5 w.1 w.2.1 w.2.2.1 w.2.2.2.2.2.2.1 w.2.2.2.2.2.2.2.1)) h (lv_sub hl [1, 2, 3] rfl)
            exact inner (41)  Y _ _ _ (by omega) hI2 hE1.1 h (lv_sub hl [0, 1, 2] rfl)
          · have hmn := OU_min hOy (by omega)
            have hm1 := hmn.1.1
            have hm2 := hmn.1.2.1
            refine lv_aload_n Z.1 Z.2.1 dX0_pass_32 rfl (lv_at hl 0 rfl) ?_
            refine c_get Z h 7 (by decide) q39 rfl dX0_pass_33 ?_
            refine lv_aload_n Z.1 Z.2.1 dX0_pass_36 rfl (lv_at hl 0 rfl) ?_
            refine c_get Z h 15 (by decide) q47 rfl dX0_pass_37 ?_
            refine i_const Z dX0_pass_40 ?_
            refine g_ald Z h (c_at_15 dA ad) (by decide) (v := Y 15 (0)) (by omega) rfl dX0_pass_41 ?_
            have o8 := hX 15 (0)
            refine g_ald Z h (c_at_7 dA ad) (by decide) (v := Y 7 (Y 15 (0))) (by omega) rfl dX0_pass_42 ?_
            have o9 := hX 7 (Y 15 (0))
            refine lv_aload_n Z.1 Z.2.1 dX0_pass_43 rfl (lv_at hl 0 rfl) ?_
            refine c_getI Z h 19 (by decide) q51 rfl (v := Y 19 (0)) rfl dX0_pass_44 ?_
            have o10 := hX 19 (0)
            refine i_icmp_gt (tgt := 66) Z (by omega) dX0_pass_47 (by decide) (fun c47 => ?_) (fun c47 => ?_)
            · have hE1 := PA1_end hA (fun b hb => by first | exact absurd hb (OU_none hOy (by omega) b) | (have w9 := hmn.2 b hb; omega))
              have hl7 : Y 17 0 ≤ 40 := by
                obtain ⟨L, ps, l1, l2, l3, l4⟩ := hLy
                have w9 := bij_le l1 (N := Y 0 0) (by omega) (fun b w => ⟨(l3 b w).1, (l3 b w).2.1⟩)
                omega
              have inner : ∀ (n_inner : Nat)  (V : zS) (H : Heap) (locs : List Loc) (ls : Array Slot), (V 17 0 < (n_inner : Int)) → (IC V) → (PA2 X V (X 19 0 + n0)) → gH D A (cWG dA ad (gG V)) s.heap H locs → lv_has ls 4 [(0, .ref (ad 0)), (1, .int (iI (n0))), (2, .int (iI (k)))] → W p l e ({ frames := 5, cells := 0, slots := 0, locals := 112 } : Room) s m ([.ref (ad 0), .int (iI n0)] : List Value).toArray below meth c H locs 0 0 (MQ below (gQi D dA A (cWG dA ad) (fun z X1 => IC X1 ∧ spPass n0 X z X1)) ([.ref (ad 0), .int (iI n0)] : List Value).toArray s 0 0 A) (F0 m 66 ls []) := by
                intro n_inner
                induction n_inner with
                | zero =>
                  intro  V H locs ls hm hI3 hA2 h hl
                  obtain ⟨_, _, hLz, _⟩ := hI3
                  obtain ⟨L, ps, l1, _⟩ := hLz
                  have w9 := l1.1
                  exfalso; omega
                | succ n_inner ih_inner =>
                  intro  V H locs ls hm hI3 hA2 h hl
                  obtain ⟨hX, hQv, hLv, hOv⟩ := id hI3
                  obtain ⟨L, ps, l1, l2, l3, l4⟩ := id hLv
                  have v0 : V 0 = X 0 := hA2.1 0 (by unfold cmn; decide) (by decide) (by decide)
                  have v8 : V 8 = X 8 := hA2.1 8 (by unfold cmn; decide) (by decide) (by decide)
                  have v1 : ∀ a, 0 ≤ V 1 a ∧ V 1 a ≤ 2 := fun a => by rw [hA2.1 1 (by unfold cmn; decide) (by decide) (by decide)]; exact b1 a
                  have eV0 : V 0 0 = X 0 0 := by rw [v0]
                  have e19v : V 19 0 = X 19 0 + n0 := hA2.2.1
                  have hlb : ∀ b, L b → 0 ≤ b ∧ b < 40 := fun b w => by have w9 := l3 b w; omega
                  refine lv_aload_n Z.1 Z.2.1 dX0_pass_66 rfl (lv_at hl 0 rfl) ?_
                  refine c_getI Z h 17 (by decide) q49 rfl (v := V 17 (0)) rfl dX0_pass_67 ?_
                  have o11 := hX 17 (0)
                  refine i_if_le (tgt := 120) Z (by omega) dX0_pass_70 (by decide) (fun c70 => ?_) (fun c70 => ?_)
                  · refine lv_iload_n Z.1 Z.2.1 dX0_pass_120 rfl (lv_at hl 2 rfl) ?_
                    exact g_ireturn Z hr hlocks h rfl (⟨hI3, Or.inr ⟨by omega, hE1.2, PA2_end hA2 (fun b b0 b1 b2 b3 => by
                      have w1 := l4 b b0 (by omega) b2 (by rw [v8]; exact b3)
                      first
                        | (have w2 := l1.2.2 b w1; omega)
                        | (have w2 := LV_min l1 l2 w1; rw [v8] at w2; rw [v8] at c88; omega))⟩⟩) dX0_pass_121
                  · have hl0 := (l1.2.1 0 (by omega) (by omega)).1
                    have hl3 := l3 _ hl0
                    refine lv_aload_n Z.1 Z.2.1 dX0_pass_73 rfl (lv_at hl 0 rfl) ?_
                    refine c_get Z h 8 (by decide) q40 rfl dX0_pass_74 ?_
                    refine lv_aload_n Z.1 Z.2.1 dX0_pass_77 rfl (lv_at hl 0 rfl) ?_
                    refine c_get Z h 18 (by decide) q50 rfl dX0_pass_78 ?_
                    refine i_const Z dX0_pass_81 ?_
                    refine g_ald Z h (c_at_18 dA ad) (by decide) (v := V 18 (0)) (by omega) rfl dX0_pass_82 ?_
                    have o12 := hX 18 (0)
                    refine g_ald Z h (c_at_8 dA ad) (by decide) (v := V 8 (V 18 (0))) (by omega) rfl dX0_pass_83 ?_
                    have o13 := hX 8 (V 18 (0))
                    refine lv_aload_n Z.1 Z.2.1 dX0_pass_84 rfl (lv_at hl 0 rfl) ?_
                    refine c_getI Z h 19 (by decide) q51 rfl (v := V 19 (0)) rfl dX0_pass_85 ?_
                    have o14 := hX 19 (0)
                    refine i_icmp_gt (tgt := 120) Z (by omega) dX0_pass_88 (by decide) (fun c88 => ?_) (fun c88 => ?_)
                    · refine lv_iload_n Z.1 Z.2.1 dX0_pass_120 rfl (lv_at hl 2 rfl) ?_
                      exact g_ireturn Z hr hlocks h rfl (⟨hI3, Or.inr ⟨by omega, hE1.2, PA2_end hA2 (fun b b0 b1 b2 b3 => by
                        have w1 := l4 b b0 (by omega) b2 (by rw [v8]; exact b3)
                        first
                          | (have w2 := l1.2.2 b w1; omega)
                          | (have w2 := LV_min l1 l2 w1; rw [v8] at w2; rw [v8] at c88; omega))⟩⟩) dX0_pass_121
                    · refine lv_aload_n Z.1 Z.2.1 dX0_pass_91 rfl (lv_at hl 0 rfl) ?_
                      refine g_calli (As := []) (rest := []) (q := (RX0, TX0, 21)) (ci := 0) Z h (metX0_firstLife l D dA A ad V L ps hX hlb l1 l2 (by omega)) (cwV 0 Z.2.2.2.2.1 (lw_V q187 q189 qs14 q22 q190) rfl rfl rfl (by decide +kernel) ⟨Nat.le_of_ble_eq_true rfl, Nat.le_of_ble_eq_true rfl⟩) rfl rfl rfl hl.1 rfl (Nat.le_of_ble_eq_true rfl) ⟨Nat.zero_le _, Nat.zero_le _⟩ dX0_pass_92 (fun z92 X92 H locs hp92 h => ?_)
                      obtain ⟨ez, hX, f1, f2, ps1, f3, f4⟩ := hp92
                      subst ez
                      refine lv_istore_n (lv' := [(3, .int (iI (V 18 (0)))), (0, .ref (ad 0)), (1, .int (iI (n0))), (2, .int (iI (k)))]) Z.1 Z.2.1 dX0_pass_95 rfl hl (by decide) rfl (fun ls hl => ?_)
                      refine lv_aload_n Z.1 Z.2.1 dX0_pass_96 rfl (lv_at hl 1 rfl) ?_
                      refine c_get Z h 5 (by decide) q37 rfl dX0_pass_97 ?_
                      refine lv_iload_n Z.1 Z.2.1 dX0_pass_100 rfl (lv_at hl 0 rfl) ?_
                      refine g_ald Z h (c_at_5 dA ad) (by decide) (v := X92 5 (V 18 (0))) (by omega) rfl dX0_pass_101 ?_
                      have o15 := hX 5 (V 18 (0))
                      refine i_if_ne (tgt := 117) Z (by omega) dX0_pass_102 (by decide) (fun c102 => ?_) (fun c102 => ?_)
                      · refine lv_goto (tgt := 66) Z.1 Z.2.1 dX0_pass_117 (by decide) ?_
                        have hOU9 : OU X92 := ⟨OL_congr hOv.1 (by rw [f1 14 (by decide) (by decide)]) (f1 15 (by decide) (by decide)) (fun b _ => by rw [f1 7 (by decide) (by decide)]) (fun b => by unfold isOut; rw [f1 0 (by decide) (by decide), f1 5 (by decide) (by decide)]), HL_congr hOv.2 (by rw [f1 0 (by decide) (by decide)]) (f1 16 (by decide) (by decide)) (fun b _ _ => by rw [f1 5 (by decide) (by decide)]) (f1 6 (by decide) (by decide))⟩
                        have hLV9 : LV X92 := LV_pop l3 l4 (by rw [f2]; exact f3) (by rw [f2]; exact f4) (f1 8 (by decide) (by decide)) (f1 0 (by decide) (by decide)) (fun b w => ⟨by rw [← f1 5 (by decide) (by decide)]; exact w, fun e => c102 (by rw [← e]; exact w)⟩)
                        exact ih_inner  X92 _ _ _ (by omega) ⟨hX, HQ_congr1 hQv (fun k hk => f1 k (by omega) (by omega)), hLV9, hOU9⟩ (PA2_same hA2 (fun f hf => f1 f (cmn_ne hf).2.2.2.2.2.2.1 (cmn_ne hf).2.2.2.2.2.2.2.1)) h (lv_sub hl [1, 2, 3] rfl)
                      · refine lv_aload_n Z.1 Z.2.1 dX0_pass_105 rfl (lv_at hl 1 rfl) ?_
                        refine lv_iload_n Z.1 Z.2.1 dX0_pass_106 rfl (lv_at hl 0 rfl) ?_
                        have hQ9 : HQ X92 := HQ_congr1 hQv (fun k hk => f1 k (by omega) (by omega))
                        have g0 : X92 0 0 = X 0 0 := by rw [f1 0 (by decide) (by decide), v0]
                        have g1 : 0 ≤ X92 1 (V 18 (0)) ∧ X92 1 (V 18 (0)) ≤ 2 := by rw [f1 1 (by decide) (by decide)]; exact v1 _
                        have hr9 : rdy X92 (X92 1 (V 18 (0))) (V 18 (0)) := ⟨by omega, by omega, rfl, c102⟩
                        refine g_callv (As := [.int (iI (V 18 (0)))]) (rest := []) (q := (RX0, TX0, 21)) (ci := 0) Z h (metX0_takeOut l D dA A ad X92 (V 18 (0)) hX (by omega) g1 hQ9 hr9) (cwV 1 Z.2.2.2.2.1 (lw_V q135 q137 qs6 q22 q138) rfl rfl rfl (by decide +kernel) ⟨Nat.le_of_ble_eq_true rfl, Nat.le_of_ble_eq_true rfl⟩) rfl rfl rfl hl.1 rfl (Nat.le_of_ble_eq_true rfl) ⟨Nat.zero_le _, Nat.zero_le _⟩ dX0_pass_107 (fun X107 H locs hp107 h => ?_)
                        obtain ⟨hX, t1, hQm⟩ := hp107
                        refine lv_aload_n Z.1 Z.2.1 dX0_pass_110 rfl (lv_at hl 1 rfl) ?_
                        refine c_get Z h 5 (by decide) q37 rfl dX0_pass_111 ?_
                        refine lv_iload_n Z.1 Z.2.1 dX0_pass_114 rfl (lv_at hl 0 rfl) ?_
                        refine i_const Z dX0_pass_115 ?_
                        refine g_ast Z h (c_at_5 dA ad) (c_set_5 dA ad) (by decide) (i := V 18 (0)) (v := 2) (by omega) dX0_pass_116 (fun H locs h => ?_)
                        have hX := okX_set hX 5 (V 18 (0)) (2) (by omega)
                        refine lv_goto (tgt := 66) Z.1 Z.2.1 dX0_pass_117 (by decide) ?_
                        have s : ∀ k, k ≠ 5 → k ≠ 9 → k ≠ 10 → k ≠ 11 → k ≠ 17 → k ≠ 18 → (sU X107 5 (V 18 (0)) (2)) k = V k := fun k k5 k9 k10 k11 k17 k18 => by rw [sU_k k5, t1 k k9 k10 k11, f1 k k17 k18]
                        have s5 : (sU X107 5 (V 18 (0)) (2)) 5 = uI (V 5) (V 18 0) 2 := by rw [sU_u, t1 5 (by decide) (by decide) (by decide), f1 5 (by decide) (by decide)]
                        have s17 : (sU X107 5 (V 18 (0)) (2)) 17 = X92 17 := by rw [sU_k (by decide), t1 17 (by decide) (by decide) (by decide)]
                        have s18 : (sU X107 5 (V 18 (0)) (2)) 18 = X92 18 := by rw [sU_k (by decide), t1 18 (by decide) (by decide) (by decide)]
                        have v5 : V 5 (V 18 0) = 0 := by rw [← f1 5 (by decide) (by decide)]; exact c102
                        have hOU9 : OU (sU X107 5 (V 18 (0)) (2)) := ⟨OL_congr hOv.1 (by rw [s 14 (by decide) (by decide) (by decide) (by decide) (by decide) (by decide)]) (s 15 (by decide) (by decide) (by decide) (by decide) (by decide) (by decide)) (fun b _ => by rw [s 7 (by decide) (by decide) (by decide) (by decide) (by decide) (by decide)]) (fun b => by
                            unfold isOut
                            rw [s 0 (by decide) (by decide) (by decide) (by decide) (by decide) (by decide), s5]
                            by_cases e : b = V 18 0
                            · rw [e, uI_s, v5]; omega
                            · rw [uI_n e]), HL_congr hOv.2 (by rw [s 0 (by decide) (by decide) (by decide) (by decide) (by decide) (by decide)]) (s 16 (by decide) (by decide) (by decide) (by decide) (by decide) (by decide)) (fun b _ _ => by
                            rw [s5]
                            by_cases e : b = V 18 0
                            · rw [e, uI_s, v5]; omega
                            · rw [uI_n e]) (s 6 (by decide) (by decide) (by decide) (by decide) (by decide) (by decide))⟩
                        have hLV9 : LV (sU X107 5 (V 18 (0)) (2)) := LV_pop l3 l4 (by rw [s17, s18, f2]; exact f3) (by rw [s17, s18, f2]; exact f4) (s 8 (by decide) (by decide) (by decide) (by decide) (by decide) (by decide)) (s 0 (by decide) (by decide) (by decide) (by decide) (by decide) (by decide)) (fun b w => by
                            rw [s5] at w
                            by_cases e : b = V 18 0
                            · rw [e, uI_s] at w; omega
                            · rw [uI_n e] at w; exact ⟨w, e⟩)
                        have h8 : 0 ≤ X 8 (V 18 0) ∧ X 8 (V 18 0) ≤ X 19 0 + n0 := by rw [← v8]; omega
                        exact ih_inner  ((sU X107 5 (V 18 (0)) (2))) _ _ _ (by rw [s17]; omega) ⟨hX, HQm.out hQm (by omega), hLV9, hOU9⟩ (PA2_step hA2 (by omega) (by omega) v5 h8 s5 (fun f hf h5 => by have w := cmn_ne hf; exact s f h5 w.1 w.2.1 w.2.2.1 w.2.2.2.2.2.2.1 w.2.2.2.2.2.2.2.1)) h (lv_sub hl [1, 2, 3] rfl)
              exact inner (41)  Y _ _ _ (by omega) hI2 hE1.1 h (lv_sub hl [0, 1, 2] rfl)
            · refine lv_aload_n Z.1 Z.2.1 dX0_pass_50 rfl (lv_at hl 0 rfl) ?_
              refine lv_aload_n Z.1 Z.2.1 dX0_pass_51 rfl (lv_at hl 0 rfl) ?_
              refine c_get Z h 15 (by decide) q47 rfl dX0_pass_52 ?_
              refine i_const Z dX0_pass_55 ?_
              refine g_ald Z h (c_at_15 dA ad) (by decide) (v := Y 15 (0)) (by omega) rfl dX0_pass_56 ?_
              have o16 := hX 15 (0)
              refine g_callv (As := [.int (iI (Y 15 (0)))]) (rest := []) (q := (RX0, TX0, 21)) (ci := 0) Z h (metX0_comeBack l D dA A ad Y (Y 15 (0)) hX (by omega) y1 y6 hQy hLy hOy hmn.1) (cwV 1 Z.2.2.2.2.1 (lw_V q163 q165 qs11 q22 q166) rfl rfl rfl (by decide +kernel) ⟨Nat.le_of_ble_eq_true rfl, Nat.le_of_ble_eq_true rfl⟩) rfl rfl rfl hl.1 rfl (Nat.le_of_ble_eq_true rfl) ⟨Nat.zero_le _, Nat.zero_le _⟩ dX0_pass_57 (fun X57 H locs hp57 h => ?_)
              obtain ⟨hX, r5, rk, hQ4, hL4, hO4, r14⟩ := hp57
              refine i_inc (lv' := [(2, .int (iI (k + 1))), (0, .ref (ad 0)), (1, .int (iI (n0)))]) Z dX0_pass_60 hl (k := 2) rfl (by decide) rfl (fun ls hl => ?_)
              refine lv_goto (tgt := 25) Z.1 Z.2.1 dX0_pass_63 (by decide) ?_
              exact ih (k + 1) X57 _ _ _ (by omega) ⟨hX, hQ4, hL4, hO4⟩ (PA1_step hA hmn.1 (by omega) r5 rk) h (lv_sub hl [1, 2, 0] rfl)
      exact loop (7) 0 ((sU X 19 (0) ((X 19 (0)) + n0))) _ _ _ (by rw [k19 14 (by decide)]; omega) hI1 PA1_0 h (lv_sub hl [1, 2, 0] rfl)
    · refine i_bipush Z dX0_pass_10 (by decide) ?_
      exact g_ireturn Z hr hlocks h rfl (⟨hI, Or.inl ⟨by omega, rfl, EQ.rf X⟩⟩) dX0_pass_12
end
section
/-! the bounds of the common fields, from call to call -/
theorem BC_EQ {N : Int} {X Y : zS} (h : BC N X) (e : EQ Y X) : BC N Y := by
  obtain ⟨b0, b1, b3, b4, b5, b6, b7, b8, b12, b13, b19⟩ := h
  have c : ∀ k, cmn k → ∀ i, Y k i = X k i := e
  have e19 := c 19 (by unfold cmn; decide) 0
  refine ⟨?_, fun a => ?_, fun a => ?_, fun a => ?_, fun a => ?_, fun a => ?_, fun a => ?_, fun a => ?_, fun a => ?_, fun a => ?_, ?_⟩
  · rw [c 0 (by unfold cmn; decide)]; exact b0
  · rw [c 1 (by unfold cmn; decide)]; exact b1 a
  · rw [c 3 (by unfold cmn; decide)]; exact b3 a
  · rw [c 4 (by unfold cmn; decide)]; exact b4 a
  · rw [c 5 (by unfold cmn; decide)]; exact b5 a
  · rw [c 6 (by unfold cmn; decide)]; exact b6 a
  · rw [c 7 (by unfold cmn; decide), e19]; exact b7 a
  · rw [c 8 (by unfold cmn; decide), e19]; exact b8 a
  · rw [c 12 (by unfold cmn; decide)]; exact b12 a
  · rw [c 13 (by unfold cmn; decide)]; exact b13 a
  · rw [e19]; exact b19
theorem BC_up {N : Int} {X : zS} (h : BC N X) : BC (N + 1) X := by
  obtain ⟨b0, b1, b3, b4, b5, b6, b7, b8, b12, b13, b19⟩ := h
  exact ⟨b0, b1, b3, fun a => by have := b4 a; omega, b5, b6, b7, b8, b12, b13, by omega⟩
theorem BC_set {N : Int} {X : zS} {k : Nat} {i v T : Int} (h : BC N X) (hT : X 19 0 = T) (h19 : k ≠ 19) (h0 : k = 0 → 0 ≤ v ∧ v ≤ 40) (h1 : k = 1 → 0 ≤ v ∧ v ≤ 2) (h3 : k = 3 → 0 ≤ v ∧ v ≤ 3) (h4 : k = 4 → 0 ≤ v ∧ v ≤ N) (h5 : k = 5 → 0 ≤ v ∧ v ≤ 3) (h6 : k = 6 → 0 ≤ v ∧ v ≤ 2) (h7 : k = 7 → 0 ≤ v ∧ v ≤ T + 20) (h8 : k = 8 → -1 ≤ v ∧ v ≤ T + 50) (h12 : k = 12 → 0 ≤ v ∧ v ≤ 20) (h13 : k = 13 → 0 ≤ v ∧ v ≤ 5) : BC N (sU X k i v) := by
  obtain ⟨b0, b1, b3, b4, b5, b6, b7, b8, b12, b13, b19⟩ := h
  subst hT
  have e19 : sU X k i v 19 = X 19 := sU_k (fun w => h19 w.symm)
  unfold BC
  rw [e19]
  refine ⟨?_, fun a => ?_, fun a => ?_, fun a => ?_, fun a => ?_, fun a => ?_, fun a => ?_, fun a => ?_, fun a => ?_, fun a => ?_, b19⟩
  · unfold sU; split
    · rename_i w; exact h0 w.1.symm
    · exact b0
  · unfold sU; split
    · rename_i w; exact h1 w.1.symm
    · exact b1 a
  · unfold sU; split
    · rename_i w; exact h3 w.1.symm
    · exact b3 a
  · unfold sU; split
    · rename_i w; exact h4 w.1.symm
    · exact b4 a
  · unfold sU; split
    · rename_i w; exact h5 w.1.symm
    · exact b5 a
  · unfold sU; split
    · rename_i w; exact h6 w.1.symm
    · exact b6 a
  · unfold sU; split
    · rename_i w; exact h7 w.1.symm
    · exact b7 a
  · unfold sU; split
    · rename_i w; exact h8 w.1.symm
    · exact b8 a
  · unfold sU; split
    · rename_i w; exact h12 w.1.symm
    · exact b12 a
  · unfold sU; split
    · rename_i w; exact h13 w.1.symm
    · exact b13 a
theorem back_r3 {X : zS} {a : Int} : 0 ≤ back X a ∧ back X a ≤ 3 := by
  unfold back
  split <;> omega
/-- only states change -/
theorem BC_st {N : Int} {X Y : zS} (h : BC N X) (hk : ∀ k, k ≠ 5 → Y k = X k) (h5 : ∀ a, 0 ≤ Y 5 a ∧ Y 5 a ≤ 3) : BC N Y := by
  unfold BC
  rw [hk 0 (by decide), hk 1 (by decide), hk 3 (by decide), hk 4 (by decide), hk 6 (by decide), hk 7 (by decide), hk 8 (by decide), hk 12 (by decide), hk 13 (by decide), hk 19 (by decide)]
  obtain ⟨b0, b1, b3, b4, b5, b6, b7, b8, b12, b13, b19⟩ := h
  exact ⟨b0, b1, b3, b4, h5, b6, b7, b8, b12, b13, b19⟩
theorem BC_s5 {N v a : Int} {X : zS} (h : BC N X) (hv : 0 ≤ v ∧ v ≤ 3) : BC N (sU X 5 a v) := by
  refine BC_st h (fun k hk => sU_k hk) (fun b => ?_)
  unfold sU; split
  · exact hv
  · exact h.2.2.2.2.1 b
theorem bc_pub {N q b pr lf z : Int} {X Y : zS} (h : BC N X) (s : spPub q b pr lf X z Y) : BC (N + 1) Y := by
  refine BC_up ?_
  rcases s with ⟨_, _, e⟩ | ⟨_, _, _, e⟩ | ⟨_, _, _, _, e⟩ | ⟨hq, hn, hf, _, e⟩
  · exact BC_EQ h e
  · exact BC_EQ h e
  · exact BC_EQ h e
  · refine BC_EQ ?_ e
    unfold pubS
    have hb0 := h.1
    have hb4 := (h.2.2.2.1 0)
    have hb19 := h.2.2.2.2.2.2.2.2.2.2
    have hlf : -1 ≤ (if 0 < lf then X 19 0 + lf else -1) ∧ (if 0 < lf then X 19 0 + lf else -1) ≤ X 19 0 + 50 := by
      split <;> omega
    refine BC_set (T := X 19 0) ?_ rfl (by decide) (by omega) (by omega) (by omega) (by omega) (by omega) (by omega) (by omega) (by omega) (by omega) (by omega)
    refine BC_set (T := X 19 0) ?_ rfl (by decide) (by omega) (by omega) (by omega) (by omega) (by omega) (by omega) (by omega) (fun _ => hlf) (by omega) (by omega)
    refine BC_set (T := X 19 0) ?_ rfl (by decide) (by omega) (by omega) (by omega) (by omega) (by omega) (by omega) (by omega) (by omega) (by omega) (by omega)
    refine BC_set (T := X 19 0) ?_ rfl (by decide) (by omega) (by omega) (by omega) (by omega) (by omega) (by omega) (by omega) (by omega) (by omega) (by omega)
    refine BC_set (T := X 19 0) ?_ rfl (by decide) (by omega) (by omega) (by omega) (by omega) (by omega) (by omega) (by omega) (by omega) (by omega) (by omega)
    refine BC_set (T := X 19 0) ?_ rfl (by decide) (by omega) (by omega) (by omega) (by omega) (by omega) (by omega) (by omega) (by omega) (by omega) (by omega)
    exact BC_set (T := X 19 0) h rfl (by decide) (by omega) (by omega) (by omega) (by omega) (by omega) (by omega) (by omega) (by omega) (by omega) (by omega)
theorem bc_take {N q c z : Int} {X Y : zS} (h : BC N X) (s : spTake q c X z Y) : BC (N + 1) Y := by
  rcases s with ⟨_, _, e⟩ | ⟨_, _, _, e⟩ | ⟨_, _, _, _, e⟩ | ⟨_, _, _, _, _, e⟩ | ⟨hq, hc, _, _, e⟩
  · exact BC_up (BC_EQ h e)
  · exact BC_up (BC_EQ h e)
  · exact BC_up (BC_EQ h e)
  · exact BC_up (BC_EQ h e)
  · refine BC_EQ ?_ e
    unfold tkS
    have hb4 := h.2.2.2.1 z
    have hb12 := h.2.2.2.2.2.2.2.2.1 q
    have hb19 := h.2.2.2.2.2.2.2.2.2.2
    refine BC_set (T := X 19 0) ?_ rfl (by decide) (by omega) (by omega) (by omega) (by omega) (by omega) (by omega) (by omega) (by omega) (by omega) (by omega)
    refine BC_set (T := X 19 0) ?_ rfl (by decide) (by omega) (by omega) (by omega) (by omega) (by omega) (by omega) (by omega) (by omega) (by omega) (by omega)
    refine BC_set (T := X 19 0) ?_ rfl (by decide) (by omega) (by omega) (by omega) (by omega) (by omega) (by omega) (by omega) (by omega) (by omega) (by omega)
    exact BC_s5 (BC_up h) (by omega)
theorem bc_ack {N c a z : Int} {X Y : zS} (h : BC N X) (s : spAck c a X z Y) : BC (N + 1) Y := by
  refine BC_up ?_
  rcases s with ⟨_, _, e⟩ | ⟨_, _, _, e⟩ | ⟨_, _, _, e⟩
  · exact BC_EQ h e
  · exact BC_EQ h e
  · exact BC_EQ (BC_s5 h (by omega)) e
theorem bc_ref {N c a z : Int} {X Y : zS} (h : BC N X) (s : spRef c a X z Y) : BC (N + 1) Y := by
  refine BC_up ?_
  rcases s with ⟨_, _, e⟩ | ⟨_, _, _, e⟩ | ⟨_, _, _, e⟩
  · exact BC_EQ h e
  · exact BC_EQ h e
  · exact BC_EQ (BC_s5 h back_r3) e
theorem bc_lose {N c z : Int} {X Y : zS} (h : BC N X) (s : spLose c X z Y) : BC (N + 1) Y := by
  refine BC_up ?_
  rcases s with ⟨_, _, e⟩ | ⟨_, _, e⟩
  · exact BC_EQ h e
  · refine BC_EQ (BC_st h (fun k hk => ?_) (fun a => ?_)) e
    · funext a
      unfold loS
      rw [if_neg (fun w => hk w.1)]
    · unfold loS
      split
      · exact back_r3
      · exact h.2.2.2.2.1 a
theorem bc_ren {N c a z : Int} {X Y : zS} (h : BC N X) (s : spRen c a X z Y) : BC (N + 1) Y := by
  refine BC_up ?_
  rcases s with ⟨_, _, e⟩ | ⟨_, _, _, e⟩ | ⟨_, _, _, e⟩
  · exact BC_EQ h e
  · exact BC_EQ h e
  · have hb12 := h.2.2.2.2.2.2.2.2.1 (X 1 a)
    have hb19 := h.2.2.2.2.2.2.2.2.2.2
    refine BC_EQ ?_ e
    exact BC_set (T := X 19 0) h rfl (by decide) (by omega) (by omega) (by omega) (by omega) (by omega) (by omega) (by omega) (by omega) (by omega) (by omega)
theorem pa2_rng {X : zS} {t a : Int} (h : 0 ≤ X 5 a ∧ X 5 a ≤ 3) : 0 ≤ pa2 X t a ∧ pa2 X t a ≤ 3 := by
  have h1 : 0 ≤ pa1 X t a ∧ pa1 X t a ≤ 3 := by
    unfold pa1
    split
    · exact back_r3
    · exact h
  unfold pa2
  split
  · omega
  · exact h1
theorem paS_k {X : zS} {n : Int} {k : Nat} (h5 : k ≠ 5) (h19 : k ≠ 19) : paS X n k = X k := by
  funext a
  unfold paS
  rw [if_neg (fun w => h19 w.1), if_neg (fun w => h5 w.1)]
theorem bc_pass {N n z : Int} {X Y : zS} (h : BC N X) (s : spPass n X z Y) : BC (N + 1) Y := by
  rcases s with ⟨_, _, e⟩ | ⟨hn, _, e⟩
  · exact BC_up (BC_EQ h e)
  · refine BC_EQ ?_ e
    have e19 : paS X n 19 0 = X 19 0 + n := by
      unfold paS
      rw [if_pos ⟨rfl, rfl⟩]
    have hn2 : 0 ≤ n ∧ n ≤ 100 := by omega
    obtain ⟨b0, b1, b3, b4, b5, b6, b7, b8, b12, b13, b19⟩ := h
    unfold BC
    rw [e19, paS_k (k := 0) (by decide) (by decide), paS_k (k := 1) (by decide) (by decide), paS_k (k := 3) (by decide) (by decide), paS_k (k := 4) (by decide) (by decide), paS_k (k := 6) (by decide) (by decide), paS_k (k := 7) (by decide) (by decide), paS_k (k := 8) (by decide) (by decide), paS_k (k := 12) (by decide) (by decide), paS_k (k := 13) (by decide) (by decide)]
    refine ⟨b0, b1, b3, fun a => ?_, fun a => ?_, b6, fun a => ?_, fun a => ?_, b12, b13, by omega⟩
    · have := b4 a; omega
    · unfold paS
      rw [if_neg (fun w => absurd w.1 (by decide))]
      split
      · exact pa2_rng (b5 a)
      · exact b5 a
    · have := b7 a; omega
    · have := b8 a; omega
theorem bc_tune {N q pa li z : Int} {X Y : zS} (h : BC N X) (s : spTune q pa li X z Y) : BC (N + 1) Y := by
  refine BC_up ?_
  rcases s with ⟨_, _, e⟩ | ⟨_, _, _, e⟩ | ⟨_, hn, _, e⟩
  · exact BC_EQ h e
  · exact BC_EQ h e
  · refine BC_EQ ?_ e
    refine BC_set (T := X 19 0) ?_ rfl (by decide) (by omega) (by omega) (by omega) (by omega) (by omega) (by omega) (by omega) (by omega) (by omega) (by omega)
    exact BC_set (T := X 19 0) h rfl (by decide) (by omega) (by omega) (by omega) (by omega) (by omega) (by omega) (by omega) (by omega) (by omega) (by omega)
theorem bc_rev {N q z : Int} {X Y : zS} (hN : 0 ≤ N) (h : BC N X) (s : spRev q X z Y) : BC (N + 1) Y := by
  refine BC_up ?_
  rcases s with ⟨_, _, e⟩ | ⟨_, _, e⟩
  · exact BC_EQ h e
  · refine BC_EQ ?_ e
    have hk : ∀ k, k ≠ 5 → k ≠ 4 → reS X q k = X k := by
      intro k h5 h4
      funext a
      unfold reS
      rw [if_neg]
      intro w
      rcases w.1 with v | v
      · exact h5 v
      · exact h4 v
    obtain ⟨b0, b1, b3, b4, b5, b6, b7, b8, b12, b13, b19⟩ := h
    unfold BC
    rw [hk 0 (by decide) (by decide), hk 1 (by decide) (by decide), hk 3 (by decide) (by decide), hk 6 (by decide) (by decide), hk 7 (by decide) (by decide), hk 8 (by decide) (by decide), hk 12 (by decide) (by decide), hk 13 (by decide) (by decide), hk 19 (by decide) (by decide)]
    refine ⟨b0, b1, b3, fun a => ?_, fun a => ?_, b6, b7, b8, b12, b13, b19⟩
    · unfold reS
      split
      · omega
      · exact b4 a
    · unfold reS
      split
      · omega
      · exact b5 a
/-! the class at its start -/
theorem IC_empty {Y : zS} (hX : okX Y) (y0 : Y 0 0 = 0) (y9 : ∀ r, 0 ≤ r → r ≤ 2 → Y 9 r = 0) (y14 : Y 14 0 = 0) (y16 : ∀ r, 0 ≤ r → r ≤ 2 → Y 16 r = 0) (y17 : Y 17 0 = 0) : IC Y := by
  have hQ2 : HQ Y := by
    intro r r0 r1
    rw [y9 r r0 r1]
    exact ⟨⟨Int.le_refl 0, fun j j0 j1 => by omega, fun b w => by have := w.1; have := w.2.1; omega⟩, fun j j0 j1 => by omega⟩
  have hL2 : LV Y := ⟨fun _ => False, fun _ => 0, by rw [y17]; exact ⟨Int.le_refl 0, fun j j0 j1 => by omega, fun b w => w.elim⟩, by rw [y17]; exact fun j j0 j1 => by omega, fun b w => w.elim, fun b b0 b1 => by omega⟩
  have hO2 : OU Y := by
    refine ⟨⟨⟨fun _ => 0, ?_⟩, fun i j i0 ij j1 => by omega⟩, fun c c0 c1 => ?_⟩
    · rw [y14]; exact ⟨Int.le_refl 0, fun j j0 j1 => by omega, fun b w => by have := w.1; have := w.2.1; omega⟩
    · rw [y16 c c0 c1]
      unfold outN
      rw [y0]
      exact ⟨rfl, by omega⟩
  exact ⟨hX, hQ2, hL2, hO2⟩
def zZ : zS := fun _ _ => 0
def zA : zS := sU (sU (sU (sU (sU (sU zZ 12 0 5) 13 0 3) 12 1 5) 13 1 3) 12 2 5) 13 2 3
theorem zA_IC : IC zA := by
  have h0 : okX zZ := fun k i => by show -2147483648 ≤ (0 : Int) ∧ (0 : Int) ≤ 2147483647; omega
  refine IC_empty ?_ rfl (fun _ _ _ => rfl) rfl (fun _ _ _ => rfl) rfl
  exact okX_set (okX_set (okX_set (okX_set (okX_set (okX_set h0 12 0 5 (by omega)) 13 0 3 (by omega)) 12 1 5 (by omega)) 13 1 3 (by omega)) 12 2 5 (by omega)) 13 2 3 (by omega)
theorem zA_BC : BC 0 zA := by
  have h0 : BC 0 zZ := by
    unfold BC zZ
    refine ⟨by omega, fun _ => by omega, fun _ => by omega, fun _ => by omega, fun _ => by omega, fun _ => by omega, fun _ => by omega, fun _ => by omega, fun _ => by omega, fun _ => by omega, by omega⟩
  unfold zA
  refine BC_set (T := 0) ?_ rfl (by decide) (by omega) (by omega) (by omega) (by omega) (by omega) (by omega) (by omega) (by omega) (by omega) (by omega)
  refine BC_set (T := 0) ?_ rfl (by decide) (by omega) (by omega) (by omega) (by omega) (by omega) (by omega) (by omega) (by omega) (by omega) (by omega)
  refine BC_set (T := 0) ?_ rfl (by decide) (by omega) (by omega) (by omega) (by omega) (by omega) (by omega) (by omega) (by omega) (by omega) (by omega)
  refine BC_set (T := 0) ?_ rfl (by decide) (by omega) (by omega) (by omega) (by omega) (by omega) (by omega) (by omega) (by omega) (by omega) (by omega)
  refine BC_set (T := 0) ?_ rfl (by decide) (by omega) (by omega) (by omega) (by omega) (by omega) (by omega) (by omega) (by omega) (by omega) (by omega)
  exact BC_set (T := 0) h0 rfl (by decide) (by omega) (by omega) (by omega) (by omega) (by omega) (by omega) (by omega) (by omega) (by omega) (by omega)
/-- the reference's world depends on the common fields alone -/
theorem mWG_EQ {dA : ClassId} {ad : Nat → Nat} {X Y : zS} (h : EQ Y X) : mWG dA ad (gG Y) = mWG dA ad (gG X) := by
  have g : ∀ k, cmn k → gG Y k = gG X k := fun k hk => by
    funext j
    show iI (Y k (j : Int)) = iI (X k (j : Int))
    rw [h k hk]
  unfold mWG mF
  rw [g 0 (by unfold cmn; decide), g 1 (by unfold cmn; decide), g 2 (by unfold cmn; decide), g 3 (by unfold cmn; decide), g 4 (by unfold cmn; decide), g 5 (by unfold cmn; decide), g 6 (by unfold cmn; decide), g 7 (by unfold cmn; decide), g 8 (by unfold cmn; decide), g 12 (by unfold cmn; decide), g 13 (by unfold cmn; decide), g 19 (by unfold cmn; decide)]
end
section
/-! the constructors -/
section NW
variable {p : Program} {l : Launch} {e : Env} {R : Room} {s : State} {m : MethodId} {args : Array Value} {below : List Frame} {meth : Method} {c : Code} {H H0 : Heap} {locs : List Loc} {cells slots : Nat} {Q : State → Prop}
variable {cc : ByteArray} {pc nL : Nat} {ls : Array Slot} {rest : List Value} {D : va_G} {dA : ClassId} {A : Nat → Prop}
theorem c_mk (Z : gC RX0 D dA p s m args c cc nL) {h0 : Nat} {fs : List Value} {ws : va_W} (h : gH D A ((h0, .inr (0, fs)) :: ws) H0 H locs) (hA : ∀ q, H0.size ≤ q → A q) (hin : meth.name = "<init>") (k : Nat) (hk : k < 21) (hlen : k < fs.length) {index : Nat} (hl : Cond.fieldLink RX0 index (TX0 k).1 (TX0 k).2.1 (TX0 k).2.2.1 ∈ lw_all) (hfin : (TX0 k).2.2.2 = true) (hdecl : (TX0 k).1 = RX0) (hd : parseFieldDescriptor (TX0 k).2.2.1 = some (.array .int)) {n : Nat} {z : Int} (hz : z = (n : Int)) (hn : n ≤ 1000) (hcs : cells + 1 ≤ R.cells) (hss : slots + n ≤ R.slots) (hdg : decode cc pc = .ok (.newarray .int, 2)) (hdg2 : decode cc (pc + 2) = .ok (.putfield index, 3))
    (kk : ∀ (q : Nat) (H1 : Heap) (locs1 : List Loc), gH D A (((h0, .inr (0, fs.set k (.ref q))) :: ws) ++ [(q, .inl (dA, n, .inl (fun _ => iI 0)))]) H0 H1 locs1 → W p l e R s m args below meth c H1 locs1 (cells + 1) (slots + n) Q (F0 m (pc + 5) ls rest)) : W p l e R s m args below meth c H locs cells slots Q (F0 m pc ls (.int (iI z) :: .ref h0 :: rest)) := by
  subst hz
  refine va_newa (atype := .int) (a0 := (n, .inl (fun _ => iI 0))) (N' := n) (ty := .int) Z.1 Z.2.1 (Z.2.2.2.2.1 _ q96) rfl Z.2.2.2.2.2 h.1 h.2.1 h.2.2 hA (fun _ => rfl) (fun w => by
    have w2 := (iI_lt (a := (n : Int)) (b := 0) (by omega)).mp w
    omega) (by rw [iI_cl (by omega)]; omega) (by show n * 4 ≤ 536870912; omega) hcs hss hdg (fun q cA H1 hK1 hP hD hS => ?_)
  have a1 : s.vm.findClass ("[" ++ FieldType.int.toString) = some cA := (hK1.2 1 (cA, .int) rfl).2
  have a2 : s.vm.findClass ("[" ++ FieldType.int.toString) = some dA := (hK1.2 0 (dA, .int) rfl).2
  have ea : cA = dA := Option.some.inj (a1.symm.trans a2)
  subst ea
  exact va_putF (D := D) (ci := 0) (v := .ref q) (ty := .array .int) (C := RX0) (T := TX0) (N := 21) Z.1 Z.2.1 Z.2.2.2.2.1 in_X0 tyX0 tyX0_ok nmX0 Z.2.2.2.1 Z.2.2.2.2.2 hP hD hS 0 rfl rfl k hk (Z.2.2.2.2.1 _ hl) (fun _ h9 => h9) hfin hin hdecl hd rfl rfl hlen hdg2 (fun H2 locs2 hP2 hD2 hS2 => kk q H2 locs2 ⟨hP2, hD2, hS2⟩)
theorem m_mk (Z : gC RX1 D dA p s m args c cc nL) {h0 : Nat} {fs : List Value} {ws : va_W} (h : gH D A ((h0, .inr (1, fs)) :: ws) H0 H locs) (hA : ∀ q, H0.size ≤ q → A q) (hin : meth.name = "<init>") (k : Nat) (hk : k < 12) (hlen : k < fs.length) {index : Nat} (hl : Cond.fieldLink RX1 index (TX1 k).1 (TX1 k).2.1 (TX1 k).2.2.1 ∈ lw_all) (hfin : (TX1 k).2.2.2 = true) (hdecl : (TX1 k).1 = RX1) (hd : parseFieldDescriptor (TX1 k).2.2.1 = some (.array .int)) {n : Nat} {z : Int} (hz : z = (n : Int)) (hn : n ≤ 1000) (hcs : cells + 1 ≤ R.cells) (hss : slots + n ≤ R.slots) (hdg : decode cc pc = .ok (.newarray .int, 2)) (hdg2 : decode cc (pc + 2) = .ok (.putfield index, 3))
    (kk : ∀ (q : Nat) (H1 : Heap) (locs1 : List Loc), gH D A (((h0, .inr (1, fs.set k (.ref q))) :: ws) ++ [(q, .inl (dA, n, .inl (fun _ => iI 0)))]) H0 H1 locs1 → W p l e R s m args below meth c H1 locs1 (cells + 1) (slots + n) Q (F0 m (pc + 5) ls rest)) : W p l e R s m args below meth c H locs cells slots Q (F0 m pc ls (.int (iI z) :: .ref h0 :: rest)) := by
  subst hz
  refine va_newa (atype := .int) (a0 := (n, .inl (fun _ => iI 0))) (N' := n) (ty := .int) Z.1 Z.2.1 (Z.2.2.2.2.1 _ q96) rfl Z.2.2.2.2.2 h.1 h.2.1 h.2.2 hA (fun _ => rfl) (fun w => by
    have w2 := (iI_lt (a := (n : Int)) (b := 0) (by omega)).mp w
    omega) (by rw [iI_cl (by omega)]; omega) (by show n * 4 ≤ 536870912; omega) hcs hss hdg (fun q cA H1 hK1 hP hD hS => ?_)
  have a1 : s.vm.findClass ("[" ++ FieldType.int.toString) = some cA := (hK1.2 1 (cA, .int) rfl).2
  have a2 : s.vm.findClass ("[" ++ FieldType.int.toString) = some dA := (hK1.2 0 (dA, .int) rfl).2
  have ea : cA = dA := Option.some.inj (a1.symm.trans a2)
  subst ea
  exact va_putF (D := D) (ci := 1) (v := .ref q) (ty := .array .int) (C := RX1) (T := TX1) (N := 12) Z.1 Z.2.1 Z.2.2.2.2.1 in_X1 tyX1 tyX1_ok nmX1 Z.2.2.2.1 Z.2.2.2.2.2 hP hD hS 0 rfl rfl k hk (Z.2.2.2.2.1 _ hl) (fun _ h9 => h9) hfin hin hdecl hd rfl rfl hlen hdg2 (fun H2 locs2 hP2 hD2 hS2 => kk q H2 locs2 ⟨hP2, hD2, hS2⟩)
end NW
def cD : List Value := [.int (iI 0), .null, .null, .null, .null, .null, .null, .null, .null, .null, .null, .null, .null, .null, .int (iI 0), .null, .null, .int (iI 0), .null, .int (iI 0), .null]
def cB (D : va_G) (dA : ClassId) (A : Nat → Prop) (ad : Nat → Nat) (t : State) : Prop := va_P D vwCl (cWG dA ad (gG zA)) t.heap ∧ va_K D vwCl [(dA, .int)] t ∧ va_D A (cWG dA ad (gG zA))
set_option maxHeartbeats 4000000 in
set_option maxRecDepth 100000 in
theorem metX0_init (l : Launch) (D : va_G) (dA : ClassId) (h0 sz : Nat) : Met l yX0_init (ws_ yX0_init cX0_init 2 none) ({ frames := 1, cells := 17, slots := 578, locals := 14 }) (va_Pc [.ref h0] (fun U => U.heap.size = sz ∧ va_P D vwCl [(h0, .inr (0, cD))] U.heap ∧ va_K D vwCl [(dA, .int)] U ∧ va_D (fun _ => True) [(h0, .inr (0, cD))])) (va_Qv (fun ad : Nat → Nat => ad 0 = h0) (cB D dA (va_A [(h0, .inr (0, cD))] sz)) (va_A [(h0, .inr (0, cD))] sz)) 17 578 (va_A [(h0, .inr (0, cD))] sz) := by
  refine Met.ofW (cc := cX0_init) (maxL := 2) (ret := none) (by decide) rfl ?_
  intro p e s m args below meth c s₁ B hml hv
  obtain ⟨rfl, hsz, hP, hK, hD0⟩ := hv
  have hr := B.returns
  have hts := atoms_spec (ws := ws_ yX0_init cX0_init 2 none) B.pre
  have hts : ∀ w ∈ lw_all, w.before _ s = true := fun w h => hts w (List.mem_cons_of_mem _ h)
  have Z : gC RX0 D dA p s m ([.ref h0] : List Value).toArray c cX0_init 2 := ⟨B.exec, B.bytes, hml, findClass_of_methodNamed B.named, hts, hK⟩
  have hlocks := B.notSynchronized
  have hin : meth.name = "<init>" := (name_of_methodNamed B.named B.method).1
  subst hsz
  have hD := hD0.self (sz := s.heap.size)
  generalize hAe : va_A [(h0, .inr (0, cD))] s.heap.size = A at hD ⊢
  have hA : ∀ q : Nat, s.heap.size ≤ q → A q := fun q h => by rw [← hAe]; exact Or.inr h
  have h : gH D A [(h0, .inr (0, cD))] s.heap s.heap [] := ⟨hP, hD, va_S.rf⟩
  have hl := lv_entry ([.ref h0]) (n := 2) (Nat.le_of_ble_eq_true rfl)
  rw [lg_entry_eq]
  generalize (lg_sl ([.ref h0]) ++ List.replicate (2 - (lg_sl ([.ref h0])).length) Slot.unset).toArray = ls at hl ⊢
  have hl : lv_has ls 2 [(0, .ref h0)] := hl
  refine lv_aload_n Z.1 Z.2.1 dX0_init_0 rfl (lv_at hl 0 rfl) ?_
  refine W.objInit Z.1 Z.2.1 Z.2.2.2.1 (Z.2.2.2.2.1 _ q29) (Z.2.2.2.2.1 _ q30) (Z.2.2.2.2.1 _ q31) rfl (by rw [Z.2.2.1]; exact hl.1) rfl dX0_init_1 (Nat.le_of_ble_eq_true rfl) (Nat.le_of_ble_eq_true rfl) ?_
  refine W.eq (g2 := F0 m 4 ls []) rfl ?_
  refine lv_aload_n Z.1 Z.2.1 dX0_init_4 rfl (lv_at hl 0 rfl) ?_
  refine i_bipush Z dX0_init_5 (by decide) ?_
  refine c_mk (n := 40) Z h hA hin 1 (by decide) (Nat.le_of_ble_eq_true rfl) q33 rfl rfl (by decide +kernel) rfl (by decide) (Nat.le_of_ble_eq_true rfl) (Nat.le_of_ble_eq_true rfl) dX0_init_7 dX0_init_9 (fun w1 H locs h => ?_)
  have h : gH D A [(h0, .inr (0, [.int (iI 0), .ref w1, .null, .null, .null, .null, .null, .null, .null, .null, .null, .null, .null, .null, .int (iI 0), .null, .null, .int (iI 0), .null, .int (iI 0), .null])), (w1, .inl (dA, 40, .inl (fun _ => iI 0)))] s.heap H locs := h
  refine lv_aload_n Z.1 Z.2.1 dX0_init_12 rfl (lv_at hl 0 rfl) ?_
  refine i_bipush Z dX0_init_13 (by decide) ?_
  refine c_mk (n := 40) Z h hA hin 2 (by decide) (Nat.le_of_ble_eq_true rfl) q34 rfl rfl (by decide +kernel) rfl (by decide) (Nat.le_of_ble_eq_true rfl) (Nat.le_of_ble_eq_true rfl) dX0_init_15 dX0_init_17 (fun w2 H locs h => ?_)
  have h : gH D A [(h0, .inr (0, [.int (iI 0), .ref w1, .ref w2, .null, .null, .null, .null, .null, .null, .null, .null, .null, .null, .null, .int (iI 0), .null, .null, .int (iI 0), .null, .int (iI 0), .null])), (w1, .inl (dA, 40, .inl (fun _ => iI 0))), (w2, .inl (dA, 40, .inl (fun _ => iI 0)))] s.heap H locs := h
  refine lv_aload_n Z.1 Z.2.1 dX0_init_20 rfl (lv_at hl 0 rfl) ?_
  refine i_bipush Z dX0_init_21 (by decide) ?_
  refine c_mk (n := 40) Z h hA hin 3 (by decide) (Nat.le_of_ble_eq_true rfl) q35 rfl rfl (by decide +kernel) rfl (by decide) (Nat.le_of_ble_eq_true rfl) (Nat.le_of_ble_eq_true rfl) dX0_init_23 dX0_init_25 (fun w3 H locs h => ?_)
  have h : gH D A [(h0, .inr (0, [.int (iI 0), .ref w1, .ref w2, .ref w3, .null, .null, .null, .null, .null, .null, .null, .null, .null, .null, .int (iI 0), .null, .null, .int (iI 0), .null, .int (iI 0), .null])), (w1, .inl (dA, 40, .inl (fun _ => iI 0))), (w2, .inl (dA, 40, .inl (fun _ => iI 0))), (w3, .inl (dA, 40, .inl (fun _ => iI 0)))] s.heap H locs := h
  refine lv_aload_n Z.1 Z.2.1 dX0_init_28 rfl (lv_at hl 0 rfl) ?_
  refine i_bipush Z dX0_init_29 (by decide) ?_
  refine c_mk (n := 40) Z h hA hin 4 (by decide) (Nat.le_of_ble_eq_true rfl) q36 rfl rfl (by decide +kernel) rfl (by decide) (Nat.le_of_ble_eq_true rfl) (Nat.le_of_ble_eq_true rfl) dX0_init_31 dX0_init_33 (fun w4 H locs h => ?_)
  have h : gH D A [(h0, .inr (0, [.int (iI 0), .ref w1, .ref w2, .ref w3, .ref w4, .null, .null, .null, .null, .null, .null, .null, .null, .null, .int (iI 0), .null, .null, .int (iI 0), .null, .int (iI 0), .null])), (w1, .inl (dA, 40, .inl (fun _ => iI 0))), (w2, .inl (dA, 40, .inl (fun _ => iI 0))), (w3, .inl (dA, 40, .inl (fun _ => iI 0))), (w4, .inl (dA, 40, .inl (fun _ => iI 0)))] s.heap H locs := h
  refine lv_aload_n Z.1 Z.2.1 dX0_init_36 rfl (lv_at hl 0 rfl) ?_
  refine i_bipush Z dX0_init_37 (by decide) ?_
  refine c_mk (n := 40) Z h hA hin 5 (by decide) (Nat.le_of_ble_eq_true rfl) q37 rfl rfl (by decide +kernel) rfl (by decide) (Nat.le_of_ble_eq_true rfl) (Nat.le_of_ble_eq_true rfl) dX0_init_39 dX0_init_41 (fun w5 H locs h => ?_)
  have h : gH D A [(h0, .inr (0, [.int (iI 0), .ref w1, .ref w2, .ref w3, .ref w4, .ref w5, .null, .null, .null, .null, .null, .null, .null, .null, .int (iI 0), .null, .null, .int (iI 0), .null, .int (iI 0), .null])), (w1, .inl (dA, 40, .inl (fun _ => iI 0))), (w2, .inl (dA, 40, .inl (fun _ => iI 0))), (w3, .inl (dA, 40, .inl (fun _ => iI 0))), (w4, .inl (dA, 40, .inl (fun _ => iI 0))), (w5, .inl (dA, 40, .inl (fun _ => iI 0)))] s.heap H locs := h
  refine lv_aload_n Z.1 Z.2.1 dX0_init_44 rfl (lv_at hl 0 rfl) ?_
  refine i_bipush Z dX0_init_45 (by decide) ?_
  refine c_mk (n := 40) Z h hA hin 6 (by decide) (Nat.le_of_ble_eq_true rfl) q38 rfl rfl (by decide +kernel) rfl (by decide) (Nat.le_of_ble_eq_true rfl) (Nat.le_of_ble_eq_true rfl) dX0_init_47 dX0_init_49 (fun w6 H locs h => ?_)
  have h : gH D A [(h0, .inr (0, [.int (iI 0), .ref w1, .ref w2, .ref w3, .ref w4, .ref w5, .ref w6, .null, .null, .null, .null, .null, .null, .null, .int (iI 0), .null, .null, .int (iI 0), .null, .int (iI 0), .null])), (w1, .inl (dA, 40, .inl (fun _ => iI 0))), (w2, .inl (dA, 40, .inl (fun _ => iI 0))), (w3, .inl (dA, 40, .inl (fun _ => iI 0))), (w4, .inl (dA, 40, .inl (fun _ => iI 0))), (w5, .inl (dA, 40, .inl (fun _ => iI 0))), (w6, .inl (dA, 40, .inl (fun _ => iI 0)))] s.heap H locs := h
  refine lv_aload_n Z.1 Z.2.1 dX0_init_52 rfl (lv_at hl 0 rfl) ?_
  refine i_bipush Z dX0_init_53 (by decide) ?_
  refine c_mk (n := 40) Z h hA hin 7 (by decide) (Nat.le_of_ble_eq_true rfl) q39 rfl rfl (by decide +kernel) rfl (by decide) (Nat.le_of_ble_eq_true rfl) (Nat.le_of_ble_eq_true rfl) dX0_init_55 dX0_init_57 (fun w7 H locs h => ?_)
  have h : gH D A [(h0, .inr (0, [.int (iI 0), .ref w1, .ref w2, .ref w3, .ref w4, .ref w5, .ref w6, .ref w7, .null, .null, .null, .null, .null, .null, .int (iI 0), .null, .null, .int (iI 0), .null, .int (iI 0), .null])), (w1, .inl (dA, 40, .inl (fun _ => iI 0))), (w2, .inl (dA, 40, .inl (fun _ => iI 0))), (w3, .inl (dA, 40, .inl (fun _ => iI 0))), (w4, .inl (dA, 40, .inl (fun _ => iI 0))), (w5, .inl (dA, 40, .inl (fun _ => iI 0))), (w6, .inl (dA, 40, .inl (fun _ => iI 0))), (w7, .inl (dA, 40, .inl (fun _ => iI 0)))] s.heap H locs := h
  refine lv_aload_n Z.1 Z.2.1 dX0_init_60 rfl (lv_at hl 0 rfl) ?_
  refine i_bipush Z dX0_init_61 (by decide) ?_
  refine c_mk (n := 40) Z h hA hin 8 (by decide) (Nat.le_of_ble_eq_true rfl) q40 rfl rfl (by decide +kernel) rfl (by decide) (Nat.le_of_ble_eq_true rfl) (Nat.le_of_ble_eq_true rfl) dX0_init_63 dX0_init_65 (fun w8 H locs h => ?_)
  have h : gH D A [(h0, .inr (0, [.int (iI 0), .ref w1, .ref w2, .ref w3, .ref w4, .ref w5, .ref w6, .ref w7, .ref w8, .null, .null, .null, .null, .null, .int (iI 0), .null, .null, .int (iI 0), .null, .int (iI 0), .null])), (w1, .inl (dA, 40, .inl (fun _ => iI 0))), (w2, .inl (dA, 40, .inl (fun _ => iI 0))), (w3, .inl (dA, 40, .inl (fun _ => iI 0))), (w4, .inl (dA, 40, .inl (fun _ => iI 0))), (w5, .inl (dA, 40, .inl (fun _ => iI 0))), (w6, .inl (dA, 40, .inl (fun _ => iI 0))), (w7, .inl (dA, 40, .inl (fun _ => iI 0))), (w8, .inl (dA, 40, .inl (fun _ => iI 0)))] s.heap H locs := h
  refine lv_aload_n Z.1 Z.2.1 dX0_init_68 rfl (lv_at hl 0 rfl) ?_
  refine i_const Z dX0_init_69 ?_
  refine c_mk (n := 3) Z h hA hin 9 (by decide) (Nat.le_of_ble_eq_true rfl) q41 rfl rfl (by decide +kernel) rfl (by decide) (Nat.le_of_ble_eq_true rfl) (Nat.le_of_ble_eq_true rfl) dX0_init_70 dX0_init_72 (fun w9 H locs h => ?_)
  have h : gH D A [(h0, .inr (0, [.int (iI 0), .ref w1, .ref w2, .ref w3, .ref w4, .ref w5, .ref w6, .ref w7, .ref w8, .ref w9, .null, .null, .null, .null, .int (iI 0), .null, .null, .int (iI 0), .null, .int (iI 0), .null])), (w1, .inl (dA, 40, .inl (fun _ => iI 0))), (w2, .inl (dA, 40, .inl (fun _ => iI 0))), (w3, .inl (dA, 40, .inl (fun _ => iI 0))), (w4, .inl (dA, 40, .inl (fun _ => iI 0))), (w5, .inl (dA, 40, .inl (fun _ => iI 0))), (w6, .inl (dA, 40, .inl (fun _ => iI 0))), (w7, .inl (dA, 40, .inl (fun _ => iI 0))), (w8, .inl (dA, 40, .inl (fun _ => iI 0))), (w9, .inl (dA, 3, .inl (fun _ => iI 0)))] s.heap H locs := h
  refine lv_aload_n Z.1 Z.2.1 dX0_init_75 rfl (lv_at hl 0 rfl) ?_
  refine i_bipush Z dX0_init_76 (by decide) ?_
  refine c_mk (n := 120) Z h hA hin 10 (by decide) (Nat.le_of_ble_eq_true rfl) q42 rfl rfl (by decide +kernel) rfl (by decide) (Nat.le_of_ble_eq_true rfl) (Nat.le_of_ble_eq_true rfl) dX0_init_78 dX0_init_80 (fun w10 H locs h => ?_)
  have h : gH D A [(h0, .inr (0, [.int (iI 0), .ref w1, .ref w2, .ref w3, .ref w4, .ref w5, .ref w6, .ref w7, .ref w8, .ref w9, .ref w10, .null, .null, .null, .int (iI 0), .null, .null, .int (iI 0), .null, .int (iI 0), .null])), (w1, .inl (dA, 40, .inl (fun _ => iI 0))), (w2, .inl (dA, 40, .inl (fun _ => iI 0))), (w3, .inl (dA, 40, .inl (fun _ => iI 0))), (w4, .inl (dA, 40, .inl (fun _ => iI 0))), (w5, .inl (dA, 40, .inl (fun _ => iI 0))), (w6, .inl (dA, 40, .inl (fun _ => iI 0))), (w7, .inl (dA, 40, .inl (fun _ => iI 0))), (w8, .inl (dA, 40, .inl (fun _ => iI 0))), (w9, .inl (dA, 3, .inl (fun _ => iI 0))), (w10, .inl (dA, 120, .inl (fun _ => iI 0)))] s.heap H locs := h
  refine lv_aload_n Z.1 Z.2.1 dX0_init_83 rfl (lv_at hl 0 rfl) ?_
  refine i_bipush Z dX0_init_84 (by decide) ?_
  refine c_mk (n := 40) Z h hA hin 11 (by decide) (Nat.le_of_ble_eq_true rfl) q43 rfl rfl (by decide +kernel) rfl (by decide) (Nat.le_of_ble_eq_true rfl) (Nat.le_of_ble_eq_true rfl) dX0_init_86 dX0_init_88 (fun w11 H locs h => ?_)
  have h : gH D A [(h0, .inr (0, [.int (iI 0), .ref w1, .ref w2, .ref w3, .ref w4, .ref w5, .ref w6, .ref w7, .ref w8, .ref w9, .ref w10, .ref w11, .null, .null, .int (iI 0), .null, .null, .int (iI 0), .null, .int (iI 0), .null])), (w1, .inl (dA, 40, .inl (fun _ => iI 0))), (w2, .inl (dA, 40, .inl (fun _ => iI 0))), (w3, .inl (dA, 40, .inl (fun _ => iI 0))), (w4, .inl (dA, 40, .inl (fun _ => iI 0))), (w5, .inl (dA, 40, .inl (fun _ => iI 0))), (w6, .inl (dA, 40, .inl (fun _ => iI 0))), (w7, .inl (dA, 40, .inl (fun _ => iI 0))), (w8, .inl (dA, 40, .inl (fun _ => iI 0))), (w9, .inl (dA, 3, .inl (fun _ => iI 0))), (w10, .inl (dA, 120, .inl (fun _ => iI 0))), (w11, .inl (dA, 40, .inl (fun _ => iI 0)))] s.heap H locs := h
  refine lv_aload_n Z.1 Z.2.1 dX0_init_91 rfl (lv_at hl 0 rfl) ?_
  refine i_const Z dX0_init_92 ?_
  refine c_mk (n := 3) Z h hA hin 12 (by decide) (Nat.le_of_ble_eq_true rfl) q44 rfl rfl (by decide +kernel) rfl (by decide) (Nat.le_of_ble_eq_true rfl) (Nat.le_of_ble_eq_true rfl) dX0_init_93 dX0_init_95 (fun w12 H locs h => ?_)
  have h : gH D A [(h0, .inr (0, [.int (iI 0), .ref w1, .ref w2, .ref w3, .ref w4, .ref w5, .ref w6, .ref w7, .ref w8, .ref w9, .ref w10, .ref w11, .ref w12, .null, .int (iI 0), .null, .null, .int (iI 0), .null, .int (iI 0), .null])), (w1, .inl (dA, 40, .inl (fun _ => iI 0))), (w2, .inl (dA, 40, .inl (fun _ => iI 0))), (w3, .inl (dA, 40, .inl (fun _ => iI 0))), (w4, .inl (dA, 40, .inl (fun _ => iI 0))), (w5, .inl (dA, 40, .inl (fun _ => iI 0))), (w6, .inl (dA, 40, .inl (fun _ => iI 0))), (w7, .inl (dA, 40, .inl (fun _ => iI 0))), (w8, .inl (dA, 40, .inl (fun _ => iI 0))), (w9, .inl (dA, 3, .inl (fun _ => iI 0))), (w10, .inl (dA, 120, .inl (fun _ => iI 0))), (w11, .inl (dA, 40, .inl (fun _ => iI 0))), (w12, .inl (dA, 3, .inl (fun _ => iI 0)))] s.heap H locs := h
  refine lv_aload_n Z.1 Z.2.1 dX0_init_98 rfl (lv_at hl 0 rfl) ?_
  refine i_const Z dX0_init_99 ?_
  refine c_mk (n := 3) Z h hA hin 13 (by decide) (Nat.le_of_ble_eq_true rfl) q45 rfl rfl (by decide +kernel) rfl (by decide) (Nat.le_of_ble_eq_true rfl) (Nat.le_of_ble_eq_true rfl) dX0_init_100 dX0_init_102 (fun w13 H locs h => ?_)
  have h : gH D A [(h0, .inr (0, [.int (iI 0), .ref w1, .ref w2, .ref w3, .ref w4, .ref w5, .ref w6, .ref w7, .ref w8, .ref w9, .ref w10, .ref w11, .ref w12, .ref w13, .int (iI 0), .null, .null, .int (iI 0), .null, .int (iI 0), .null])), (w1, .inl (dA, 40, .inl (fun _ => iI 0))), (w2, .inl (dA, 40, .inl (fun _ => iI 0))), (w3, .inl (dA, 40, .inl (fun _ => iI 0))), (w4, .inl (dA, 40, .inl (fun _ => iI 0))), (w5, .inl (dA, 40, .inl (fun _ => iI 0))), (w6, .inl (dA, 40, .inl (fun _ => iI 0))), (w7, .inl (dA, 40, .inl (fun _ => iI 0))), (w8, .inl (dA, 40, .inl (fun _ => iI 0))), (w9, .inl (dA, 3, .inl (fun _ => iI 0))), (w10, .inl (dA, 120, .inl (fun _ => iI 0))), (w11, .inl (dA, 40, .inl (fun _ => iI 0))), (w12, .inl (dA, 3, .inl (fun _ => iI 0))), (w13, .inl (dA, 3, .inl (fun _ => iI 0)))] s.heap H locs := h
  refine lv_aload_n Z.1 Z.2.1 dX0_init_105 rfl (lv_at hl 0 rfl) ?_
  refine i_bipush Z dX0_init_106 (by decide) ?_
  refine c_mk (n := 6) Z h hA hin 15 (by decide) (Nat.le_of_ble_eq_true rfl) q47 rfl rfl (by decide +kernel) rfl (by decide) (Nat.le_of_ble_eq_true rfl) (Nat.le_of_ble_eq_true rfl) dX0_init_108 dX0_init_110 (fun w15 H locs h => ?_)
  have h : gH D A [(h0, .inr (0, [.int (iI 0), .ref w1, .ref w2, .ref w3, .ref w4, .ref w5, .ref w6, .ref w7, .ref w8, .ref w9, .ref w10, .ref w11, .ref w12, .ref w13, .int (iI 0), .ref w15, .null, .int (iI 0), .null, .int (iI 0), .null])), (w1, .inl (dA, 40, .inl (fun _ => iI 0))), (w2, .inl (dA, 40, .inl (fun _ => iI 0))), (w3, .inl (dA, 40, .inl (fun _ => iI 0))), (w4, .inl (dA, 40, .inl (fun _ => iI 0))), (w5, .inl (dA, 40, .inl (fun _ => iI 0))), (w6, .inl (dA, 40, .inl (fun _ => iI 0))), (w7, .inl (dA, 40, .inl (fun _ => iI 0))), (w8, .inl (dA, 40, .inl (fun _ => iI 0))), (w9, .inl (dA, 3, .inl (fun _ => iI 0))), (w10, .inl (dA, 120, .inl (fun _ => iI 0))), (w11, .inl (dA, 40, .inl (fun _ => iI 0))), (w12, .inl (dA, 3, .inl (fun _ => iI 0))), (w13, .inl (dA, 3, .inl (fun _ => iI 0))), (w15, .inl (dA, 6, .inl (fun _ => iI 0)))] s.heap H locs := h
  refine lv_aload_n Z.1 Z.2.1 dX0_init_113 rfl (lv_at hl 0 rfl) ?_
  refine i_const Z dX0_init_114 ?_
  refine c_mk (n := 3) Z h hA hin 16 (by decide) (Nat.le_of_ble_eq_true rfl) q48 rfl rfl (by decide +kernel) rfl (by decide) (Nat.le_of_ble_eq_true rfl) (Nat.le_of_ble_eq_true rfl) dX0_init_115 dX0_init_117 (fun w16 H locs h => ?_)
  have h : gH D A [(h0, .inr (0, [.int (iI 0), .ref w1, .ref w2, .ref w3, .ref w4, .ref w5, .ref w6, .ref w7, .ref w8, .ref w9, .ref w10, .ref w11, .ref w12, .ref w13, .int (iI 0), .ref w15, .ref w16, .int (iI 0), .null, .int (iI 0), .null])), (w1, .inl (dA, 40, .inl (fun _ => iI 0))), (w2, .inl (dA, 40, .inl (fun _ => iI 0))), (w3, .inl (dA, 40, .inl (fun _ => iI 0))), (w4, .inl (dA, 40, .inl (fun _ => iI 0))), (w5, .inl (dA, 40, .inl (fun _ => iI 0))), (w6, .inl (dA, 40, .inl (fun _ => iI 0))), (w7, .inl (dA, 40, .inl (fun _ => iI 0))), (w8, .inl (dA, 40, .inl (fun _ => iI 0))), (w9, .inl (dA, 3, .inl (fun _ => iI 0))), (w10, .inl (dA, 120, .inl (fun _ => iI 0))), (w11, .inl (dA, 40, .inl (fun _ => iI 0))), (w12, .inl (dA, 3, .inl (fun _ => iI 0))), (w13, .inl (dA, 3, .inl (fun _ => iI 0))), (w15, .inl (dA, 6, .inl (fun _ => iI 0))), (w16, .inl (dA, 3, .inl (fun _ => iI 0)))] s.heap H locs := h
  refine lv_aload_n Z.1 Z.2.1 dX0_init_120 rfl (lv_at hl 0 rfl) ?_
  refine i_bipush Z dX0_init_121 (by decide) ?_
  refine c_mk (n := 40) Z h hA hin 18 (by decide) (Nat.le_of_ble_eq_true rfl) q50 rfl rfl (by decide +kernel) rfl (by decide) (Nat.le_of_ble_eq_true rfl) (Nat.le_of_ble_eq_true rfl) dX0_init_123 dX0_init_125 (fun w18 H locs h => ?_)
  have h : gH D A [(h0, .inr (0, [.int (iI 0), .ref w1, .ref w2, .ref w3, .ref w4, .ref w5, .ref w6, .ref w7, .ref w8, .ref w9, .ref w10, .ref w11, .ref w12, .ref w13, .int (iI 0), .ref w15, .ref w16, .int (iI 0), .ref w18, .int (iI 0), .null])), (w1, .inl (dA, 40, .inl (fun _ => iI 0))), (w2, .inl (dA, 40, .inl (fun _ => iI 0))), (w3, .inl (dA, 40, .inl (fun _ => iI 0))), (w4, .inl (dA, 40, .inl (fun _ => iI 0))), (w5, .inl (dA, 40, .inl (fun _ => iI 0))), (w6, .inl (dA, 40, .inl (fun _ => iI 0))), (w7, .inl (dA, 40, .inl (fun _ => iI 0))), (w8, .inl (dA, 40, .inl (fun _ => iI 0))), (w9, .inl (dA, 3, .inl (fun _ => iI 0))), (w10, .inl (dA, 120, .inl (fun _ => iI 0))), (w11, .inl (dA, 40, .inl (fun _ => iI 0))), (w12, .inl (dA, 3, .inl (fun _ => iI 0))), (w13, .inl (dA, 3, .inl (fun _ => iI 0))), (w15, .inl (dA, 6, .inl (fun _ => iI 0))), (w16, .inl (dA, 3, .inl (fun _ => iI 0))), (w18, .inl (dA, 40, .inl (fun _ => iI 0)))] s.heap H locs := h
  refine lv_aload_n Z.1 Z.2.1 dX0_init_128 rfl (lv_at hl 0 rfl) ?_
  refine i_bipush Z dX0_init_129 (by decide) ?_
  refine c_mk (n := 40) Z h hA hin 20 (by decide) (Nat.le_of_ble_eq_true rfl) q52 rfl rfl (by decide +kernel) rfl (by decide) (Nat.le_of_ble_eq_true rfl) (Nat.le_of_ble_eq_true rfl) dX0_init_131 dX0_init_133 (fun w20 H locs h => ?_)
  have h : gH D A [(h0, .inr (0, [.int (iI 0), .ref w1, .ref w2, .ref w3, .ref w4, .ref w5, .ref w6, .ref w7, .ref w8, .ref w9, .ref w10, .ref w11, .ref w12, .ref w13, .int (iI 0), .ref w15, .ref w16, .int (iI 0), .ref w18, .int (iI 0), .ref w20])), (w1, .inl (dA, 40, .inl (fun _ => iI 0))), (w2, .inl (dA, 40, .inl (fun _ => iI 0))), (w3, .inl (dA, 40, .inl (fun _ => iI 0))), (w4, .inl (dA, 40, .inl (fun _ => iI 0))), (w5, .inl (dA, 40, .inl (fun _ => iI 0))), (w6, .inl (dA, 40, .inl (fun _ => iI 0))), (w7, .inl (dA, 40, .inl (fun _ => iI 0))), (w8, .inl (dA, 40, .inl (fun _ => iI 0))), (w9, .inl (dA, 3, .inl (fun _ => iI 0))), (w10, .inl (dA, 120, .inl (fun _ => iI 0))), (w11, .inl (dA, 40, .inl (fun _ => iI 0))), (w12, .inl (dA, 3, .inl (fun _ => iI 0))), (w13, .inl (dA, 3, .inl (fun _ => iI 0))), (w15, .inl (dA, 6, .inl (fun _ => iI 0))), (w16, .inl (dA, 3, .inl (fun _ => iI 0))), (w18, .inl (dA, 40, .inl (fun _ => iI 0))), (w20, .inl (dA, 40, .inl (fun _ => iI 0)))] s.heap H locs := h
  obtain ⟨ad, had⟩ : ∃ ad : Nat → Nat, ad = fun k => match k with
    | 0 => h0
    | 1 => w1
    | 2 => w2
    | 3 => w3
    | 4 => w4
    | 5 => w5
    | 6 => w6
    | 7 => w7
    | 8 => w8
    | 9 => w9
    | 10 => w10
    | 11 => w11
    | 12 => w12
    | 13 => w13
    | 15 => w15
    | 16 => w16
    | 18 => w18
    | 20 => w20
    | _ => 0 := ⟨_, rfl⟩
  have e0 : ad 0 = h0 := congrFun had 0
  have h : gH D A (cWG dA ad (gG zZ)) s.heap H locs := by rw [had]; exact h
  rw [← e0] at hl
  have hX : okX zZ := fun k i => by show -2147483648 ≤ (0 : Int) ∧ (0 : Int) ≤ 2147483647; omega
  refine i_const Z dX0_init_136 ?_
  refine lv_istore_n (lv' := [(1, .int (iI (0))), (0, .ref (ad 0))]) Z.1 Z.2.1 dX0_init_137 rfl hl (by decide) rfl (fun ls hl => ?_)
  refine lv_iload_n Z.1 Z.2.1 dX0_init_138 rfl (lv_at hl 0 rfl) ?_
  refine i_const Z dX0_init_139 ?_
  refine i_icmp_ge (tgt := 163) Z (by omega) dX0_init_140 (by decide) (fun c140 => ?_) (fun c140 => ?_)
  · exfalso; omega
  · refine lv_aload_n Z.1 Z.2.1 dX0_init_143 rfl (lv_at hl 1 rfl) ?_
    refine c_get Z h 12 (by decide) q44 rfl dX0_init_144 ?_
    refine lv_iload_n Z.1 Z.2.1 dX0_init_147 rfl (lv_at hl 0 rfl) ?_
    refine i_const Z dX0_init_148 ?_
    refine g_ast Z h (c_at_12 dA ad) (c_set_12 dA ad) (by decide) (i := 0) (v := 5) (by omega) dX0_init_149 (fun H locs h => ?_)
    have hX := okX_set hX 12 (0) (5) (by omega)
    refine lv_aload_n Z.1 Z.2.1 dX0_init_150 rfl (lv_at hl 1 rfl) ?_
    refine c_get Z h 13 (by decide) q45 rfl dX0_init_151 ?_
    refine lv_iload_n Z.1 Z.2.1 dX0_init_154 rfl (lv_at hl 0 rfl) ?_
    refine i_const Z dX0_init_155 ?_
    refine g_ast Z h (c_at_13 dA ad) (c_set_13 dA ad) (by decide) (i := 0) (v := 3) (by omega) dX0_init_156 (fun H locs h => ?_)
    have hX := okX_set hX 13 (0) (3) (by omega)
    refine i_inc (lv' := [(1, .int (iI (0 + 1))), (0, .ref (ad 0))]) Z dX0_init_157 hl (k := 0) rfl (by decide) rfl (fun ls hl => ?_)
    refine lv_goto (tgt := 138) Z.1 Z.2.1 dX0_init_160 (by decide) ?_
    refine lv_iload_n Z.1 Z.2.1 dX0_init_138 rfl (lv_at hl 0 rfl) ?_
    refine i_const Z dX0_init_139 ?_
    refine i_icmp_ge (tgt := 163) Z (by omega) dX0_init_140 (by decide) (fun c140 => ?_) (fun c140 => ?_)
    · exfalso; omega
    · refine lv_aload_n Z.1 Z.2.1 dX0_init_143 rfl (lv_at hl 1 rfl) ?_
      refine c_get Z h 12 (by decide) q44 rfl dX0_init_144 ?_
      refine lv_iload_n Z.1 Z.2.1 dX0_init_147 rfl (lv_at hl 0 rfl) ?_
      refine i_const Z dX0_init_148 ?_
      refine g_ast Z h (c_at_12 dA ad) (c_set_12 dA ad) (by decide) (i := 0 + 1) (v := 5) (by omega) dX0_init_149 (fun H locs h => ?_)
      have hX := okX_set hX 12 (0 + 1) (5) (by omega)
      refine lv_aload_n Z.1 Z.2.1 dX0_init_150 rfl (lv_at hl 1 rfl) ?_
      refine c_get Z h 13 (by decide) q45 rfl dX0_init_151 ?_
      refine lv_iload_n Z.1 Z.2.1 dX0_init_154 rfl (lv_at hl 0 rfl) ?_
      refine i_const Z dX0_init_155 ?_
      refine g_ast Z h (c_at_13 dA ad) (c_set_13 dA ad) (by decide) (i := 0 + 1) (v := 3) (by omega) dX0_init_156 (fun H locs h => ?_)
      have hX := okX_set hX 13 (0 + 1) (3) (by omega)
      refine i_inc (lv' := [(1, .int (iI ((0 + 1) + 1))), (0, .ref (ad 0))]) Z dX0_init_157 hl (k := 0) rfl (by decide) rfl (fun ls hl => ?_)
      refine lv_goto (tgt := 138) Z.1 Z.2.1 dX0_init_160 (by decide) ?_
      refine lv_iload_n Z.1 Z.2.1 dX0_init_138 rfl (lv_at hl 0 rfl) ?_
      refine i_const Z dX0_init_139 ?_
      refine i_icmp_ge (tgt := 163) Z (by omega) dX0_init_140 (by decide) (fun c140 => ?_) (fun c140 => ?_)
      · exfalso; omega
      · refine lv_aload_n Z.1 Z.2.1 dX0_init_143 rfl (lv_at hl 1 rfl) ?_
        refine c_get Z h 12 (by decide) q44 rfl dX0_init_144 ?_
        refine lv_iload_n Z.1 Z.2.1 dX0_init_147 rfl (lv_at hl 0 rfl) ?_
        refine i_const Z dX0_init_148 ?_
        refine g_ast Z h (c_at_12 dA ad) (c_set_12 dA ad) (by decide) (i := (0 + 1) + 1) (v := 5) (by omega) dX0_init_149 (fun H locs h => ?_)
        have hX := okX_set hX 12 ((0 + 1) + 1) (5) (by omega)
        refine lv_aload_n Z.1 Z.2.1 dX0_init_150 rfl (lv_at hl 1 rfl) ?_
        refine c_get Z h 13 (by decide) q45 rfl dX0_init_151 ?_
        refine lv_iload_n Z.1 Z.2.1 dX0_init_154 rfl (lv_at hl 0 rfl) ?_
        refine i_const Z dX0_init_155 ?_
        refine g_ast Z h (c_at_13 dA ad) (c_set_13 dA ad) (by decide) (i := (0 + 1) + 1) (v := 3) (by omega) dX0_init_156 (fun H locs h => ?_)
        have hX := okX_set hX 13 ((0 + 1) + 1) (3) (by omega)
        refine i_inc (lv' := [(1, .int (iI (((0 + 1) + 1) + 1))), (0, .ref (ad 0))]) Z dX0_init_157 hl (k := 0) rfl (by decide) rfl (fun ls hl => ?_)
        refine lv_goto (tgt := 138) Z.1 Z.2.1 dX0_init_160 (by decide) ?_
        refine lv_iload_n Z.1 Z.2.1 dX0_init_138 rfl (lv_at hl 0 rfl) ?_
        refine i_const Z dX0_init_139 ?_
        refine i_icmp_ge (tgt := 163) Z (by omega) dX0_init_140 (by decide) (fun c140 => ?_) (fun c140 => ?_)
        · have h : gH D A (cWG dA ad (gG zA)) s.heap H locs := h
          refine W.widen (k := 17) (n := 578) (Nat.le_of_ble_eq_true rfl) (Nat.le_of_ble_eq_true rfl) ?_
          exact W.vret Z.1 Z.2.1 hr (fun t ht hW => ⟨⟨ad, rfl, e0, by rw [ht]; exact h.1, va_K.moved hW.alike Z.2.2.2.2.2, h.2.1⟩, h.2.2.F ht⟩) h.2.2.2.2 dX0_init_163 hlocks
        · exfalso; omega
def mD : List Value := [.int (iI 0), .null, .null, .null, .null, .null, .null, .null, .null, .null, .null, .int (iI 0)]
def mB (D : va_G) (dA : ClassId) (A : Nat → Prop) (ad : Nat → Nat) (t : State) : Prop := va_P D vwCl (mWG dA ad (gG zA)) t.heap ∧ va_K D vwCl [(dA, .int)] t ∧ va_D A (mWG dA ad (gG zA))
set_option maxHeartbeats 4000000 in
set_option maxRecDepth 100000 in
theorem metX1_init (l : Launch) (D : va_G) (dA : ClassId) (h0 sz : Nat) : Met l yX1_init (ws_ yX1_init cX1_init 2 none) ({ frames := 1, cells := 10, slots := 326, locals := 14 }) (va_Pc [.ref h0] (fun U => U.heap.size = sz ∧ va_P D vwCl [(h0, .inr (1, mD))] U.heap ∧ va_K D vwCl [(dA, .int)] U ∧ va_D (fun _ => True) [(h0, .inr (1, mD))])) (va_Qv (fun ad : Nat → Nat => ad 0 = h0) (mB D dA (va_A [(h0, .inr (1, mD))] sz)) (va_A [(h0, .inr (1, mD))] sz)) 10 326 (va_A [(h0, .inr (1, mD))] sz) := by
  refine Met.ofW (cc := cX1_init) (maxL := 2) (ret := none) (by decide) rfl ?_
  intro p e s m args below meth c s₁ B hml hv
  obtain ⟨rfl, hsz, hP, hK, hD0⟩ := hv
  have hr := B.returns
  have hts := atoms_spec (ws := ws_ yX1_init cX1_init 2 none) B.pre
  have hts : ∀ w ∈ lw_all, w.before _ s = true := fun w h => hts w (List.mem_cons_of_mem _ h)
  have Z : gC RX1 D dA p s m ([.ref h0] : List Value).toArray c cX1_init 2 := ⟨B.exec, B.bytes, hml, findClass_of_methodNamed B.named, hts, hK⟩
  have hlocks := B.notSynchronized
  have hin : meth.name = "<init>" := (name_of_methodNamed B.named B.method).1
  subst hsz
  have hD := hD0.self (sz := s.heap.size)
  generalize hAe : va_A [(h0, .inr (1, mD))] s.heap.size = A at hD ⊢
  have hA : ∀ q : Nat, s.heap.size ≤ q → A q := fun q h => by rw [← hAe]; exact Or.inr h
  have h : gH D A [(h0, .inr (1, mD))] s.heap s.heap [] := ⟨hP, hD, va_S.rf⟩
  have hl := lv_entry ([.ref h0]) (n := 2) (Nat.le_of_ble_eq_true rfl)
  rw [lg_entry_eq]
  generalize (lg_sl ([.ref h0]) ++ List.replicate (2 - (lg_sl ([.ref h0])).length) Slot.unset).toArray = ls at hl ⊢
  have hl : lv_has ls 2 [(0, .ref h0)] := hl
  refine lv_aload_n Z.1 Z.2.1 dX1_init_0 rfl (lv_at hl 0 rfl) ?_
  refine W.objInit Z.1 Z.2.1 Z.2.2.2.1 (Z.2.2.2.2.1 _ q228) (Z.2.2.2.2.1 _ q30) (Z.2.2.2.2.1 _ q31) rfl (by rw [Z.2.2.1]; exact hl.1) rfl dX1_init_1 (Nat.le_of_ble_eq_true rfl) (Nat.le_of_ble_eq_true rfl) ?_
  refine W.eq (g2 := F0 m 4 ls []) rfl ?_
  refine lv_aload_n Z.1 Z.2.1 dX1_init_4 rfl (lv_at hl 0 rfl) ?_
  refine i_bipush Z dX1_init_5 (by decide) ?_
  refine m_mk (n := 40) Z h hA hin 1 (by decide) (Nat.le_of_ble_eq_true rfl) q230 rfl rfl (by decide +kernel) rfl (by decide) (Nat.le_of_ble_eq_true rfl) (Nat.le_of_ble_eq_true rfl) dX1_init_7 dX1_init_9 (fun w1 H locs h => ?_)
  have h : gH D A [(h0, .inr (1, [.int (iI 0), .ref w1, .null, .null, .null, .null, .null, .null, .null, .null, .null, .int (iI 0)])), (w1, .inl (dA, 40, .inl (fun _ => iI 0)))] s.heap H locs := h
  refine lv_aload_n Z.1 Z.2.1 dX1_init_12 rfl (lv_at hl 0 rfl) ?_
  refine i_bipush Z dX1_init_13 (by decide) ?_
  refine m_mk (n := 40) Z h hA hin 2 (by decide) (Nat.le_of_ble_eq_true rfl) q231 rfl rfl (by decide +kernel) rfl (by decide) (Nat.le_of_ble_eq_true rfl) (Nat.le_of_ble_eq_true rfl) dX1_init_15 dX1_init_17 (fun w2 H locs h => ?_)
  have h : gH D A [(h0, .inr (1, [.int (iI 0), .ref w1, .ref w2, .null, .null, .null, .null, .null, .null, .null, .null, .int (iI 0)])), (w1, .inl (dA, 40, .inl (fun _ => iI 0))), (w2, .inl (dA, 40, .inl (fun _ => iI 0)))] s.heap H locs := h
  refine lv_aload_n Z.1 Z.2.1 dX1_init_20 rfl (lv_at hl 0 rfl) ?_
  refine i_bipush Z dX1_init_21 (by decide) ?_
  refine m_mk (n := 40) Z h hA hin 3 (by decide) (Nat.le_of_ble_eq_true rfl) q232 rfl rfl (by decide +kernel) rfl (by decide) (Nat.le_of_ble_eq_true rfl) (Nat.le_of_ble_eq_true rfl) dX1_init_23 dX1_init_25 (fun w3 H locs h => ?_)
  have h : gH D A [(h0, .inr (1, [.int (iI 0), .ref w1, .ref w2, .ref w3, .null, .null, .null, .null, .null, .null, .null, .int (iI 0)])), (w1, .inl (dA, 40, .inl (fun _ => iI 0))), (w2, .inl (dA, 40, .inl (fun _ => iI 0))), (w3, .inl (dA, 40, .inl (fun _ => iI 0)))] s.heap H locs := h
  refine lv_aload_n Z.1 Z.2.1 dX1_init_28 rfl (lv_at hl 0 rfl) ?_
  refine i_bipush Z dX1_init_29 (by decide) ?_
  refine m_mk (n := 40) Z h hA hin 4 (by decide) (Nat.le_of_ble_eq_true rfl) q233 rfl rfl (by decide +kernel) rfl (by decide) (Nat.le_of_ble_eq_true rfl) (Nat.le_of_ble_eq_true rfl) dX1_init_31 dX1_init_33 (fun w4 H locs h => ?_)
  have h : gH D A [(h0, .inr (1, [.int (iI 0), .ref w1, .ref w2, .ref w3, .ref w4, .null, .null, .null, .null, .null, .null, .int (iI 0)])), (w1, .inl (dA, 40, .inl (fun _ => iI 0))), (w2, .inl (dA, 40, .inl (fun _ => iI 0))), (w3, .inl (dA, 40, .inl (fun _ => iI 0))), (w4, .inl (dA, 40, .inl (fun _ => iI 0)))] s.heap H locs := h
  refine lv_aload_n Z.1 Z.2.1 dX1_init_36 rfl (lv_at hl 0 rfl) ?_
  refine i_bipush Z dX1_init_37 (by decide) ?_
  refine m_mk (n := 40) Z h hA hin 5 (by decide) (Nat.le_of_ble_eq_true rfl) q234 rfl rfl (by decide +kernel) rfl (by decide) (Nat.le_of_ble_eq_true rfl) (Nat.le_of_ble_eq_true rfl) dX1_init_39 dX1_init_41 (fun w5 H locs h => ?_)
  have h : gH D A [(h0, .inr (1, [.int (iI 0), .ref w1, .ref w2, .ref w3, .ref w4, .ref w5, .null, .null, .null, .null, .null, .int (iI 0)])), (w1, .inl (dA, 40, .inl (fun _ => iI 0))), (w2, .inl (dA, 40, .inl (fun _ => iI 0))), (w3, .inl (dA, 40, .inl (fun _ => iI 0))), (w4, .inl (dA, 40, .inl (fun _ => iI 0))), (w5, .inl (dA, 40, .inl (fun _ => iI 0)))] s.heap H locs := h
  refine lv_aload_n Z.1 Z.2.1 dX1_init_44 rfl (lv_at hl 0 rfl) ?_
  refine i_bipush Z dX1_init_45 (by decide) ?_
  refine m_mk (n := 40) Z h hA hin 6 (by decide) (Nat.le_of_ble_eq_true rfl) q235 rfl rfl (by decide +kernel) rfl (by decide) (Nat.le_of_ble_eq_true rfl) (Nat.le_of_ble_eq_true rfl) dX1_init_47 dX1_init_49 (fun w6 H locs h => ?_)
  have h : gH D A [(h0, .inr (1, [.int (iI 0), .ref w1, .ref w2, .ref w3, .ref w4, .ref w5, .ref w6, .null, .null, .null, .null, .int (iI 0)])), (w1, .inl (dA, 40, .inl (fun _ => iI 0))), (w2, .inl (dA, 40, .inl (fun _ => iI 0))), (w3, .inl (dA, 40, .inl (fun _ => iI 0))), (w4, .inl (dA, 40, .inl (fun _ => iI 0))), (w5, .inl (dA, 40, .inl (fun _ => iI 0))), (w6, .inl (dA, 40, .inl (fun _ => iI 0)))] s.heap H locs := h
  refine lv_aload_n Z.1 Z.2.1 dX1_init_52 rfl (lv_at hl 0 rfl) ?_
  refine i_bipush Z dX1_init_53 (by decide) ?_
  refine m_mk (n := 40) Z h hA hin 7 (by decide) (Nat.le_of_ble_eq_true rfl) q236 rfl rfl (by decide +kernel) rfl (by decide) (Nat.le_of_ble_eq_true rfl) (Nat.le_of_ble_eq_true rfl) dX1_init_55 dX1_init_57 (fun w7 H locs h => ?_)
  have h : gH D A [(h0, .inr (1, [.int (iI 0), .ref w1, .ref w2, .ref w3, .ref w4, .ref w5, .ref w6, .ref w7, .null, .null, .null, .int (iI 0)])), (w1, .inl (dA, 40, .inl (fun _ => iI 0))), (w2, .inl (dA, 40, .inl (fun _ => iI 0))), (w3, .inl (dA, 40, .inl (fun _ => iI 0))), (w4, .inl (dA, 40, .inl (fun _ => iI 0))), (w5, .inl (dA, 40, .inl (fun _ => iI 0))), (w6, .inl (dA, 40, .inl (fun _ => iI 0))), (w7, .inl (dA, 40, .inl (fun _ => iI 0)))] s.heap H locs := h
  refine lv_aload_n Z.1 Z.2.1 dX1_init_60 rfl (lv_at hl 0 rfl) ?_
  refine i_bipush Z dX1_init_61 (by decide) ?_
  refine m_mk (n := 40) Z h hA hin 8 (by decide) (Nat.le_of_ble_eq_true rfl) q237 rfl rfl (by decide +kernel) rfl (by decide) (Nat.le_of_ble_eq_true rfl) (Nat.le_of_ble_eq_true rfl) dX1_init_63 dX1_init_65 (fun w8 H locs h => ?_)
  have h : gH D A [(h0, .inr (1, [.int (iI 0), .ref w1, .ref w2, .ref w3, .ref w4, .ref w5, .ref w6, .ref w7, .ref w8, .null, .null, .int (iI 0)])), (w1, .inl (dA, 40, .inl (fun _ => iI 0))), (w2, .inl (dA, 40, .inl (fun _ => iI 0))), (w3, .inl (dA, 40, .inl (fun _ => iI 0))), (w4, .inl (dA, 40, .inl (fun _ => iI 0))), (w5, .inl (dA, 40, .inl (fun _ => iI 0))), (w6, .inl (dA, 40, .inl (fun _ => iI 0))), (w7, .inl (dA, 40, .inl (fun _ => iI 0))), (w8, .inl (dA, 40, .inl (fun _ => iI 0)))] s.heap H locs := h
  refine lv_aload_n Z.1 Z.2.1 dX1_init_68 rfl (lv_at hl 0 rfl) ?_
  refine i_const Z dX1_init_69 ?_
  refine m_mk (n := 3) Z h hA hin 9 (by decide) (Nat.le_of_ble_eq_true rfl) q238 rfl rfl (by decide +kernel) rfl (by decide) (Nat.le_of_ble_eq_true rfl) (Nat.le_of_ble_eq_true rfl) dX1_init_70 dX1_init_72 (fun w9 H locs h => ?_)
  have h : gH D A [(h0, .inr (1, [.int (iI 0), .ref w1, .ref w2, .ref w3, .ref w4, .ref w5, .ref w6, .ref w7, .ref w8, .ref w9, .null, .int (iI 0)])), (w1, .inl (dA, 40, .inl (fun _ => iI 0))), (w2, .inl (dA, 40, .inl (fun _ => iI 0))), (w3, .inl (dA, 40, .inl (fun _ => iI 0))), (w4, .inl (dA, 40, .inl (fun _ => iI 0))), (w5, .inl (dA, 40, .inl (fun _ => iI 0))), (w6, .inl (dA, 40, .inl (fun _ => iI 0))), (w7, .inl (dA, 40, .inl (fun _ => iI 0))), (w8, .inl (dA, 40, .inl (fun _ => iI 0))), (w9, .inl (dA, 3, .inl (fun _ => iI 0)))] s.heap H locs := h
  refine lv_aload_n Z.1 Z.2.1 dX1_init_75 rfl (lv_at hl 0 rfl) ?_
  refine i_const Z dX1_init_76 ?_
  refine m_mk (n := 3) Z h hA hin 10 (by decide) (Nat.le_of_ble_eq_true rfl) q239 rfl rfl (by decide +kernel) rfl (by decide) (Nat.le_of_ble_eq_true rfl) (Nat.le_of_ble_eq_true rfl) dX1_init_77 dX1_init_79 (fun w10 H locs h => ?_)
  have h : gH D A [(h0, .inr (1, [.int (iI 0), .ref w1, .ref w2, .ref w3, .ref w4, .ref w5, .ref w6, .ref w7, .ref w8, .ref w9, .ref w10, .int (iI 0)])), (w1, .inl (dA, 40, .inl (fun _ => iI 0))), (w2, .inl (dA, 40, .inl (fun _ => iI 0))), (w3, .inl (dA, 40, .inl (fun _ => iI 0))), (w4, .inl (dA, 40, .inl (fun _ => iI 0))), (w5, .inl (dA, 40, .inl (fun _ => iI 0))), (w6, .inl (dA, 40, .inl (fun _ => iI 0))), (w7, .inl (dA, 40, .inl (fun _ => iI 0))), (w8, .inl (dA, 40, .inl (fun _ => iI 0))), (w9, .inl (dA, 3, .inl (fun _ => iI 0))), (w10, .inl (dA, 3, .inl (fun _ => iI 0)))] s.heap H locs := h
  obtain ⟨ad, had⟩ : ∃ ad : Nat → Nat, ad = fun k => match k with
    | 0 => h0
    | 1 => w1
    | 2 => w2
    | 3 => w3
    | 4 => w4
    | 5 => w5
    | 6 => w6
    | 7 => w7
    | 8 => w8
    | 9 => w9
    | 10 => w10
    | _ => 0 := ⟨_, rfl⟩
  have e0 : ad 0 = h0 := congrFun had 0
  have h : gH D A (mWG dA ad (gG zZ)) s.heap H locs := by rw [had]; exact h
  rw [← e0] at hl
  have hX : okX zZ := fun k i => by show -2147483648 ≤ (0 : Int) ∧ (0 : Int) ≤ 2147483647; omega
  refine i_const Z dX1_init_82 ?_
  refine lv_istore_n (lv' := [(1, .int (iI (0))), (0, .ref (ad 0))]) Z.1 Z.2.1 dX1_init_83 rfl hl (by decide) rfl (fun ls hl => ?_)
  refine lv_iload_n Z.1 Z.2.1 dX1_init_84 rfl (lv_at hl 0 rfl) ?_
  refine i_const Z dX1_init_85 ?_
  refine i_icmp_ge (tgt := 109) Z (by omega) dX1_init_86 (by decide) (fun c86 => ?_) (fun c86 => ?_)
  · exfalso; omega
  · refine lv_aload_n Z.1 Z.2.1 dX1_init_89 rfl (lv_at hl 1 rfl) ?_
    refine m_get Z h 9 (by decide) q238 rfl dX1_init_90 ?_
    refine lv_iload_n Z.1 Z.2.1 dX1_init_93 rfl (lv_at hl 0 rfl) ?_
    refine i_const Z dX1_init_94 ?_
    refine g_ast Z h (m_at_9 dA ad) (m_set_9 dA ad) (by decide) (i := 0) (v := 5) (by omega) dX1_init_95 (fun H locs h => ?_)
    have hX := okX_set hX 12 (0) (5) (by omega)
    refine lv_aload_n Z.1 Z.2.1 dX1_init_96 rfl (lv_at hl 1 rfl) ?_
    refine m_get Z h 10 (by decide) q239 rfl dX1_init_97 ?_
    refine lv_iload_n Z.1 Z.2.1 dX1_init_100 rfl (lv_at hl 0 rfl) ?_
    refine i_const Z dX1_init_101 ?_
    refine g_ast Z h (m_at_10 dA ad) (m_set_10 dA ad) (by decide) (i := 0) (v := 3) (by omega) dX1_init_102 (fun H locs h => ?_)
    have hX := okX_set hX 13 (0) (3) (by omega)
    refine i_inc (lv' := [(1, .int (iI (0 + 1))), (0, .ref (ad 0))]) Z dX1_init_103 hl (k := 0) rfl (by decide) rfl (fun ls hl => ?_)
    refine lv_goto (tgt := 84) Z.1 Z.2.1 dX1_init_106 (by decide) ?_
    refine lv_iload_n Z.1 Z.2.1 dX1_init_84 rfl (lv_at hl 0 rfl) ?_
    refine i_const Z dX1_init_85 ?_
    refine i_icmp_ge (tgt := 109) Z (by omega) dX1_init_86 (by decide) (fun c86 => ?_) (fun c86 => ?_)
    · exfalso; omega
    · refine lv_aload_n Z.1 Z.2.1 dX1_init_89 rfl (lv_at hl 1 rfl) ?_
      refine m_get Z h 9 (by decide) q238 rfl dX1_init_90 ?_
      refine lv_iload_n Z.1 Z.2.1 dX1_init_93 rfl (lv_at hl 0 rfl) ?_
      refine i_const Z dX1_init_94 ?_
      refine g_ast Z h (m_at_9 dA ad) (m_set_9 dA ad) (by decide) (i := 0 + 1) (v := 5) (by omega) dX1_init_95 (fun H locs h => ?_)
      have hX := okX_set hX 12 (0 + 1) (5) (by omega)
      refine lv_aload_n Z.1 Z.2.1 dX1_init_96 rfl (lv_at hl 1 rfl) ?_
      refine m_get Z h 10 (by decide) q239 rfl dX1_init_97 ?_
      refine lv_iload_n Z.1 Z.2.1 dX1_init_100 rfl (lv_at hl 0 rfl) ?_
      refine i_const Z dX1_init_101 ?_
      refine g_ast Z h (m_at_10 dA ad) (m_set_10 dA ad) (by decide) (i := 0 + 1) (v := 3) (by omega) dX1_init_102 (fun H locs h => ?_)
      have hX := okX_set hX 13 (0 + 1) (3) (by omega)
      refine i_inc (lv' := [(1, .int (iI ((0 + 1) + 1))), (0, .ref (ad 0))]) Z dX1_init_103 hl (k := 0) rfl (by decide) rfl (fun ls hl => ?_)
      refine lv_goto (tgt := 84) Z.1 Z.2.1 dX1_init_106 (by decide) ?_
      refine lv_iload_n Z.1 Z.2.1 dX1_init_84 rfl (lv_at hl 0 rfl) ?_
      refine i_const Z dX1_init_85 ?_
      refine i_icmp_ge (tgt := 109) Z (by omega) dX1_init_86 (by decide) (fun c86 => ?_) (fun c86 => ?_)
      · exfalso; omega
      · refine lv_aload_n Z.1 Z.2.1 dX1_init_89 rfl (lv_at hl 1 rfl) ?_
        refine m_get Z h 9 (by decide) q238 rfl dX1_init_90 ?_
        refine lv_iload_n Z.1 Z.2.1 dX1_init_93 rfl (lv_at hl 0 rfl) ?_
        refine i_const Z dX1_init_94 ?_
        refine g_ast Z h (m_at_9 dA ad) (m_set_9 dA ad) (by decide) (i := (0 + 1) + 1) (v := 5) (by omega) dX1_init_95 (fun H locs h => ?_)
        have hX := okX_set hX 12 ((0 + 1) + 1) (5) (by omega)
        refine lv_aload_n Z.1 Z.2.1 dX1_init_96 rfl (lv_at hl 1 rfl) ?_
        refine m_get Z h 10 (by decide) q239 rfl dX1_init_97 ?_
        refine lv_iload_n Z.1 Z.2.1 dX1_init_100 rfl (lv_at hl 0 rfl) ?_
        refine i_const Z dX1_init_101 ?_
        refine g_ast Z h (m_at_10 dA ad) (m_set_10 dA ad) (by decide) (i := (0 + 1) + 1) (v := 3) (by omega) dX1_init_102 (fun H locs h => ?_)
        have hX := okX_set hX 13 ((0 + 1) + 1) (3) (by omega)
        refine i_inc (lv' := [(1, .int (iI (((0 + 1) + 1) + 1))), (0, .ref (ad 0))]) Z dX1_init_103 hl (k := 0) rfl (by decide) rfl (fun ls hl => ?_)
        refine lv_goto (tgt := 84) Z.1 Z.2.1 dX1_init_106 (by decide) ?_
        refine lv_iload_n Z.1 Z.2.1 dX1_init_84 rfl (lv_at hl 0 rfl) ?_
        refine i_const Z dX1_init_85 ?_
        refine i_icmp_ge (tgt := 109) Z (by omega) dX1_init_86 (by decide) (fun c86 => ?_) (fun c86 => ?_)
        · have h : gH D A (mWG dA ad (gG zA)) s.heap H locs := h
          refine W.widen (k := 10) (n := 326) (Nat.le_of_ble_eq_true rfl) (Nat.le_of_ble_eq_true rfl) ?_
          exact W.vret Z.1 Z.2.1 hr (fun t ht hW => ⟨⟨ad, rfl, e0, by rw [ht]; exact h.1, va_K.moved hW.alike Z.2.2.2.2.2, h.2.1⟩, h.2.2.F ht⟩) h.2.2.2.2 dX1_init_109 hlocks
        · exfalso; omega
end
section
/-! THE CLAIM OUT OF ONE WALK OF THE LAW'S BODY. Your part is whole_start (and what it stands on); all else here is the same for every law, but numbers. -/
def R_law : String := "LeasedMessagesLaw"
def lw_P (b : Addr) (xs : List Int32) (args : Array Value) (s : State) : Prop := args = #[.ref b] ∧ s.IntsAt b xs ∧ xs.length ≤ 320 ∧ (Jvm.Cond.and given_1 narrow_1).before args s = true
def lw_Q (_ : Array Value) (s : State) (o : Outcome) (t : State) : Prop := o = .returned (some (.int 1)) ∧ Framed s o t [] 600000 7290000
def lw_Z (below : List Frame) (a : Array Value) (s : State) : State → Prop := fun t => ∃ o, t.status = .running ∧ Ended t below o ∧ lw_Q a s o t
/-- the law's own end, with 1 on the stack, nothing written that was there before, its room as the claim has it -/
theorem lw_ret {p : Program} {l : Launch} {e : Env} {s : State} {m : MethodId} {below : List Frame} {meth : Method} {c : Code} {b : Nat} (hx : p.tables.exec = Jvm.exec) (hb : c.code = code) (hr : meth.sig.returnType = ret) (hlocks : meth.locks = false) {pc : Nat} {H : Heap} {ls : Array Slot} (hdg : decode code pc = .ok (.ireturn, 1)) : W p l e room_1 s m #[Value.ref b] below meth c H [] 600000 7290000 (lw_Z below #[Value.ref b] s) (F0 m pc ls [.int 1]) := by
  intro T hT X
  obtain ⟨fs, hret, hrun, hended, hW, hframe⟩ := X.leave (v := some (.int 1)) (hlocks := hlocks) (fun h => by rw [hr] at h; cases h)
  have hmeth' : T.vm.method? m = some meth := X.method'
  refine ⟨T.setFrames fs, ?_, .returned (some (.int 1)), hrun, hended, rfl, ⟨_, rfl⟩, hW, hframe⟩
  jvm_step X.here [X.here.top, hx, hb, hdg, hmeth', hr, ret, narrow_b1]
  (try refine ⟨rfl, ?_⟩); (try refine ⟨rfl, ?_⟩)
  first | (intro acts; rw [hret _ acts rfl rfl rfl]) | rw [hret _ _ rfl rfl rfl]
  exact Steps.refl _
/-- what holds at the law's entry: the machine, the code, the tables' words (any of lw_tbl by 'hts w (by decide +kernel)'), the script of L ints xs at the cell b, what the Statement gives of the start (any of its parts by flat_of_before) -/
def lw_At (p : Program) (s : State) (m : MethodId) (meth : Method) (c : Code) (b L : Nat) (xs : Nat → Int32) : Prop :=
  p.tables.exec = Jvm.exec ∧ c.code = code ∧ meth.sig.returnType = ret ∧ c.maxLocals = 4 ∧ s.vm.findClass R_law = some m.cls ∧ (∀ w ∈ lw_tbl, w.before #[Value.ref b] s = true) ∧ va_X b L xs s s.heap ∧ b < s.heap.size ∧ meth.locks = false ∧ (Jvm.Cond.and given_1 narrow_1).before #[Value.ref b] s = true
end
section
/-! the law's own rows -/
section LW
variable {p : Program} {l : Launch} {e : Env} {R : Room} {s : State} {m : MethodId} {args : Array Value} {below : List Frame} {meth : Method} {c : Code} {H H0 : Heap} {locs : List Loc} {cells slots : Nat} {Q : State → Prop}
variable {cc : ByteArray} {pc nL : Nat} {ls : Array Slot} {rest : List Value} {own : String} {D : va_G} {dA : ClassId} {A : Nat → Prop} {a1 a2 : Nat → Nat} {X Y : zS}
set_option maxRecDepth 100000 in
theorem l_callc {y : MethodName} {bytes : ByteArray} {maxL n index : Nat} {ret : Option FieldType} {rm : Room} {post : Int → zS → Prop} {As st : List Value} (Z : gC own D dA p s m args c cc nL) (h : gH D A (cWG dA a1 (gG X) ++ mWG dA a2 (gG Y)) H0 H locs) (hA : ∀ q, H0.size ≤ q → A q) (hM : ∀ A9 : Nat → Prop, gMi l y bytes maxL ret rm D dA A9 (cWG dA a1) (.ref (a1 0) :: As) X post) (cw : CallW R s args own RX0 index y bytes maxL ret (ws_ y bytes maxL ret) rm 0 0 n) (hn : As.length = n) (hsz : ls.size = nL) (hst : st = As.reverse ++ .ref (a1 0) :: rest) (hW : (rest.map fun v => v.category).sum ≤ 8) (hcs : cells ≤ R.cells ∧ slots ≤ R.slots) (hdg : decode cc pc = .ok (.invokevirtual index, 3))
    (kk : ∀ (z : Int) (X1 : zS) (H1 : Heap) (locs1 : List Loc), post z X1 → gH D A (mWG dA a2 (gG Y) ++ cWG dA a1 (gG X1)) H0 H1 locs1 → W p l e R s m args below meth c H1 locs1 cells slots Q (F0 m (pc + 3) ls (.int (iI z) :: rest))) : W p l e R s m args below meth c H locs cells slots Q (F0 m pc ls st) := by
  have hPc := h.1.sub (ws' := cWG dA a1 (gG X)) [0, 1, 2, 3, 4, 5, 6, 7, 8, 9, 10, 11, 12, 13, 14, 15, 16, 17] rfl
  have hDc := h.2.1.sub (ws' := cWG dA a1 (gG X)) [0, 1, 2, 3, 4, 5, 6, 7, 8, 9, 10, 11, 12, 13, 14, 15, 16, 17] (by decide) rfl
  have hFc := va_free (wc := cWG dA a1 (gG X)) h.2.1 h.2.2 hA [0, 1, 2, 3, 4, 5, 6, 7, 8, 9, 10, 11, 12, 13, 14, 15, 16, 17] rfl
  refine va_calli (va_runV (As := As) (rest := rest) ⟨Z.1, Z.2.1, Z.2.2.1, Z.2.2.2.1, Z.2.2.2.2.1⟩ (hM (va_A (cWG dA a1 (gG X)) H.size)) cw ⟨g_blind, va_recv (q := (RX0, TX0, 21)) Z.2.2.2.2.2 hPc (ci := 0) (q0 := 0) rfl rfl, fun U hU hWm => ⟨rfl, by rw [hU]; exact hPc, va_K.moved hWm.alike Z.2.2.2.2.2, hDc.self⟩⟩ rfl hn hsz hst (lv_room hW) hdg hcs) h.2.2 (fun q9 _ h9 => hFc q9 h9) hFc (fun r u t H1 locs1 ht hvm hw hB hz1 hk1 hS => ?_)
  obtain ⟨z, rfl, hp⟩ := hw
  obtain ⟨hP1, hK1, hD1⟩ := hB
  rw [ht] at hP1
  obtain ⟨hP, hD⟩ := va_join (wr := mWG dA a2 (gG Y)) (w1 := cWG dA a1 (gG u)) h.1 h.2.1 [0, 1, 2, 3, 4, 5, 6, 7, 8, 9, 10, 11, 12, 13, 14, 15, 16, 17] [18, 19, 20, 21, 22, 23, 24, 25, 26, 27, 28] rfl rfl (by decide) (by decide) hk1 hFc hP1 hD1
  exact kk z u H1 locs1 hp ⟨hP, hD, hS⟩
set_option maxRecDepth 100000 in
theorem l_callm {y : MethodName} {bytes : ByteArray} {maxL n index : Nat} {ret : Option FieldType} {rm : Room} {post : Int → zS → Prop} {As st : List Value} (Z : gC own D dA p s m args c cc nL) (h : gH D A (mWG dA a2 (gG Y) ++ cWG dA a1 (gG X)) H0 H locs) (hA : ∀ q, H0.size ≤ q → A q) (hM : ∀ A9 : Nat → Prop, gMi l y bytes maxL ret rm D dA A9 (mWG dA a2) (.ref (a2 0) :: As) Y post) (cw : CallW R s args own RX1 index y bytes maxL ret (ws_ y bytes maxL ret) rm 0 0 n) (hn : As.length = n) (hsz : ls.size = nL) (hst : st = As.reverse ++ .ref (a2 0) :: rest) (hW : (rest.map fun v => v.category).sum ≤ 8) (hcs : cells ≤ R.cells ∧ slots ≤ R.slots) (hdg : decode cc pc = .ok (.invokevirtual index, 3))
    (kk : ∀ (z : Int) (X1 : zS) (H1 : Heap) (locs1 : List Loc), post z X1 → gH D A (cWG dA a1 (gG X) ++ mWG dA a2 (gG X1)) H0 H1 locs1 → W p l e R s m args below meth c H1 locs1 cells slots Q (F0 m (pc + 3) ls (.int (iI z) :: rest))) : W p l e R s m args below meth c H locs cells slots Q (F0 m pc ls st) := by
  have hPc := h.1.sub (ws' := mWG dA a2 (gG Y)) [0, 1, 2, 3, 4, 5, 6, 7, 8, 9, 10] rfl
  have hDc := h.2.1.sub (ws' := mWG dA a2 (gG Y)) [0, 1, 2, 3, 4, 5, 6, 7, 8, 9, 10] (by decide) rfl
  have hFc := va_free (wc := mWG dA a2 (gG Y)) h.2.1 h.2.2 hA [0, 1, 2, 3, 4, 5, 6, 7, 8, 9, 10] rfl
  refine va_calli (va_runV (As := As) (rest := rest) ⟨Z.1, Z.2.1, Z.2.2.1, Z.2.2.2.1, Z.2.2.2.2.1⟩ (hM (va_A (mWG dA a2 (gG Y)) H.size)) cw ⟨g_blind, va_recv (q := (RX1, TX1, 12)) Z.2.2.2.2.2 hPc (ci := 1) (q0 := 0) rfl rfl, fun U hU hWm => ⟨rfl, by rw [hU]; exact hPc, va_K.moved hWm.alike Z.2.2.2.2.2, hDc.self⟩⟩ rfl hn hsz hst (lv_room hW) hdg hcs) h.2.2 (fun q9 _ h9 => hFc q9 h9) hFc (fun r u t H1 locs1 ht hvm hw hB hz1 hk1 hS => ?_)
  obtain ⟨z, rfl, hp⟩ := hw
  obtain ⟨hP1, hK1, hD1⟩ := hB
  rw [ht] at hP1
  obtain ⟨hP, hD⟩ := va_join (wr := cWG dA a1 (gG X)) (w1 := mWG dA a2 (gG u)) h.1 h.2.1 [0, 1, 2, 3, 4, 5, 6, 7, 8, 9, 10] [11, 12, 13, 14, 15, 16, 17, 18, 19, 20, 21, 22, 23, 24, 25, 26, 27, 28] rfl rfl (by decide) (by decide) hk1 hFc hP1 hD1
  exact kk z u H1 locs1 hp ⟨hP, hD, hS⟩
set_option maxRecDepth 100000 in
theorem l_callcv {y : MethodName} {bytes : ByteArray} {maxL n index : Nat} {rm : Room} {post : zS → Prop} {As st : List Value} (Z : gC own D dA p s m args c cc nL) (h : gH D A (cWG dA a1 (gG X) ++ mWG dA a2 (gG Y)) H0 H locs) (hA : ∀ q, H0.size ≤ q → A q) (hM : ∀ A9 : Nat → Prop, gMv l y bytes maxL rm D dA A9 (cWG dA a1) (.ref (a1 0) :: As) X post) (cw : CallW R s args own RX0 index y bytes maxL none (ws_ y bytes maxL none) rm 0 0 n) (hn : As.length = n) (hsz : ls.size = nL) (hst : st = As.reverse ++ .ref (a1 0) :: rest) (hW : (rest.map fun v => v.category).sum ≤ 8) (hcs : cells ≤ R.cells ∧ slots ≤ R.slots) (hdg : decode cc pc = .ok (.invokevirtual index, 3))
    (kk : ∀ (X1 : zS) (H1 : Heap) (locs1 : List Loc), post X1 → gH D A (mWG dA a2 (gG Y) ++ cWG dA a1 (gG X1)) H0 H1 locs1 → W p l e R s m args below meth c H1 locs1 cells slots Q (F0 m (pc + 3) ls rest)) : W p l e R s m args below meth c H locs cells slots Q (F0 m pc ls st) := by
  have hPc := h.1.sub (ws' := cWG dA a1 (gG X)) [0, 1, 2, 3, 4, 5, 6, 7, 8, 9, 10, 11, 12, 13, 14, 15, 16, 17] rfl
  have hDc := h.2.1.sub (ws' := cWG dA a1 (gG X)) [0, 1, 2, 3, 4, 5, 6, 7, 8, 9, 10, 11, 12, 13, 14, 15, 16, 17] (by decide) rfl
  have hFc := va_free (wc := cWG dA a1 (gG X)) h.2.1 h.2.2 hA [0, 1, 2, 3, 4, 5, 6, 7, 8, 9, 10, 11, 12, 13, 14, 15, 16, 17] rfl
  refine va_callv (va_runV (As := As) (rest := rest) ⟨Z.1, Z.2.1, Z.2.2.1, Z.2.2.2.1, Z.2.2.2.2.1⟩ (hM (va_A (cWG dA a1 (gG X)) H.size)) cw ⟨g_blind, va_recv (q := (RX0, TX0, 21)) Z.2.2.2.2.2 hPc (ci := 0) (q0 := 0) rfl rfl, fun U hU hWm => ⟨rfl, by rw [hU]; exact hPc, va_K.moved hWm.alike Z.2.2.2.2.2, hDc.self⟩⟩ rfl hn hsz hst (lv_room hW) hdg hcs) h.2.2 (fun q9 _ h9 => hFc q9 h9) hFc (fun u t H1 locs1 ht hvm hw hB hz1 hk1 hS => ?_)
  obtain ⟨hP1, hK1, hD1⟩ := hB
  rw [ht] at hP1
  obtain ⟨hP, hD⟩ := va_join (wr := mWG dA a2 (gG Y)) (w1 := cWG dA a1 (gG u)) h.1 h.2.1 [0, 1, 2, 3, 4, 5, 6, 7, 8, 9, 10, 11, 12, 13, 14, 15, 16, 17] [18, 19, 20, 21, 22, 23, 24, 25, 26, 27, 28] rfl rfl (by decide) (by decide) hk1 hFc hP1 hD1
  exact kk u H1 locs1 hw ⟨hP, hD, hS⟩
set_option maxRecDepth 100000 in
theorem l_callmv {y : MethodName} {bytes : ByteArray} {maxL n index : Nat} {rm : Room} {post : zS → Prop} {As st : List Value} (Z : gC own D dA p s m args c cc nL) (h : gH D A (mWG dA a2 (gG Y) ++ cWG dA a1 (gG X)) H0 H locs) (hA : ∀ q, H0.size ≤ q → A q) (hM : ∀ A9 : Nat → Prop, gMv l y bytes maxL rm D dA A9 (mWG dA a2) (.ref (a2 0) :: As) Y post) (cw : CallW R s args own RX1 index y bytes maxL none (ws_ y bytes maxL none) rm 0 0 n) (hn : As.length = n) (hsz : ls.size = nL) (hst : st = As.reverse ++ .ref (a2 0) :: rest) (hW : (rest.map fun v => v.category).sum ≤ 8) (hcs : cells ≤ R.cells ∧ slots ≤ R.slots) (hdg : decode cc pc = .ok (.invokevirtual index, 3))
    (kk : ∀ (X1 : zS) (H1 : Heap) (locs1 : List Loc), post X1 → gH D A (cWG dA a1 (gG X) ++ mWG dA a2 (gG X1)) H0 H1 locs1 → W p l e R s m args below meth c H1 locs1 cells slots Q (F0 m (pc + 3) ls rest)) : W p l e R s m args below meth c H locs cells slots Q (F0 m pc ls st) := by
  have hPc := h.1.sub (ws' := mWG dA a2 (gG Y)) [0, 1, 2, 3, 4, 5, 6, 7, 8, 9, 10] rfl
  have hDc := h.2.1.sub (ws' := mWG dA a2 (gG Y)) [0, 1, 2, 3, 4, 5, 6, 7, 8, 9, 10] (by decide) rfl
  have hFc := va_free (wc := mWG dA a2 (gG Y)) h.2.1 h.2.2 hA [0, 1, 2, 3, 4, 5, 6, 7, 8, 9, 10] rfl
  refine va_callv (va_runV (As := As) (rest := rest) ⟨Z.1, Z.2.1, Z.2.2.1, Z.2.2.2.1, Z.2.2.2.2.1⟩ (hM (va_A (mWG dA a2 (gG Y)) H.size)) cw ⟨g_blind, va_recv (q := (RX1, TX1, 12)) Z.2.2.2.2.2 hPc (ci := 1) (q0 := 0) rfl rfl, fun U hU hWm => ⟨rfl, by rw [hU]; exact hPc, va_K.moved hWm.alike Z.2.2.2.2.2, hDc.self⟩⟩ rfl hn hsz hst (lv_room hW) hdg hcs) h.2.2 (fun q9 _ h9 => hFc q9 h9) hFc (fun u t H1 locs1 ht hvm hw hB hz1 hk1 hS => ?_)
  obtain ⟨hP1, hK1, hD1⟩ := hB
  rw [ht] at hP1
  obtain ⟨hP, hD⟩ := va_join (wr := cWG dA a1 (gG X)) (w1 := mWG dA a2 (gG u)) h.1 h.2.1 [0, 1, 2, 3, 4, 5, 6, 7, 8, 9, 10] [11, 12, 13, 14, 15, 16, 17, 18, 19, 20, 21, 22, 23, 24, 25, 26, 27, 28] rfl rfl (by decide) (by decide) hk1 hFc hP1 hD1
  exact kk u H1 locs1 hw ⟨hP, hD, hS⟩
def xv (xs : Nat → Int32) (i : Int) : Int := (xs i.toNat).toInt
theorem xv_rng (xs : Nat → Int32) (i : Int) : -2147483648 ≤ xv xs i ∧ xv xs i ≤ 2147483647 := iI_rng _
theorem l_ald (Z : gC own D dA p s m args c cc nL) {b L : Nat} {xs : Nat → Int32} (hX : va_X b L xs s H0) (hbl : b < H0.size) (hbA : ¬ A b) (hS : va_S A H0 H locs) {i : Int} (hi : 0 ≤ i ∧ i < (L : Int)) (hL : L ≤ 1000) (hdg : decode cc pc = .ok (.iaload, 1))
    (kk : W p l e R s m args below meth c H locs cells slots Q (F0 m (pc + 1) ls (.int (iI (xv xs i)) :: rest))) : W p l e R s m args below meth c H locs cells slots Q (F0 m pc ls (.int (iI i) :: .ref b :: rest)) := by
  refine va_sld Z.1 Z.2.1 hX hbl hbA hS (iI_in hi hL) hdg ?_
  have e1 : xs (iI i).toNatClampNeg = iI (xv xs i) := by
    rw [iI_cl (by omega)]
    exact (iI_of (xs i.toNat)).symm
  rw [e1]
  exact kk
theorem iI_nat (L : Nat) : Int32.ofNat L = iI (L : Int) := by
  unfold iI
  rw [Int32.ofInt_eq_ofNat]
end LW
/-- behind a call: the law goes on with one state for both -/
def lNext (p : Program) (l : Launch) (e : Env) (s : State) (m : MethodId) (below : List Frame) (meth : Method) (c : Code) (D : va_G) (dA : ClassId) (a1 a2 : Nat → Nat) (b : Nat) (N : Int) : Prop := ∀ (X1 : zS) (H1 : Heap) (locs1 : List Loc) (ls1 : Array Slot), IC X1 → BC (N + 1) X1 → gH D (fun q : Nat => s.heap.size ≤ q) (cWG dA a1 (gG X1) ++ mWG dA a2 (gG X1)) s.heap H1 locs1 → lv_has ls1 4 [(0, .ref b), (1, .ref (a1 0)), (2, .ref (a2 0)), (3, .int (iI (5 * N)))] → W p l e room_1 s m #[Value.ref b] below meth c H1 locs1 29 937 (lw_Z below #[Value.ref b] s) (F0 m 531 ls1 [])
end
section
set_option maxHeartbeats 4000000 in
set_option maxRecDepth 100000 in
theorem law_c0 {p : Program} {l : Launch} {e : Env} {s : State} {m : MethodId} {below : List Frame} {meth : Method} {c : Code} {D : va_G} {dA : ClassId} {a1 a2 : Nat → Nat} {b L : Nat} {xs : Nat → Int32} {N : Int} {X : zS} {H : Heap} {locs : List Loc} {ls : Array Slot} (hL : L ≤ 320) (C0 : lw_At p s m meth c b L xs) (Z : gC R_law D dA p s m #[Value.ref b] c cL_law 4) (n0 : 0 ≤ N) (n1 : 5 * N + 5 ≤ (L : Int)) (hI : IC X) (hC : BC N X) (h : gH D (fun q : Nat => s.heap.size ≤ q) (cWG dA a1 (gG X) ++ mWG dA a2 (gG X)) s.heap H locs) (hl : lv_has ls 4 [(0, .ref b), (1, .ref (a1 0)), (2, .ref (a2 0)), (3, .int (iI (5 * N)))]) (K : lNext p l e s m below meth c D dA a1 a2 b N) : W p l e room_1 s m #[Value.ref b] below meth c H locs 29 937 (lw_Z below #[Value.ref b] s) (F0 m 108 ls []) := by
  obtain ⟨hx, hb, hr, hml, hown, hts, hX, hbl, hlocks, hgv⟩ := C0
  have hA : ∀ q : Nat, s.heap.size ≤ q → (fun q : Nat => s.heap.size ≤ q) q := fun _ h => h
  have hbA : ¬ (fun q : Nat => s.heap.size ≤ q) b := Nat.not_le.mpr hbl
  refine lv_aload_n Z.1 Z.2.1 dL_law_108 rfl (lv_at hl 1 rfl) ?_
  refine lv_aload_n Z.1 Z.2.1 dL_law_109 rfl (lv_at hl 0 rfl) ?_
  refine lv_iload_n Z.1 Z.2.1 dL_law_110 rfl (lv_at hl 3 rfl) ?_
  refine i_const Z dL_law_111 ?_
  refine i_add Z dL_law_112 ?_
  refine l_ald Z hX hbl hbA h.2.2 (by omega) (by omega) dL_law_113 ?_
  refine lv_aload_n Z.1 Z.2.1 dL_law_114 rfl (lv_at hl 0 rfl) ?_
  refine lv_iload_n Z.1 Z.2.1 dL_law_115 rfl (lv_at hl 3 rfl) ?_
  refine i_const Z dL_law_116 ?_
  refine i_add Z dL_law_117 ?_
  refine l_ald Z hX hbl hbA h.2.2 (by omega) (by omega) dL_law_118 ?_
  refine lv_aload_n Z.1 Z.2.1 dL_law_119 rfl (lv_at hl 0 rfl) ?_
  refine lv_iload_n Z.1 Z.2.1 dL_law_120 rfl (lv_at hl 3 rfl) ?_
  refine i_const Z dL_law_121 ?_
  refine i_add Z dL_law_122 ?_
  refine l_ald Z hX hbl hbA h.2.2 (by omega) (by omega) dL_law_123 ?_
  refine lv_aload_n Z.1 Z.2.1 dL_law_124 rfl (lv_at hl 0 rfl) ?_
  refine lv_iload_n Z.1 Z.2.1 dL_law_125 rfl (lv_at hl 3 rfl) ?_
  refine i_const Z dL_law_126 ?_
  refine i_add Z dL_law_127 ?_
  refine l_ald Z hX hbl hbA h.2.2 (by omega) (by omega) dL_law_128 ?_
  refine l_callc (As := [.int (iI (xv xs (5 * N + 1))), .int (iI (xv xs (5 * N + 2))), .int (iI (xv xs (5 * N + 3))), .int (iI (xv xs (5 * N + 4)))]) (rest := []) Z h hA (fun A9 => metX0_publish l D dA A9 a1 X (xv xs (5 * N + 1)) (xv xs (5 * N + 2)) (xv xs (5 * N + 3)) (xv xs (5 * N + 4)) N hC (by omega) hI (xv_rng _ _) (xv_rng _ _) (xv_rng _ _) (xv_rng _ _)) (cwV 4 Z.2.2.2.2.1 (lw_V q97 q98 q99 q22 q100) rfl rfl rfl (by decide +kernel) ⟨Nat.le_of_ble_eq_true rfl, Nat.le_of_ble_eq_true rfl⟩) rfl hl.1 rfl (Nat.le_of_ble_eq_true rfl) ⟨Nat.le_of_ble_eq_true rfl, Nat.le_of_ble_eq_true rfl⟩ dL_law_129 (fun z1 X1 H locs hp1 h => ?_)
  refine lv_aload_n Z.1 Z.2.1 dL_law_132 rfl (lv_at hl 2 rfl) ?_
  refine lv_aload_n Z.1 Z.2.1 dL_law_133 rfl (lv_at hl 0 rfl) ?_
  refine lv_iload_n Z.1 Z.2.1 dL_law_134 rfl (lv_at hl 3 rfl) ?_
  refine i_const Z dL_law_135 ?_
  refine i_add Z dL_law_136 ?_
  refine l_ald Z hX hbl hbA h.2.2 (by omega) (by omega) dL_law_137 ?_
  refine lv_aload_n Z.1 Z.2.1 dL_law_138 rfl (lv_at hl 0 rfl) ?_
  refine lv_iload_n Z.1 Z.2.1 dL_law_139 rfl (lv_at hl 3 rfl) ?_
  refine i_const Z dL_law_140 ?_
  refine i_add Z dL_law_141 ?_
  refine l_ald Z hX hbl hbA h.2.2 (by omega) (by omega) dL_law_142 ?_
  refine lv_aload_n Z.1 Z.2.1 dL_law_143 rfl (lv_at hl 0 rfl) ?_
  refine lv_iload_n Z.1 Z.2.1 dL_law_144 rfl (lv_at hl 3 rfl) ?_
  refine i_const Z dL_law_145 ?_
  refine i_add Z dL_law_146 ?_
  refine l_ald Z hX hbl hbA h.2.2 (by omega) (by omega) dL_law_147 ?_
  refine lv_aload_n Z.1 Z.2.1 dL_law_148 rfl (lv_at hl 0 rfl) ?_
  refine lv_iload_n Z.1 Z.2.1 dL_law_149 rfl (lv_at hl 3 rfl) ?_
  refine i_const Z dL_law_150 ?_
  refine i_add Z dL_law_151 ?_
  refine l_ald Z hX hbl hbA h.2.2 (by omega) (by omega) dL_law_152 ?_
  refine l_callm (As := [.int (iI (xv xs (5 * N + 1))), .int (iI (xv xs (5 * N + 2))), .int (iI (xv xs (5 * N + 3))), .int (iI (xv xs (5 * N + 4)))]) (rest := [.int (iI z1)]) Z h hA (fun A9 => metX1_publish l D dA A9 a2 X (xv xs (5 * N + 1)) (xv xs (5 * N + 2)) (xv xs (5 * N + 3)) (xv xs (5 * N + 4)) N ⟨hI.1, hC⟩ (by omega) (xv_rng _ _) (xv_rng _ _) (xv_rng _ _) (xv_rng _ _)) (cwV 4 Z.2.2.2.2.1 (lw_V q266 q267 q268 q23 q269) rfl rfl rfl (by decide +kernel) ⟨Nat.le_of_ble_eq_true rfl, Nat.le_of_ble_eq_true rfl⟩) rfl hl.1 rfl (Nat.le_of_ble_eq_true rfl) ⟨Nat.le_of_ble_eq_true rfl, Nat.le_of_ble_eq_true rfl⟩ dL_law_153 (fun z2 X2 H locs hp2 h => ?_)
  obtain ⟨hI1, hs1⟩ := hp1
  obtain ⟨ez, eE⟩ := det_pub hs1 hp2
  subst ez
  refine lv_icmp_eq (tgt := 531) Z.1 Z.2.1 dL_law_156 (by decide) (fun _ => ?_) (fun c9 => absurd rfl c9)
  rw [mWG_EQ eE.sy] at h
  exact K X1 H locs ls hI1 (bc_pub hC hs1) h hl
set_option maxHeartbeats 4000000 in
set_option maxRecDepth 100000 in
theorem law_c1 {p : Program} {l : Launch} {e : Env} {s : State} {m : MethodId} {below : List Frame} {meth : Method} {c : Code} {D : va_G} {dA : ClassId} {a1 a2 : Nat → Nat} {b L : Nat} {xs : Nat → Int32} {N : Int} {X : zS} {H : Heap} {locs : List Loc} {ls : Array Slot} (hL : L ≤ 320) (C0 : lw_At p s m meth c b L xs) (Z : gC R_law D dA p s m #[Value.ref b] c cL_law 4) (n0 : 0 ≤ N) (n1 : 5 * N + 5 ≤ (L : Int)) (hI : IC X) (hC : BC N X) (h : gH D (fun q : Nat => s.heap.size ≤ q) (cWG dA a1 (gG X) ++ mWG dA a2 (gG X)) s.heap H locs) (hl : lv_has ls 4 [(0, .ref b), (1, .ref (a1 0)), (2, .ref (a2 0)), (3, .int (iI (5 * N)))]) (K : lNext p l e s m below meth c D dA a1 a2 b N) : W p l e room_1 s m #[Value.ref b] below meth c H locs 29 937 (lw_Z below #[Value.ref b] s) (F0 m 161 ls []) := by
  obtain ⟨hx, hb, hr, hml, hown, hts, hX, hbl, hlocks, hgv⟩ := C0
  have hA : ∀ q : Nat, s.heap.size ≤ q → (fun q : Nat => s.heap.size ≤ q) q := fun _ h => h
  have hbA : ¬ (fun q : Nat => s.heap.size ≤ q) b := Nat.not_le.mpr hbl
  refine lv_aload_n Z.1 Z.2.1 dL_law_161 rfl (lv_at hl 1 rfl) ?_
  refine lv_aload_n Z.1 Z.2.1 dL_law_162 rfl (lv_at hl 0 rfl) ?_
  refine lv_iload_n Z.1 Z.2.1 dL_law_163 rfl (lv_at hl 3 rfl) ?_
  refine i_const Z dL_law_164 ?_
  refine i_add Z dL_law_165 ?_
  refine l_ald Z hX hbl hbA h.2.2 (by omega) (by omega) dL_law_166 ?_
  refine lv_aload_n Z.1 Z.2.1 dL_law_167 rfl (lv_at hl 0 rfl) ?_
  refine lv_iload_n Z.1 Z.2.1 dL_law_168 rfl (lv_at hl 3 rfl) ?_
  refine i_const Z dL_law_169 ?_
  refine i_add Z dL_law_170 ?_
  refine l_ald Z hX hbl hbA h.2.2 (by omega) (by omega) dL_law_171 ?_
  refine l_callc (As := [.int (iI (xv xs (5 * N + 1))), .int (iI (xv xs (5 * N + 2)))]) (rest := []) Z h hA (fun A9 => metX0_take l D dA A9 a1 X (xv xs (5 * N + 1)) (xv xs (5 * N + 2)) N hC (by omega) hI (xv_rng _ _) (xv_rng _ _)) (cwV 2 Z.2.2.2.2.1 (lw_V q128 q129 q130 q22 q131) rfl rfl rfl (by decide +kernel) ⟨Nat.le_of_ble_eq_true rfl, Nat.le_of_ble_eq_true rfl⟩) rfl hl.1 rfl (Nat.le_of_ble_eq_true rfl) ⟨Nat.le_of_ble_eq_true rfl, Nat.le_of_ble_eq_true rfl⟩ dL_law_172 (fun z1 X1 H locs hp1 h => ?_)
  refine lv_aload_n Z.1 Z.2.1 dL_law_175 rfl (lv_at hl 2 rfl) ?_
  refine lv_aload_n Z.1 Z.2.1 dL_law_176 rfl (lv_at hl 0 rfl) ?_
  refine lv_iload_n Z.1 Z.2.1 dL_law_177 rfl (lv_at hl 3 rfl) ?_
  refine i_const Z dL_law_178 ?_
  refine i_add Z dL_law_179 ?_
  refine l_ald Z hX hbl hbA h.2.2 (by omega) (by omega) dL_law_180 ?_
  refine lv_aload_n Z.1 Z.2.1 dL_law_181 rfl (lv_at hl 0 rfl) ?_
  refine lv_iload_n Z.1 Z.2.1 dL_law_182 rfl (lv_at hl 3 rfl) ?_
  refine i_const Z dL_law_183 ?_
  refine i_add Z dL_law_184 ?_
  refine l_ald Z hX hbl hbA h.2.2 (by omega) (by omega) dL_law_185 ?_
  refine l_callm (As := [.int (iI (xv xs (5 * N + 1))), .int (iI (xv xs (5 * N + 2)))]) (rest := [.int (iI z1)]) Z h hA (fun A9 => metX1_take l D dA A9 a2 X (xv xs (5 * N + 1)) (xv xs (5 * N + 2)) N ⟨hI.1, hC⟩ (by omega) (xv_rng _ _) (xv_rng _ _)) (cwV 2 Z.2.2.2.2.1 (lw_V q274 q275 q276 q23 q277) rfl rfl rfl (by decide +kernel) ⟨Nat.le_of_ble_eq_true rfl, Nat.le_of_ble_eq_true rfl⟩) rfl hl.1 rfl (Nat.le_of_ble_eq_true rfl) ⟨Nat.le_of_ble_eq_true rfl, Nat.le_of_ble_eq_true rfl⟩ dL_law_186 (fun z2 X2 H locs hp2 h => ?_)
  obtain ⟨hI1, hs1⟩ := hp1
  obtain ⟨ez, eE⟩ := det_take hs1 hp2
  subst ez
  refine lv_icmp_eq (tgt := 531) Z.1 Z.2.1 dL_law_189 (by decide) (fun _ => ?_) (fun c9 => absurd rfl c9)
  rw [mWG_EQ eE.sy] at h
  exact K X1 H locs ls hI1 (bc_take hC hs1) h hl
set_option maxHeartbeats 4000000 in
set_option maxRecDepth 100000 in
theorem law_c2 {p : Program} {l : Launch} {e : Env} {s : State} {m : MethodId} {below : List Frame} {meth : Method} {c : Code} {D : va_G} {dA : ClassId} {a1 a2 : Nat → Nat} {b L : Nat} {xs : Nat → Int32} {N : Int} {X : zS} {H : Heap} {locs : List Loc} {ls : Array Slot} (hL : L ≤ 320) (C0 : lw_At p s m meth c b L xs) (Z : gC R_law D dA p s m #[Value.ref b] c cL_law 4) (n0 : 0 ≤ N) (n1 : 5 * N + 5 ≤ (L : Int)) (hI : IC X) (hC : BC N X) (h : gH D (fun q : Nat => s.heap.size ≤ q) (cWG dA a1 (gG X) ++ mWG dA a2 (gG X)) s.heap H locs) (hl : lv_has ls 4 [(0, .ref b), (1, .ref (a1 0)), (2, .ref (a2 0)), (3, .int (iI (5 * N)))]) (K : lNext p l e s m below meth c D dA a1 a2 b N) : W p l e room_1 s m #[Value.ref b] below meth c H locs 29 937 (lw_Z below #[Value.ref b] s) (F0 m 194 ls []) := by
  obtain ⟨hx, hb, hr, hml, hown, hts, hX, hbl, hlocks, hgv⟩ := C0
  have hA : ∀ q : Nat, s.heap.size ≤ q → (fun q : Nat => s.heap.size ≤ q) q := fun _ h => h
  have hbA : ¬ (fun q : Nat => s.heap.size ≤ q) b := Nat.not_le.mpr hbl
  refine lv_aload_n Z.1 Z.2.1 dL_law_194 rfl (lv_at hl 1 rfl) ?_
  refine lv_aload_n Z.1 Z.2.1 dL_law_195 rfl (lv_at hl 0 rfl) ?_
  refine lv_iload_n Z.1 Z.2.1 dL_law_196 rfl (lv_at hl 3 rfl) ?_
  refine i_const Z dL_law_197 ?_
  refine i_add Z dL_law_198 ?_
  refine l_ald Z hX hbl hbA h.2.2 (by omega) (by omega) dL_law_199 ?_
  refine lv_aload_n Z.1 Z.2.1 dL_law_200 rfl (lv_at hl 0 rfl) ?_
  refine lv_iload_n Z.1 Z.2.1 dL_law_201 rfl (lv_at hl 3 rfl) ?_
  refine i_const Z dL_law_202 ?_
  refine i_add Z dL_law_203 ?_
  refine l_ald Z hX hbl hbA h.2.2 (by omega) (by omega) dL_law_204 ?_
  refine l_callc (As := [.int (iI (xv xs (5 * N + 1))), .int (iI (xv xs (5 * N + 2)))]) (rest := []) Z h hA (fun A9 => metX0_acknowledge l D dA A9 a1 X (xv xs (5 * N + 1)) (xv xs (5 * N + 2)) N hC (by omega) hI (xv_rng _ _) (xv_rng _ _)) (cwV 2 Z.2.2.2.2.1 (lw_V q147 q148 q149 q22 q150) rfl rfl rfl (by decide +kernel) ⟨Nat.le_of_ble_eq_true rfl, Nat.le_of_ble_eq_true rfl⟩) rfl hl.1 rfl (Nat.le_of_ble_eq_true rfl) ⟨Nat.le_of_ble_eq_true rfl, Nat.le_of_ble_eq_true rfl⟩ dL_law_205 (fun z1 X1 H locs hp1 h => ?_)
  refine lv_aload_n Z.1 Z.2.1 dL_law_208 rfl (lv_at hl 2 rfl) ?_
  refine lv_aload_n Z.1 Z.2.1 dL_law_209 rfl (lv_at hl 0 rfl) ?_
  refine lv_iload_n Z.1 Z.2.1 dL_law_210 rfl (lv_at hl 3 rfl) ?_
  refine i_const Z dL_law_211 ?_
  refine i_add Z dL_law_212 ?_
  refine l_ald Z hX hbl hbA h.2.2 (by omega) (by omega) dL_law_213 ?_
  refine lv_aload_n Z.1 Z.2.1 dL_law_214 rfl (lv_at hl 0 rfl) ?_
  refine lv_iload_n Z.1 Z.2.1 dL_law_215 rfl (lv_at hl 3 rfl) ?_
  refine i_const Z dL_law_216 ?_
  refine i_add Z dL_law_217 ?_
  refine l_ald Z hX hbl hbA h.2.2 (by omega) (by omega) dL_law_218 ?_
  refine l_callm (As := [.int (iI (xv xs (5 * N + 1))), .int (iI (xv xs (5 * N + 2)))]) (rest := [.int (iI z1)]) Z h hA (fun A9 => metX1_acknowledge l D dA A9 a2 X (xv xs (5 * N + 1)) (xv xs (5 * N + 2)) hI.1 hC.1 (xv_rng _ _) (xv_rng _ _)) (cwV 2 Z.2.2.2.2.1 (lw_V q294 q295 q296 q23 q297) rfl rfl rfl (by decide +kernel) ⟨Nat.le_of_ble_eq_true rfl, Nat.le_of_ble_eq_true rfl⟩) rfl hl.1 rfl (Nat.le_of_ble_eq_true rfl) ⟨Nat.le_of_ble_eq_true rfl, Nat.le_of_ble_eq_true rfl⟩ dL_law_219 (fun z2 X2 H locs hp2 h => ?_)
  obtain ⟨hI1, hs1⟩ := hp1
  obtain ⟨ez, eE⟩ := det_ack hs1 hp2
  subst ez
  refine lv_icmp_eq (tgt := 531) Z.1 Z.2.1 dL_law_222 (by decide) (fun _ => ?_) (fun c9 => absurd rfl c9)
  rw [mWG_EQ eE.sy] at h
  exact K X1 H locs ls hI1 (bc_ack hC hs1) h hl
set_option maxHeartbeats 4000000 in
set_option maxRecDepth 100000 in
theorem law_c3 {p : Program} {l : Launch} {e : Env} {s : State} {m : MethodId} {below : List Frame} {meth : Method} {c : Code} {D : va_G} {dA : ClassId} {a1 a2 : Nat → Nat} {b L : Nat} {xs : Nat → Int32} {N : Int} {X : zS} {H : Heap} {locs : List Loc} {ls : Array Slot} (hL : L ≤ 320) (C0 : lw_At p s m meth c b L xs) (Z : gC R_law D dA p s m #[Value.ref b] c cL_law 4) (n0 : 0 ≤ N) (n1 : 5 * N + 5 ≤ (L : Int)) (hI : IC X) (hC : BC N X) (h : gH D (fun q : Nat => s.heap.size ≤ q) (cWG dA a1 (gG X) ++ mWG dA a2 (gG X)) s.heap H locs) (hl : lv_has ls 4 [(0, .ref b), (1, .ref (a1 0)), (2, .ref (a2 0)), (3, .int (iI (5 * N)))]) (K : lNext p l e s m below meth c D dA a1 a2 b N) : W p l e room_1 s m #[Value.ref b] below meth c H locs 29 937 (lw_Z below #[Value.ref b] s) (F0 m 227 ls []) := by
  obtain ⟨hx, hb, hr, hml, hown, hts, hX, hbl, hlocks, hgv⟩ := C0
  have hA : ∀ q : Nat, s.heap.size ≤ q → (fun q : Nat => s.heap.size ≤ q) q := fun _ h => h
  have hbA : ¬ (fun q : Nat => s.heap.size ≤ q) b := Nat.not_le.mpr hbl
  refine lv_aload_n Z.1 Z.2.1 dL_law_227 rfl (lv_at hl 1 rfl) ?_
  refine lv_aload_n Z.1 Z.2.1 dL_law_228 rfl (lv_at hl 0 rfl) ?_
  refine lv_iload_n Z.1 Z.2.1 dL_law_229 rfl (lv_at hl 3 rfl) ?_
  refine i_const Z dL_law_230 ?_
  refine i_add Z dL_law_231 ?_
  refine l_ald Z hX hbl hbA h.2.2 (by omega) (by omega) dL_law_232 ?_
  refine lv_aload_n Z.1 Z.2.1 dL_law_233 rfl (lv_at hl 0 rfl) ?_
  refine lv_iload_n Z.1 Z.2.1 dL_law_234 rfl (lv_at hl 3 rfl) ?_
  refine i_const Z dL_law_235 ?_
  refine i_add Z dL_law_236 ?_
  refine l_ald Z hX hbl hbA h.2.2 (by omega) (by omega) dL_law_237 ?_
  refine l_callc (As := [.int (iI (xv xs (5 * N + 1))), .int (iI (xv xs (5 * N + 2)))]) (rest := []) Z h hA (fun A9 => metX0_refuse l D dA A9 a1 X (xv xs (5 * N + 1)) (xv xs (5 * N + 2)) N hC (by omega) hI (xv_rng _ _) (xv_rng _ _)) (cwV 2 Z.2.2.2.2.1 (lw_V q159 q160 q161 q22 q162) rfl rfl rfl (by decide +kernel) ⟨Nat.le_of_ble_eq_true rfl, Nat.le_of_ble_eq_true rfl⟩) rfl hl.1 rfl (Nat.le_of_ble_eq_true rfl) ⟨Nat.le_of_ble_eq_true rfl, Nat.le_of_ble_eq_true rfl⟩ dL_law_238 (fun z1 X1 H locs hp1 h => ?_)
  refine lv_aload_n Z.1 Z.2.1 dL_law_241 rfl (lv_at hl 2 rfl) ?_
  refine lv_aload_n Z.1 Z.2.1 dL_law_242 rfl (lv_at hl 0 rfl) ?_
  refine lv_iload_n Z.1 Z.2.1 dL_law_243 rfl (lv_at hl 3 rfl) ?_
  refine i_const Z dL_law_244 ?_
  refine i_add Z dL_law_245 ?_
  refine l_ald Z hX hbl hbA h.2.2 (by omega) (by omega) dL_law_246 ?_
  refine lv_aload_n Z.1 Z.2.1 dL_law_247 rfl (lv_at hl 0 rfl) ?_
  refine lv_iload_n Z.1 Z.2.1 dL_law_248 rfl (lv_at hl 3 rfl) ?_
  refine i_const Z dL_law_249 ?_
  refine i_add Z dL_law_250 ?_
  refine l_ald Z hX hbl hbA h.2.2 (by omega) (by omega) dL_law_251 ?_
  refine l_callm (As := [.int (iI (xv xs (5 * N + 1))), .int (iI (xv xs (5 * N + 2)))]) (rest := [.int (iI z1)]) Z h hA (fun A9 => metX1_refuse l D dA A9 a2 X (xv xs (5 * N + 1)) (xv xs (5 * N + 2)) hI.1 hC.1 hC.2.1 (xv_rng _ _) (xv_rng _ _)) (cwV 2 Z.2.2.2.2.1 (lw_V q302 q303 q304 q23 q305) rfl rfl rfl (by decide +kernel) ⟨Nat.le_of_ble_eq_true rfl, Nat.le_of_ble_eq_true rfl⟩) rfl hl.1 rfl (Nat.le_of_ble_eq_true rfl) ⟨Nat.le_of_ble_eq_true rfl, Nat.le_of_ble_eq_true rfl⟩ dL_law_252 (fun z2 X2 H locs hp2 h => ?_)
  obtain ⟨hI1, hs1⟩ := hp1
  obtain ⟨ez, eE⟩ := det_ref hs1 hp2
  subst ez
  refine lv_icmp_eq (tgt := 531) Z.1 Z.2.1 dL_law_255 (by decide) (fun _ => ?_) (fun c9 => absurd rfl c9)
  rw [mWG_EQ eE.sy] at h
  exact K X1 H locs ls hI1 (bc_ref hC hs1) h hl
set_option maxHeartbeats 4000000 in
set_option maxRecDepth 100000 in
theorem law_c4 {p : Program} {l : Launch} {e : Env} {s : State} {m : MethodId} {below : List Frame} {meth : Method} {c : Code} {D : va_G} {dA : ClassId} {a1 a2 : Nat → Nat} {b L : Nat} {xs : Nat → Int32} {N : Int} {X : zS} {H : Heap} {locs : List Loc} {ls : Array Slot} (hL : L ≤ 320) (C0 : lw_At p s m meth c b L xs) (Z : gC R_law D dA p s m #[Value.ref b] c cL_law 4) (n0 : 0 ≤ N) (n1 : 5 * N + 5 ≤ (L : Int)) (hI : IC X) (hC : BC N X) (h : gH D (fun q : Nat => s.heap.size ≤ q) (cWG dA a1 (gG X) ++ mWG dA a2 (gG X)) s.heap H locs) (hl : lv_has ls 4 [(0, .ref b), (1, .ref (a1 0)), (2, .ref (a2 0)), (3, .int (iI (5 * N)))]) (K : lNext p l e s m below meth c D dA a1 a2 b N) : W p l e room_1 s m #[Value.ref b] below meth c H locs 29 937 (lw_Z below #[Value.ref b] s) (F0 m 260 ls []) := by
  obtain ⟨hx, hb, hr, hml, hown, hts, hX, hbl, hlocks, hgv⟩ := C0
  have hA : ∀ q : Nat, s.heap.size ≤ q → (fun q : Nat => s.heap.size ≤ q) q := fun _ h => h
  have hbA : ¬ (fun q : Nat => s.heap.size ≤ q) b := Nat.not_le.mpr hbl
  refine lv_aload_n Z.1 Z.2.1 dL_law_260 rfl (lv_at hl 1 rfl) ?_
  refine lv_aload_n Z.1 Z.2.1 dL_law_261 rfl (lv_at hl 0 rfl) ?_
  refine lv_iload_n Z.1 Z.2.1 dL_law_262 rfl (lv_at hl 3 rfl) ?_
  refine i_const Z dL_law_263 ?_
  refine i_add Z dL_law_264 ?_
  refine l_ald Z hX hbl hbA h.2.2 (by omega) (by omega) dL_law_265 ?_
  refine l_callc (As := [.int (iI (xv xs (5 * N + 1)))]) (rest := []) Z h hA (fun A9 => metX0_lose l D dA A9 a1 X (xv xs (5 * N + 1)) N hC (by omega) hI (xv_rng _ _)) (cwV 1 Z.2.2.2.2.1 (lw_V q175 q176 q177 q22 q178) rfl rfl rfl (by decide +kernel) ⟨Nat.le_of_ble_eq_true rfl, Nat.le_of_ble_eq_true rfl⟩) rfl hl.1 rfl (Nat.le_of_ble_eq_true rfl) ⟨Nat.le_of_ble_eq_true rfl, Nat.le_of_ble_eq_true rfl⟩ dL_law_266 (fun z1 X1 H locs hp1 h => ?_)
  refine lv_aload_n Z.1 Z.2.1 dL_law_269 rfl (lv_at hl 2 rfl) ?_
  refine lv_aload_n Z.1 Z.2.1 dL_law_270 rfl (lv_at hl 0 rfl) ?_
  refine lv_iload_n Z.1 Z.2.1 dL_law_271 rfl (lv_at hl 3 rfl) ?_
  refine i_const Z dL_law_272 ?_
  refine i_add Z dL_law_273 ?_
  refine l_ald Z hX hbl hbA h.2.2 (by omega) (by omega) dL_law_274 ?_
  refine l_callm (As := [.int (iI (xv xs (5 * N + 1)))]) (rest := [.int (iI z1)]) Z h hA (fun A9 => metX1_lose l D dA A9 a2 X (xv xs (5 * N + 1)) N ⟨hI.1, hC⟩ (by omega) (xv_rng _ _)) (cwV 1 Z.2.2.2.2.1 (lw_V q310 q311 q312 q23 q313) rfl rfl rfl (by decide +kernel) ⟨Nat.le_of_ble_eq_true rfl, Nat.le_of_ble_eq_true rfl⟩) rfl hl.1 rfl (Nat.le_of_ble_eq_true rfl) ⟨Nat.le_of_ble_eq_true rfl, Nat.le_of_ble_eq_true rfl⟩ dL_law_275 (fun z2 X2 H locs hp2 h => ?_)
  obtain ⟨hI1, hs1⟩ := hp1
  obtain ⟨ez, eE⟩ := det_lose hs1 hp2
  subst ez
  refine lv_icmp_eq (tgt := 531) Z.1 Z.2.1 dL_law_278 (by decide) (fun _ => ?_) (fun c9 => absurd rfl c9)
  rw [mWG_EQ eE.sy] at h
  exact K X1 H locs ls hI1 (bc_lose hC hs1) h hl
set_option maxHeartbeats 4000000 in
set_option maxRecDepth 100000 in
theorem law_c5 {p : Program} {l : Launch} {e : Env} {s : State} {m : MethodId} {below : List Frame} {meth : Method} {c : Code} {D : va_G} {dA : ClassId} {a1 a2 : Nat → Nat} {b L : Nat} {xs : Nat → Int32} {N : Int} {X : zS} {H : Heap} {locs : List Loc} {ls : Array Slot} (hL : L ≤ 320) (C0 : lw_At p s m meth c b L xs) (Z : gC R_law D dA p s m #[Value.ref b] c cL_law 4) (n0 : 0 ≤ N) (n1 : 5 * N + 5 ≤ (L : Int)) (hI : IC X) (hC : BC N X) (h : gH D (fun q : Nat => s.heap.size ≤ q) (cWG dA a1 (gG X) ++ mWG dA a2 (gG X)) s.heap H locs) (hl : lv_has ls 4 [(0, .ref b), (1, .ref (a1 0)), (2, .ref (a2 0)), (3, .int (iI (5 * N)))]) (K : lNext p l e s m below meth c D dA a1 a2 b N) : W p l e room_1 s m #[Value.ref b] below meth c H locs 29 937 (lw_Z below #[Value.ref b] s) (F0 m 283 ls []) := by
  obtain ⟨hx, hb, hr, hml, hown, hts, hX, hbl, hlocks, hgv⟩ := C0
  have hA : ∀ q : Nat, s.heap.size ≤ q → (fun q : Nat => s.heap.size ≤ q) q := fun _ h => h
  have hbA : ¬ (fun q : Nat => s.heap.size ≤ q) b := Nat.not_le.mpr hbl
  refine lv_aload_n Z.1 Z.2.1 dL_law_283 rfl (lv_at hl 1 rfl) ?_
  refine lv_aload_n Z.1 Z.2.1 dL_law_284 rfl (lv_at hl 0 rfl) ?_
  refine lv_iload_n Z.1 Z.2.1 dL_law_285 rfl (lv_at hl 3 rfl) ?_
  refine i_const Z dL_law_286 ?_
  refine i_add Z dL_law_287 ?_
  refine l_ald Z hX hbl hbA h.2.2 (by omega) (by omega) dL_law_288 ?_
  refine lv_aload_n Z.1 Z.2.1 dL_law_289 rfl (lv_at hl 0 rfl) ?_
  refine lv_iload_n Z.1 Z.2.1 dL_law_290 rfl (lv_at hl 3 rfl) ?_
  refine i_const Z dL_law_291 ?_
  refine i_add Z dL_law_292 ?_
  refine l_ald Z hX hbl hbA h.2.2 (by omega) (by omega) dL_law_293 ?_
  refine l_callc (As := [.int (iI (xv xs (5 * N + 1))), .int (iI (xv xs (5 * N + 2)))]) (rest := []) Z h hA (fun A9 => metX0_renew l D dA A9 a1 X (xv xs (5 * N + 1)) (xv xs (5 * N + 2)) N hC (by omega) hI (xv_rng _ _) (xv_rng _ _)) (cwV 2 Z.2.2.2.2.1 (lw_V q179 q180 q181 q22 q182) rfl rfl rfl (by decide +kernel) ⟨Nat.le_of_ble_eq_true rfl, Nat.le_of_ble_eq_true rfl⟩) rfl hl.1 rfl (Nat.le_of_ble_eq_true rfl) ⟨Nat.le_of_ble_eq_true rfl, Nat.le_of_ble_eq_true rfl⟩ dL_law_294 (fun z1 X1 H locs hp1 h => ?_)
  refine lv_aload_n Z.1 Z.2.1 dL_law_297 rfl (lv_at hl 2 rfl) ?_
  refine lv_aload_n Z.1 Z.2.1 dL_law_298 rfl (lv_at hl 0 rfl) ?_
  refine lv_iload_n Z.1 Z.2.1 dL_law_299 rfl (lv_at hl 3 rfl) ?_
  refine i_const Z dL_law_300 ?_
  refine i_add Z dL_law_301 ?_
  refine l_ald Z hX hbl hbA h.2.2 (by omega) (by omega) dL_law_302 ?_
  refine lv_aload_n Z.1 Z.2.1 dL_law_303 rfl (lv_at hl 0 rfl) ?_
  refine lv_iload_n Z.1 Z.2.1 dL_law_304 rfl (lv_at hl 3 rfl) ?_
  refine i_const Z dL_law_305 ?_
  refine i_add Z dL_law_306 ?_
  refine l_ald Z hX hbl hbA h.2.2 (by omega) (by omega) dL_law_307 ?_
  refine l_callm (As := [.int (iI (xv xs (5 * N + 1))), .int (iI (xv xs (5 * N + 2)))]) (rest := [.int (iI z1)]) Z h hA (fun A9 => metX1_renew l D dA A9 a2 X (xv xs (5 * N + 1)) (xv xs (5 * N + 2)) N ⟨hI.1, hC⟩ (by omega) (xv_rng _ _) (xv_rng _ _)) (cwV 2 Z.2.2.2.2.1 (lw_V q314 q315 q316 q23 q317) rfl rfl rfl (by decide +kernel) ⟨Nat.le_of_ble_eq_true rfl, Nat.le_of_ble_eq_true rfl⟩) rfl hl.1 rfl (Nat.le_of_ble_eq_true rfl) ⟨Nat.le_of_ble_eq_true rfl, Nat.le_of_ble_eq_true rfl⟩ dL_law_308 (fun z2 X2 H locs hp2 h => ?_)
  obtain ⟨hI1, hs1⟩ := hp1
  obtain ⟨ez, eE⟩ := det_ren hs1 hp2
  subst ez
  refine lv_icmp_eq (tgt := 531) Z.1 Z.2.1 dL_law_311 (by decide) (fun _ => ?_) (fun c9 => absurd rfl c9)
  rw [mWG_EQ eE.sy] at h
  exact K X1 H locs ls hI1 (bc_ren hC hs1) h hl
set_option maxHeartbeats 4000000 in
set_option maxRecDepth 100000 in
theorem law_c6 {p : Program} {l : Launch} {e : Env} {s : State} {m : MethodId} {below : List Frame} {meth : Method} {c : Code} {D : va_G} {dA : ClassId} {a1 a2 : Nat → Nat} {b L : Nat} {xs : Nat → Int32} {N : Int} {X : zS} {H : Heap} {locs : List Loc} {ls : Array Slot} (hL : L ≤ 320) (C0 : lw_At p s m meth c b L xs) (Z : gC R_law D dA p s m #[Value.ref b] c cL_law 4) (n0 : 0 ≤ N) (n1 : 5 * N + 5 ≤ (L : Int)) (hI : IC X) (hC : BC N X) (h : gH D (fun q : Nat => s.heap.size ≤ q) (cWG dA a1 (gG X) ++ mWG dA a2 (gG X)) s.heap H locs) (hl : lv_has ls 4 [(0, .ref b), (1, .ref (a1 0)), (2, .ref (a2 0)), (3, .int (iI (5 * N)))]) (K : lNext p l e s m below meth c D dA a1 a2 b N) : W p l e room_1 s m #[Value.ref b] below meth c H locs 29 937 (lw_Z below #[Value.ref b] s) (F0 m 316 ls []) := by
  obtain ⟨hx, hb, hr, hml, hown, hts, hX, hbl, hlocks, hgv⟩ := C0
  have hA : ∀ q : Nat, s.heap.size ≤ q → (fun q : Nat => s.heap.size ≤ q) q := fun _ h => h
  have hbA : ¬ (fun q : Nat => s.heap.size ≤ q) b := Nat.not_le.mpr hbl
  refine lv_aload_n Z.1 Z.2.1 dL_law_316 rfl (lv_at hl 1 rfl) ?_
  refine lv_aload_n Z.1 Z.2.1 dL_law_317 rfl (lv_at hl 0 rfl) ?_
  refine lv_iload_n Z.1 Z.2.1 dL_law_318 rfl (lv_at hl 3 rfl) ?_
  refine i_const Z dL_law_319 ?_
  refine i_add Z dL_law_320 ?_
  refine l_ald Z hX hbl hbA h.2.2 (by omega) (by omega) dL_law_321 ?_
  refine l_callc (As := [.int (iI (xv xs (5 * N + 1)))]) (rest := []) Z h hA (fun A9 => metX0_pass l D dA A9 a1 X (xv xs (5 * N + 1)) N hC (by omega) hI (xv_rng _ _)) (cwV 1 Z.2.2.2.2.1 (lw_V q183 q184 q185 q22 q186) rfl rfl rfl (by decide +kernel) ⟨Nat.le_of_ble_eq_true rfl, Nat.le_of_ble_eq_true rfl⟩) rfl hl.1 rfl (Nat.le_of_ble_eq_true rfl) ⟨Nat.le_of_ble_eq_true rfl, Nat.le_of_ble_eq_true rfl⟩ dL_law_322 (fun z1 X1 H locs hp1 h => ?_)
  refine lv_aload_n Z.1 Z.2.1 dL_law_325 rfl (lv_at hl 2 rfl) ?_
  refine lv_aload_n Z.1 Z.2.1 dL_law_326 rfl (lv_at hl 0 rfl) ?_
  refine lv_iload_n Z.1 Z.2.1 dL_law_327 rfl (lv_at hl 3 rfl) ?_
  refine i_const Z dL_law_328 ?_
  refine i_add Z dL_law_329 ?_
  refine l_ald Z hX hbl hbA h.2.2 (by omega) (by omega) dL_law_330 ?_
  refine l_callm (As := [.int (iI (xv xs (5 * N + 1)))]) (rest := [.int (iI z1)]) Z h hA (fun A9 => metX1_pass l D dA A9 a2 X (xv xs (5 * N + 1)) N ⟨hI.1, hC⟩ (by omega) (xv_rng _ _)) (cwV 1 Z.2.2.2.2.1 (lw_V q318 q319 q320 q23 q321) rfl rfl rfl (by decide +kernel) ⟨Nat.le_of_ble_eq_true rfl, Nat.le_of_ble_eq_true rfl⟩) rfl hl.1 rfl (Nat.le_of_ble_eq_true rfl) ⟨Nat.le_of_ble_eq_true rfl, Nat.le_of_ble_eq_true rfl⟩ dL_law_331 (fun z2 X2 H locs hp2 h => ?_)
  obtain ⟨hI1, hs1⟩ := hp1
  obtain ⟨ez, eE⟩ := det_pass hs1 hp2
  subst ez
  refine lv_icmp_eq (tgt := 531) Z.1 Z.2.1 dL_law_334 (by decide) (fun _ => ?_) (fun c9 => absurd rfl c9)
  rw [mWG_EQ eE.sy] at h
  exact K X1 H locs ls hI1 (bc_pass hC hs1) h hl
set_option maxHeartbeats 4000000 in
set_option maxRecDepth 100000 in
theorem law_c7 {p : Program} {l : Launch} {e : Env} {s : State} {m : MethodId} {below : List Frame} {meth : Method} {c : Code} {D : va_G} {dA : ClassId} {a1 a2 : Nat → Nat} {b L : Nat} {xs : Nat → Int32} {N : Int} {X : zS} {H : Heap} {locs : List Loc} {ls : Array Slot} (hL : L ≤ 320) (C0 : lw_At p s m meth c b L xs) (Z : gC R_law D dA p s m #[Value.ref b] c cL_law 4) (n0 : 0 ≤ N) (n1 : 5 * N + 5 ≤ (L : Int)) (hI : IC X) (hC : BC N X) (h : gH D (fun q : Nat => s.heap.size ≤ q) (cWG dA a1 (gG X) ++ mWG dA a2 (gG X)) s.heap H locs) (hl : lv_has ls 4 [(0, .ref b), (1, .ref (a1 0)), (2, .ref (a2 0)), (3, .int (iI (5 * N)))]) (K : lNext p l e s m below meth c D dA a1 a2 b N) : W p l e room_1 s m #[Value.ref b] below meth c H locs 29 937 (lw_Z below #[Value.ref b] s) (F0 m 339 ls []) := by
  obtain ⟨hx, hb, hr, hml, hown, hts, hX, hbl, hlocks, hgv⟩ := C0
  have hA : ∀ q : Nat, s.heap.size ≤ q → (fun q : Nat => s.heap.size ≤ q) q := fun _ h => h
  have hbA : ¬ (fun q : Nat => s.heap.size ≤ q) b := Nat.not_le.mpr hbl
  refine lv_aload_n Z.1 Z.2.1 dL_law_339 rfl (lv_at hl 1 rfl) ?_
  refine lv_aload_n Z.1 Z.2.1 dL_law_340 rfl (lv_at hl 0 rfl) ?_
  refine lv_iload_n Z.1 Z.2.1 dL_law_341 rfl (lv_at hl 3 rfl) ?_
  refine i_const Z dL_law_342 ?_
  refine i_add Z dL_law_343 ?_
  refine l_ald Z hX hbl hbA h.2.2 (by omega) (by omega) dL_law_344 ?_
  refine lv_aload_n Z.1 Z.2.1 dL_law_345 rfl (lv_at hl 0 rfl) ?_
  refine lv_iload_n Z.1 Z.2.1 dL_law_346 rfl (lv_at hl 3 rfl) ?_
  refine i_const Z dL_law_347 ?_
  refine i_add Z dL_law_348 ?_
  refine l_ald Z hX hbl hbA h.2.2 (by omega) (by omega) dL_law_349 ?_
  refine lv_aload_n Z.1 Z.2.1 dL_law_350 rfl (lv_at hl 0 rfl) ?_
  refine lv_iload_n Z.1 Z.2.1 dL_law_351 rfl (lv_at hl 3 rfl) ?_
  refine i_const Z dL_law_352 ?_
  refine i_add Z dL_law_353 ?_
  refine l_ald Z hX hbl hbA h.2.2 (by omega) (by omega) dL_law_354 ?_
  refine l_callc (As := [.int (iI (xv xs (5 * N + 1))), .int (iI (xv xs (5 * N + 2))), .int (iI (xv xs (5 * N + 3)))]) (rest := []) Z h hA (fun A9 => metX0_tune l D dA A9 a1 X (xv xs (5 * N + 1)) (xv xs (5 * N + 2)) (xv xs (5 * N + 3)) N hC (by omega) hI (xv_rng _ _) (xv_rng _ _) (xv_rng _ _)) (cwV 3 Z.2.2.2.2.1 (lw_V q191 q192 q193 q22 q194) rfl rfl rfl (by decide +kernel) ⟨Nat.le_of_ble_eq_true rfl, Nat.le_of_ble_eq_true rfl⟩) rfl hl.1 rfl (Nat.le_of_ble_eq_true rfl) ⟨Nat.le_of_ble_eq_true rfl, Nat.le_of_ble_eq_true rfl⟩ dL_law_355 (fun z1 X1 H locs hp1 h => ?_)
  refine lv_aload_n Z.1 Z.2.1 dL_law_358 rfl (lv_at hl 2 rfl) ?_
  refine lv_aload_n Z.1 Z.2.1 dL_law_359 rfl (lv_at hl 0 rfl) ?_
  refine lv_iload_n Z.1 Z.2.1 dL_law_360 rfl (lv_at hl 3 rfl) ?_
  refine i_const Z dL_law_361 ?_
  refine i_add Z dL_law_362 ?_
  refine l_ald Z hX hbl hbA h.2.2 (by omega) (by omega) dL_law_363 ?_
  refine lv_aload_n Z.1 Z.2.1 dL_law_364 rfl (lv_at hl 0 rfl) ?_
  refine lv_iload_n Z.1 Z.2.1 dL_law_365 rfl (lv_at hl 3 rfl) ?_
  refine i_const Z dL_law_366 ?_
  refine i_add Z dL_law_367 ?_
  refine l_ald Z hX hbl hbA h.2.2 (by omega) (by omega) dL_law_368 ?_
  refine lv_aload_n Z.1 Z.2.1 dL_law_369 rfl (lv_at hl 0 rfl) ?_
  refine lv_iload_n Z.1 Z.2.1 dL_law_370 rfl (lv_at hl 3 rfl) ?_
  refine i_const Z dL_law_371 ?_
  refine i_add Z dL_law_372 ?_
  refine l_ald Z hX hbl hbA h.2.2 (by omega) (by omega) dL_law_373 ?_
  refine l_callm (As := [.int (iI (xv xs (5 * N + 1))), .int (iI (xv xs (5 * N + 2))), .int (iI (xv xs (5 * N + 3)))]) (rest := [.int (iI z1)]) Z h hA (fun A9 => metX1_tune l D dA A9 a2 X (xv xs (5 * N + 1)) (xv xs (5 * N + 2)) (xv xs (5 * N + 3)) hI.1 (xv_rng _ _) (xv_rng _ _) (xv_rng _ _)) (cwV 3 Z.2.2.2.2.1 (lw_V q322 q323 q324 q23 q325) rfl rfl rfl (by decide +kernel) ⟨Nat.le_of_ble_eq_true rfl, Nat.le_of_ble_eq_true rfl⟩) rfl hl.1 rfl (Nat.le_of_ble_eq_true rfl) ⟨Nat.le_of_ble_eq_true rfl, Nat.le_of_ble_eq_true rfl⟩ dL_law_374 (fun z2 X2 H locs hp2 h => ?_)
  obtain ⟨hI1, hs1⟩ := hp1
  obtain ⟨ez, eE⟩ := det_tune hs1 hp2
  subst ez
  refine lv_icmp_eq (tgt := 531) Z.1 Z.2.1 dL_law_377 (by decide) (fun _ => ?_) (fun c9 => absurd rfl c9)
  rw [mWG_EQ eE.sy] at h
  exact K X1 H locs ls hI1 (bc_tune hC hs1) h hl
set_option maxHeartbeats 4000000 in
set_option maxRecDepth 100000 in
theorem law_c8 {p : Program} {l : Launch} {e : Env} {s : State} {m : MethodId} {below : List Frame} {meth : Method} {c : Code} {D : va_G} {dA : ClassId} {a1 a2 : Nat → Nat} {b L : Nat} {xs : Nat → Int32} {N : Int} {X : zS} {H : Heap} {locs : List Loc} {ls : Array Slot} (hL : L ≤ 320) (C0 : lw_At p s m meth c b L xs) (Z : gC R_law D dA p s m #[Value.ref b] c cL_law 4) (n0 : 0 ≤ N) (n1 : 5 * N + 5 ≤ (L : Int)) (hI : IC X) (hC : BC N X) (h : gH D (fun q : Nat => s.heap.size ≤ q) (cWG dA a1 (gG X) ++ mWG dA a2 (gG X)) s.heap H locs) (hl : lv_has ls 4 [(0, .ref b), (1, .ref (a1 0)), (2, .ref (a2 0)), (3, .int (iI (5 * N)))]) (K : lNext p l e s m below meth c D dA a1 a2 b N) : W p l e room_1 s m #[Value.ref b] below meth c H locs 29 937 (lw_Z below #[Value.ref b] s) (F0 m 382 ls []) := by
  obtain ⟨hx, hb, hr, hml, hown, hts, hX, hbl, hlocks, hgv⟩ := C0
  have hA : ∀ q : Nat, s.heap.size ≤ q → (fun q : Nat => s.heap.size ≤ q) q := fun _ h => h
  have hbA : ¬ (fun q : Nat => s.heap.size ≤ q) b := Nat.not_le.mpr hbl
  refine lv_aload_n Z.1 Z.2.1 dL_law_382 rfl (lv_at hl 1 rfl) ?_
  refine lv_aload_n Z.1 Z.2.1 dL_law_383 rfl (lv_at hl 0 rfl) ?_
  refine lv_iload_n Z.1 Z.2.1 dL_law_384 rfl (lv_at hl 3 rfl) ?_
  refine i_const Z dL_law_385 ?_
  refine i_add Z dL_law_386 ?_
  refine l_ald Z hX hbl hbA h.2.2 (by omega) (by omega) dL_law_387 ?_
  refine l_callc (As := [.int (iI (xv xs (5 * N + 1)))]) (rest := []) Z h hA (fun A9 => metX0_revive l D dA A9 a1 X (xv xs (5 * N + 1)) N hC (by omega) hI (xv_rng _ _)) (cwV 1 Z.2.2.2.2.1 (lw_V q195 q196 q197 q22 q198) rfl rfl rfl (by decide +kernel) ⟨Nat.le_of_ble_eq_true rfl, Nat.le_of_ble_eq_true rfl⟩) rfl hl.1 rfl (Nat.le_of_ble_eq_true rfl) ⟨Nat.le_of_ble_eq_true rfl, Nat.le_of_ble_eq_true rfl⟩ dL_law_388 (fun z1 X1 H locs hp1 h => ?_)
  refine lv_aload_n Z.1 Z.2.1 dL_law_391 rfl (lv_at hl 2 rfl) ?_
  refine lv_aload_n Z.1 Z.2.1 dL_law_392 rfl (lv_at hl 0 rfl) ?_
  refine lv_iload_n Z.1 Z.2.1 dL_law_393 rfl (lv_at hl 3 rfl) ?_
  refine i_const Z dL_law_394 ?_
  refine i_add Z dL_law_395 ?_
  refine l_ald Z hX hbl hbA h.2.2 (by omega) (by omega) dL_law_396 ?_
  refine l_callm (As := [.int (iI (xv xs (5 * N + 1)))]) (rest := [.int (iI z1)]) Z h hA (fun A9 => metX1_revive l D dA A9 a2 X (xv xs (5 * N + 1)) hI.1 hC.1 (xv_rng _ _)) (cwV 1 Z.2.2.2.2.1 (lw_V q326 q327 q328 q23 q329) rfl rfl rfl (by decide +kernel) ⟨Nat.le_of_ble_eq_true rfl, Nat.le_of_ble_eq_true rfl⟩) rfl hl.1 rfl (Nat.le_of_ble_eq_true rfl) ⟨Nat.le_of_ble_eq_true rfl, Nat.le_of_ble_eq_true rfl⟩ dL_law_397 (fun z2 X2 H locs hp2 h => ?_)
  obtain ⟨hI1, hs1⟩ := hp1
  obtain ⟨ez, eE⟩ := det_rev hs1 hp2
  subst ez
  refine lv_icmp_eq (tgt := 531) Z.1 Z.2.1 dL_law_400 (by decide) (fun _ => ?_) (fun c9 => absurd rfl c9)
  rw [mWG_EQ eE.sy] at h
  exact K X1 H locs ls hI1 (bc_rev n0 hC hs1) h hl
set_option maxHeartbeats 4000000 in
set_option maxRecDepth 100000 in
theorem law_c9 {p : Program} {l : Launch} {e : Env} {s : State} {m : MethodId} {below : List Frame} {meth : Method} {c : Code} {D : va_G} {dA : ClassId} {a1 a2 : Nat → Nat} {b L : Nat} {xs : Nat → Int32} {N : Int} {X : zS} {H : Heap} {locs : List Loc} {ls : Array Slot} (hL : L ≤ 320) (C0 : lw_At p s m meth c b L xs) (Z : gC R_law D dA p s m #[Value.ref b] c cL_law 4) (n0 : 0 ≤ N) (n1 : 5 * N + 5 ≤ (L : Int)) (hI : IC X) (hC : BC N X) (h : gH D (fun q : Nat => s.heap.size ≤ q) (cWG dA a1 (gG X) ++ mWG dA a2 (gG X)) s.heap H locs) (hl : lv_has ls 4 [(0, .ref b), (1, .ref (a1 0)), (2, .ref (a2 0)), (3, .int (iI (5 * N)))]) (K : lNext p l e s m below meth c D dA a1 a2 b N) : W p l e room_1 s m #[Value.ref b] below meth c H locs 29 937 (lw_Z below #[Value.ref b] s) (F0 m 405 ls []) := by
  obtain ⟨hx, hb, hr, hml, hown, hts, hX, hbl, hlocks, hgv⟩ := C0
  have hA : ∀ q : Nat, s.heap.size ≤ q → (fun q : Nat => s.heap.size ≤ q) q := fun _ h => h
  have hbA : ¬ (fun q : Nat => s.heap.size ≤ q) b := Nat.not_le.mpr hbl
  refine lv_aload_n Z.1 Z.2.1 dL_law_405 rfl (lv_at hl 1 rfl) ?_
  refine l_callcv (As := []) (rest := []) Z h hA (fun A9 => metX0_clear l D dA A9 a1 X  hI.1 ) (cwV 0 Z.2.2.2.2.1 (lw_V q199 q200 q201 q22 q202) rfl rfl rfl (by decide +kernel) ⟨Nat.le_of_ble_eq_true rfl, Nat.le_of_ble_eq_true rfl⟩) rfl hl.1 rfl (Nat.le_of_ble_eq_true rfl) ⟨Nat.le_of_ble_eq_true rfl, Nat.le_of_ble_eq_true rfl⟩ dL_law_406 (fun X1 H locs hp1 h => ?_)
  refine lv_aload_n Z.1 Z.2.1 dL_law_409 rfl (lv_at hl 2 rfl) ?_
  refine l_callmv (As := []) (rest := []) Z h hA (fun A9 => metX1_clear l D dA A9 a2 X  hI.1 ) (cwV 0 Z.2.2.2.2.1 (lw_V q330 q331 q332 q23 q333) rfl rfl rfl (by decide +kernel) ⟨Nat.le_of_ble_eq_true rfl, Nat.le_of_ble_eq_true rfl⟩) rfl hl.1 rfl (Nat.le_of_ble_eq_true rfl) ⟨Nat.le_of_ble_eq_true rfl, Nat.le_of_ble_eq_true rfl⟩ dL_law_410 (fun X2 H locs hp2 h => ?_)
  obtain ⟨hI1, hs1⟩ := hp1
  have eE : EQ X1 X2 := hs1.tr hp2.sy
  refine lv_goto (tgt := 531) Z.1 Z.2.1 dL_law_413 (by decide) ?_
  rw [mWG_EQ eE.sy] at h
  exact K X1 H locs ls hI1 (BC_up (BC_EQ (BC_set (T := X 19 0) hC rfl (by decide) (by omega) (by omega) (by omega) (by omega) (by omega) (by omega) (by omega) (by omega) (by omega) (by omega)) hs1)) h hl
set_option maxHeartbeats 4000000 in
set_option maxRecDepth 100000 in
theorem law_c10 {p : Program} {l : Launch} {e : Env} {s : State} {m : MethodId} {below : List Frame} {meth : Method} {c : Code} {D : va_G} {dA : ClassId} {a1 a2 : Nat → Nat} {b L : Nat} {xs : Nat → Int32} {N : Int} {X : zS} {H : Heap} {locs : List Loc} {ls : Array Slot} (hL : L ≤ 320) (C0 : lw_At p s m meth c b L xs) (Z : gC R_law D dA p s m #[Value.ref b] c cL_law 4) (n0 : 0 ≤ N) (n1 : 5 * N + 5 ≤ (L : Int)) (hI : IC X) (hC : BC N X) (h : gH D (fun q : Nat => s.heap.size ≤ q) (cWG dA a1 (gG X) ++ mWG dA a2 (gG X)) s.heap H locs) (hl : lv_has ls 4 [(0, .ref b), (1, .ref (a1 0)), (2, .ref (a2 0)), (3, .int (iI (5 * N)))]) (K : lNext p l e s m below meth c D dA a1 a2 b N) : W p l e room_1 s m #[Value.ref b] below meth c H locs 29 937 (lw_Z below #[Value.ref b] s) (F0 m 416 ls []) := by
  obtain ⟨hx, hb, hr, hml, hown, hts, hX, hbl, hlocks, hgv⟩ := C0
  have hA : ∀ q : Nat, s.heap.size ≤ q → (fun q : Nat => s.heap.size ≤ q) q := fun _ h => h
  have hbA : ¬ (fun q : Nat => s.heap.size ≤ q) b := Nat.not_le.mpr hbl
  refine lv_aload_n Z.1 Z.2.1 dL_law_416 rfl (lv_at hl 1 rfl) ?_
  refine lv_aload_n Z.1 Z.2.1 dL_law_417 rfl (lv_at hl 0 rfl) ?_
  refine lv_iload_n Z.1 Z.2.1 dL_law_418 rfl (lv_at hl 3 rfl) ?_
  refine i_const Z dL_law_419 ?_
  refine i_add Z dL_law_420 ?_
  refine l_ald Z hX hbl hbA h.2.2 (by omega) (by omega) dL_law_421 ?_
  refine l_callc (As := [.int (iI (xv xs (5 * N + 1)))]) (rest := []) Z h hA (fun A9 => metX0_state l D dA A9 a1 X (xv xs (5 * N + 1)) N hC (by omega) hI (xv_rng _ _)) (cwV 1 Z.2.2.2.2.1 (lw_V q203 q204 q205 q22 q206) rfl rfl rfl (by decide +kernel) ⟨Nat.le_of_ble_eq_true rfl, Nat.le_of_ble_eq_true rfl⟩) rfl hl.1 rfl (Nat.le_of_ble_eq_true rfl) ⟨Nat.le_of_ble_eq_true rfl, Nat.le_of_ble_eq_true rfl⟩ dL_law_422 (fun z1 X1 H locs hp1 h => ?_)
  refine lv_aload_n Z.1 Z.2.1 dL_law_425 rfl (lv_at hl 2 rfl) ?_
  refine lv_aload_n Z.1 Z.2.1 dL_law_426 rfl (lv_at hl 0 rfl) ?_
  refine lv_iload_n Z.1 Z.2.1 dL_law_427 rfl (lv_at hl 3 rfl) ?_
  refine i_const Z dL_law_428 ?_
  refine i_add Z dL_law_429 ?_
  refine l_ald Z hX hbl hbA h.2.2 (by omega) (by omega) dL_law_430 ?_
  refine l_callm (As := [.int (iI (xv xs (5 * N + 1)))]) (rest := [.int (iI z1)]) Z h hA (fun A9 => metX1_state l D dA A9 a2 X (xv xs (5 * N + 1)) hI.1 hC.1 (xv_rng _ _)) (cwV 1 Z.2.2.2.2.1 (lw_V q334 q335 q336 q23 q337) rfl rfl rfl (by decide +kernel) ⟨Nat.le_of_ble_eq_true rfl, Nat.le_of_ble_eq_true rfl⟩) rfl hl.1 rfl (Nat.le_of_ble_eq_true rfl) ⟨Nat.le_of_ble_eq_true rfl, Nat.le_of_ble_eq_true rfl⟩ dL_law_431 (fun z2 X2 H locs hp2 h => ?_)
  obtain ⟨hI1, hs1⟩ := hp1
  obtain ⟨ez, eE⟩ := det_st hs1 hp2
  subst ez
  refine lv_icmp_eq (tgt := 531) Z.1 Z.2.1 dL_law_434 (by decide) (fun _ => ?_) (fun c9 => absurd rfl c9)
  rw [mWG_EQ eE.sy] at h
  exact K X1 H locs ls hI1 (BC_up (BC_EQ hC hs1.1)) h hl
set_option maxHeartbeats 4000000 in
set_option maxRecDepth 100000 in
theorem law_c11 {p : Program} {l : Launch} {e : Env} {s : State} {m : MethodId} {below : List Frame} {meth : Method} {c : Code} {D : va_G} {dA : ClassId} {a1 a2 : Nat → Nat} {b L : Nat} {xs : Nat → Int32} {N : Int} {X : zS} {H : Heap} {locs : List Loc} {ls : Array Slot} (hL : L ≤ 320) (C0 : lw_At p s m meth c b L xs) (Z : gC R_law D dA p s m #[Value.ref b] c cL_law 4) (n0 : 0 ≤ N) (n1 : 5 * N + 5 ≤ (L : Int)) (hI : IC X) (hC : BC N X) (h : gH D (fun q : Nat => s.heap.size ≤ q) (cWG dA a1 (gG X) ++ mWG dA a2 (gG X)) s.heap H locs) (hl : lv_has ls 4 [(0, .ref b), (1, .ref (a1 0)), (2, .ref (a2 0)), (3, .int (iI (5 * N)))]) (K : lNext p l e s m below meth c D dA a1 a2 b N) : W p l e room_1 s m #[Value.ref b] below meth c H locs 29 937 (lw_Z below #[Value.ref b] s) (F0 m 439 ls []) := by
  obtain ⟨hx, hb, hr, hml, hown, hts, hX, hbl, hlocks, hgv⟩ := C0
  have hA : ∀ q : Nat, s.heap.size ≤ q → (fun q : Nat => s.heap.size ≤ q) q := fun _ h => h
  have hbA : ¬ (fun q : Nat => s.heap.size ≤ q) b := Nat.not_le.mpr hbl
  refine lv_aload_n Z.1 Z.2.1 dL_law_439 rfl (lv_at hl 1 rfl) ?_
  refine lv_aload_n Z.1 Z.2.1 dL_law_440 rfl (lv_at hl 0 rfl) ?_
  refine lv_iload_n Z.1 Z.2.1 dL_law_441 rfl (lv_at hl 3 rfl) ?_
  refine i_const Z dL_law_442 ?_
  refine i_add Z dL_law_443 ?_
  refine l_ald Z hX hbl hbA h.2.2 (by omega) (by omega) dL_law_444 ?_
  refine l_callc (As := [.int (iI (xv xs (5 * N + 1)))]) (rest := []) Z h hA (fun A9 => metX0_ready l D dA A9 a1 X (xv xs (5 * N + 1)) N hC (by omega) hI (xv_rng _ _)) (cwV 1 Z.2.2.2.2.1 (lw_V q207 q208 q209 q22 q210) rfl rfl rfl (by decide +kernel) ⟨Nat.le_of_ble_eq_true rfl, Nat.le_of_ble_eq_true rfl⟩) rfl hl.1 rfl (Nat.le_of_ble_eq_true rfl) ⟨Nat.le_of_ble_eq_true rfl, Nat.le_of_ble_eq_true rfl⟩ dL_law_445 (fun z1 X1 H locs hp1 h => ?_)
  refine lv_aload_n Z.1 Z.2.1 dL_law_448 rfl (lv_at hl 2 rfl) ?_
  refine lv_aload_n Z.1 Z.2.1 dL_law_449 rfl (lv_at hl 0 rfl) ?_
  refine lv_iload_n Z.1 Z.2.1 dL_law_450 rfl (lv_at hl 3 rfl) ?_
  refine i_const Z dL_law_451 ?_
  refine i_add Z dL_law_452 ?_
  refine l_ald Z hX hbl hbA h.2.2 (by omega) (by omega) dL_law_453 ?_
  refine l_callm (As := [.int (iI (xv xs (5 * N + 1)))]) (rest := [.int (iI z1)]) Z h hA (fun A9 => metX1_ready l D dA A9 a2 X (xv xs (5 * N + 1)) hI.1 hC.1 (xv_rng _ _)) (cwV 1 Z.2.2.2.2.1 (lw_V q338 q339 q340 q23 q341) rfl rfl rfl (by decide +kernel) ⟨Nat.le_of_ble_eq_true rfl, Nat.le_of_ble_eq_true rfl⟩) rfl hl.1 rfl (Nat.le_of_ble_eq_true rfl) ⟨Nat.le_of_ble_eq_true rfl, Nat.le_of_ble_eq_true rfl⟩ dL_law_454 (fun z2 X2 H locs hp2 h => ?_)
  obtain ⟨hI1, hs1⟩ := hp1
  obtain ⟨ez, eE⟩ := det_rdy hs1 hp2
  subst ez
  refine lv_icmp_eq (tgt := 531) Z.1 Z.2.1 dL_law_457 (by decide) (fun _ => ?_) (fun c9 => absurd rfl c9)
  rw [mWG_EQ eE.sy] at h
  exact K X1 H locs ls hI1 (BC_up (BC_EQ hC hs1.1)) h hl
set_option maxHeartbeats 4000000 in
set_option maxRecDepth 100000 in
theorem law_c12 {p : Program} {l : Launch} {e : Env} {s : State} {m : MethodId} {below : List Frame} {meth : Method} {c : Code} {D : va_G} {dA : ClassId} {a1 a2 : Nat → Nat} {b L : Nat} {xs : Nat → Int32} {N : Int} {X : zS} {H : Heap} {locs : List Loc} {ls : Array Slot} (hL : L ≤ 320) (C0 : lw_At p s m meth c b L xs) (Z : gC R_law D dA p s m #[Value.ref b] c cL_law 4) (n0 : 0 ≤ N) (n1 : 5 * N + 5 ≤ (L : Int)) (hI : IC X) (hC : BC N X) (h : gH D (fun q : Nat => s.heap.size ≤ q) (cWG dA a1 (gG X) ++ mWG dA a2 (gG X)) s.heap H locs) (hl : lv_has ls 4 [(0, .ref b), (1, .ref (a1 0)), (2, .ref (a2 0)), (3, .int (iI (5 * N)))]) (K : lNext p l e s m below meth c D dA a1 a2 b N) : W p l e room_1 s m #[Value.ref b] below meth c H locs 29 937 (lw_Z below #[Value.ref b] s) (F0 m 462 ls []) := by
  obtain ⟨hx, hb, hr, hml, hown, hts, hX, hbl, hlocks, hgv⟩ := C0
  have hA : ∀ q : Nat, s.heap.size ≤ q → (fun q : Nat => s.heap.size ≤ q) q := fun _ h => h
  have hbA : ¬ (fun q : Nat => s.heap.size ≤ q) b := Nat.not_le.mpr hbl
  refine lv_aload_n Z.1 Z.2.1 dL_law_462 rfl (lv_at hl 1 rfl) ?_
  refine lv_aload_n Z.1 Z.2.1 dL_law_463 rfl (lv_at hl 0 rfl) ?_
  refine lv_iload_n Z.1 Z.2.1 dL_law_464 rfl (lv_at hl 3 rfl) ?_
  refine i_const Z dL_law_465 ?_
  refine i_add Z dL_law_466 ?_
  refine l_ald Z hX hbl hbA h.2.2 (by omega) (by omega) dL_law_467 ?_
  refine lv_aload_n Z.1 Z.2.1 dL_law_468 rfl (lv_at hl 0 rfl) ?_
  refine lv_iload_n Z.1 Z.2.1 dL_law_469 rfl (lv_at hl 3 rfl) ?_
  refine i_const Z dL_law_470 ?_
  refine i_add Z dL_law_471 ?_
  refine l_ald Z hX hbl hbA h.2.2 (by omega) (by omega) dL_law_472 ?_
  refine l_callc (As := [.int (iI (xv xs (5 * N + 1))), .int (iI (xv xs (5 * N + 2)))]) (rest := []) Z h hA (fun A9 => metX0_peek l D dA A9 a1 X (xv xs (5 * N + 1)) (xv xs (5 * N + 2)) N hC (by omega) hI (xv_rng _ _) (xv_rng _ _)) (cwV 2 Z.2.2.2.2.1 (lw_V q211 q212 q213 q22 q214) rfl rfl rfl (by decide +kernel) ⟨Nat.le_of_ble_eq_true rfl, Nat.le_of_ble_eq_true rfl⟩) rfl hl.1 rfl (Nat.le_of_ble_eq_true rfl) ⟨Nat.le_of_ble_eq_true rfl, Nat.le_of_ble_eq_true rfl⟩ dL_law_473 (fun z1 X1 H locs hp1 h => ?_)
  refine lv_aload_n Z.1 Z.2.1 dL_law_476 rfl (lv_at hl 2 rfl) ?_
  refine lv_aload_n Z.1 Z.2.1 dL_law_477 rfl (lv_at hl 0 rfl) ?_
  refine lv_iload_n Z.1 Z.2.1 dL_law_478 rfl (lv_at hl 3 rfl) ?_
  refine i_const Z dL_law_479 ?_
  refine i_add Z dL_law_480 ?_
  refine l_ald Z hX hbl hbA h.2.2 (by omega) (by omega) dL_law_481 ?_
  refine lv_aload_n Z.1 Z.2.1 dL_law_482 rfl (lv_at hl 0 rfl) ?_
  refine lv_iload_n Z.1 Z.2.1 dL_law_483 rfl (lv_at hl 3 rfl) ?_
  refine i_const Z dL_law_484 ?_
  refine i_add Z dL_law_485 ?_
  refine l_ald Z hX hbl hbA h.2.2 (by omega) (by omega) dL_law_486 ?_
  refine l_callm (As := [.int (iI (xv xs (5 * N + 1))), .int (iI (xv xs (5 * N + 2)))]) (rest := [.int (iI z1)]) Z h hA (fun A9 => metX1_peek l D dA A9 a2 X (xv xs (5 * N + 1)) (xv xs (5 * N + 2)) hI.1 hC.1 (xv_rng _ _) (xv_rng _ _)) (cwV 2 Z.2.2.2.2.1 (lw_V q342 q283 q284 q23 q285) rfl rfl rfl (by decide +kernel) ⟨Nat.le_of_ble_eq_true rfl, Nat.le_of_ble_eq_true rfl⟩) rfl hl.1 rfl (Nat.le_of_ble_eq_true rfl) ⟨Nat.le_of_ble_eq_true rfl, Nat.le_of_ble_eq_true rfl⟩ dL_law_487 (fun z2 X2 H locs hp2 h => ?_)
  obtain ⟨hI1, hs1⟩ := hp1
  obtain ⟨ez, eE⟩ := det_peek hs1 hp2.2
  subst ez
  refine lv_icmp_eq (tgt := 531) Z.1 Z.2.1 dL_law_490 (by decide) (fun _ => ?_) (fun c9 => absurd rfl c9)
  rw [mWG_EQ eE.sy] at h
  exact K X1 H locs ls hI1 (BC_up (BC_EQ hC hs1.1)) h hl
set_option maxHeartbeats 4000000 in
set_option maxRecDepth 100000 in
theorem law_c13 {p : Program} {l : Launch} {e : Env} {s : State} {m : MethodId} {below : List Frame} {meth : Method} {c : Code} {D : va_G} {dA : ClassId} {a1 a2 : Nat → Nat} {b L : Nat} {xs : Nat → Int32} {N : Int} {X : zS} {H : Heap} {locs : List Loc} {ls : Array Slot} (hL : L ≤ 320) (C0 : lw_At p s m meth c b L xs) (Z : gC R_law D dA p s m #[Value.ref b] c cL_law 4) (n0 : 0 ≤ N) (n1 : 5 * N + 5 ≤ (L : Int)) (hI : IC X) (hC : BC N X) (h : gH D (fun q : Nat => s.heap.size ≤ q) (cWG dA a1 (gG X) ++ mWG dA a2 (gG X)) s.heap H locs) (hl : lv_has ls 4 [(0, .ref b), (1, .ref (a1 0)), (2, .ref (a2 0)), (3, .int (iI (5 * N)))]) (K : lNext p l e s m below meth c D dA a1 a2 b N) : W p l e room_1 s m #[Value.ref b] below meth c H locs 29 937 (lw_Z below #[Value.ref b] s) (F0 m 495 ls []) := by
  obtain ⟨hx, hb, hr, hml, hown, hts, hX, hbl, hlocks, hgv⟩ := C0
  have hA : ∀ q : Nat, s.heap.size ≤ q → (fun q : Nat => s.heap.size ≤ q) q := fun _ h => h
  have hbA : ¬ (fun q : Nat => s.heap.size ≤ q) b := Nat.not_le.mpr hbl
  refine lv_aload_n Z.1 Z.2.1 dL_law_495 rfl (lv_at hl 1 rfl) ?_
  refine l_callc (As := []) (rest := []) Z h hA (fun A9 => metX0_nextDeadline l D dA A9 a1 X  N hC (by omega) hI ) (cwV 0 Z.2.2.2.2.1 (lw_V q215 q216 q217 q22 q218) rfl rfl rfl (by decide +kernel) ⟨Nat.le_of_ble_eq_true rfl, Nat.le_of_ble_eq_true rfl⟩) rfl hl.1 rfl (Nat.le_of_ble_eq_true rfl) ⟨Nat.le_of_ble_eq_true rfl, Nat.le_of_ble_eq_true rfl⟩ dL_law_496 (fun z1 X1 H locs hp1 h => ?_)
  refine lv_aload_n Z.1 Z.2.1 dL_law_499 rfl (lv_at hl 2 rfl) ?_
  refine l_callm (As := []) (rest := [.int (iI z1)]) Z h hA (fun A9 => metX1_nextDeadline l D dA A9 a2 X  hI.1 hC.1 (fun a => (hC.2.2.2.2.2.2.1 a).1) ) (cwV 0 Z.2.2.2.2.1 (lw_V q343 q344 q345 q23 q346) rfl rfl rfl (by decide +kernel) ⟨Nat.le_of_ble_eq_true rfl, Nat.le_of_ble_eq_true rfl⟩) rfl hl.1 rfl (Nat.le_of_ble_eq_true rfl) ⟨Nat.le_of_ble_eq_true rfl, Nat.le_of_ble_eq_true rfl⟩ dL_law_500 (fun z2 X2 H locs hp2 h => ?_)
  obtain ⟨hI1, hs1⟩ := hp1
  obtain ⟨ez, eE⟩ := det_next hs1 hp2
  subst ez
  refine lv_icmp_eq (tgt := 531) Z.1 Z.2.1 dL_law_503 (by decide) (fun _ => ?_) (fun c9 => absurd rfl c9)
  rw [mWG_EQ eE.sy] at h
  exact K X1 H locs ls hI1 (BC_up (BC_EQ hC hs1.1)) h hl
set_option maxHeartbeats 4000000 in
set_option maxRecDepth 100000 in
theorem law_c14 {p : Program} {l : Launch} {e : Env} {s : State} {m : MethodId} {below : List Frame} {meth : Method} {c : Code} {D : va_G} {dA : ClassId} {a1 a2 : Nat → Nat} {b L : Nat} {xs : Nat → Int32} {N : Int} {X : zS} {H : Heap} {locs : List Loc} {ls : Array Slot} (hL : L ≤ 320) (C0 : lw_At p s m meth c b L xs) (Z : gC R_law D dA p s m #[Value.ref b] c cL_law 4) (n0 : 0 ≤ N) (n1 : 5 * N + 5 ≤ (L : Int)) (hI : IC X) (hC : BC N X) (h : gH D (fun q : Nat => s.heap.size ≤ q) (cWG dA a1 (gG X) ++ mWG dA a2 (gG X)) s.heap H locs) (hl : lv_has ls 4 [(0, .ref b), (1, .ref (a1 0)), (2, .ref (a2 0)), (3, .int (iI (5 * N)))]) (K : lNext p l e s m below meth c D dA a1 a2 b N) : W p l e room_1 s m #[Value.ref b] below meth c H locs 29 937 (lw_Z below #[Value.ref b] s) (F0 m 508 ls []) := by
  obtain ⟨hx, hb, hr, hml, hown, hts, hX, hbl, hlocks, hgv⟩ := C0
  have hA : ∀ q : Nat, s.heap.size ≤ q → (fun q : Nat => s.heap.size ≤ q) q := fun _ h => h
  have hbA : ¬ (fun q : Nat => s.heap.size ≤ q) b := Nat.not_le.mpr hbl
  refine lv_aload_n Z.1 Z.2.1 dL_law_508 rfl (lv_at hl 1 rfl) ?_
  refine lv_aload_n Z.1 Z.2.1 dL_law_509 rfl (lv_at hl 0 rfl) ?_
  refine lv_iload_n Z.1 Z.2.1 dL_law_510 rfl (lv_at hl 3 rfl) ?_
  refine i_const Z dL_law_511 ?_
  refine i_add Z dL_law_512 ?_
  refine l_ald Z hX hbl hbA h.2.2 (by omega) (by omega) dL_law_513 ?_
  refine l_callc (As := [.int (iI (xv xs (5 * N + 1)))]) (rest := []) Z h hA (fun A9 => metX0_sum l D dA A9 a1 X (xv xs (5 * N + 1)) N hC (by omega) hI (xv_rng _ _)) (cwV 1 Z.2.2.2.2.1 (lw_V q219 q220 q221 q22 q222) rfl rfl rfl (by decide +kernel) ⟨Nat.le_of_ble_eq_true rfl, Nat.le_of_ble_eq_true rfl⟩) rfl hl.1 rfl (Nat.le_of_ble_eq_true rfl) ⟨Nat.le_of_ble_eq_true rfl, Nat.le_of_ble_eq_true rfl⟩ dL_law_514 (fun z1 X1 H locs hp1 h => ?_)
  refine lv_aload_n Z.1 Z.2.1 dL_law_517 rfl (lv_at hl 2 rfl) ?_
  refine lv_aload_n Z.1 Z.2.1 dL_law_518 rfl (lv_at hl 0 rfl) ?_
  refine lv_iload_n Z.1 Z.2.1 dL_law_519 rfl (lv_at hl 3 rfl) ?_
  refine i_const Z dL_law_520 ?_
  refine i_add Z dL_law_521 ?_
  refine l_ald Z hX hbl hbA h.2.2 (by omega) (by omega) dL_law_522 ?_
  refine l_callm (As := [.int (iI (xv xs (5 * N + 1)))]) (rest := [.int (iI z1)]) Z h hA (fun A9 => metX1_sum l D dA A9 a2 X (xv xs (5 * N + 1)) hI.1 hC.1 (xv_rng _ _)) (cwV 1 Z.2.2.2.2.1 (lw_V q347 q348 q349 q23 q350) rfl rfl rfl (by decide +kernel) ⟨Nat.le_of_ble_eq_true rfl, Nat.le_of_ble_eq_true rfl⟩) rfl hl.1 rfl (Nat.le_of_ble_eq_true rfl) ⟨Nat.le_of_ble_eq_true rfl, Nat.le_of_ble_eq_true rfl⟩ dL_law_523 (fun z2 X2 H locs hp2 h => ?_)
  obtain ⟨hI1, hs1⟩ := hp1
  obtain ⟨ez, eE⟩ := det_sum hs1 hp2
  subst ez
  refine lv_icmp_eq (tgt := 531) Z.1 Z.2.1 dL_law_526 (by decide) (fun _ => ?_) (fun c9 => absurd rfl c9)
  rw [mWG_EQ eE.sy] at h
  exact K X1 H locs ls hI1 (BC_up (BC_EQ hC hs1.1)) h hl
end
section
set_option maxHeartbeats 4000000 in
set_option maxRecDepth 100000 in
/-- one call of the script, by its first int -/
theorem law_step {p : Program} {l : Launch} {e : Env} {s : State} {m : MethodId} {below : List Frame} {meth : Method} {c : Code} {D : va_G} {dA : ClassId} {a1 a2 : Nat → Nat} {b L : Nat} {xs : Nat → Int32} {N : Int} {X : zS} {H : Heap} {locs : List Loc} {ls : Array Slot} (hL : L ≤ 320) (C0 : lw_At p s m meth c b L xs) (Z : gC R_law D dA p s m #[Value.ref b] c cL_law 4) (n0 : 0 ≤ N) (n1 : 5 * N + 5 ≤ (L : Int)) (hI : IC X) (hC : BC N X) (h : gH D (fun q : Nat => s.heap.size ≤ q) (cWG dA a1 (gG X) ++ mWG dA a2 (gG X)) s.heap H locs) (hl : lv_has ls 4 [(0, .ref b), (1, .ref (a1 0)), (2, .ref (a2 0)), (3, .int (iI (5 * N)))]) (K : lNext p l e s m below meth c D dA a1 a2 b N) : W p l e room_1 s m #[Value.ref b] below meth c H locs 29 937 (lw_Z below #[Value.ref b] s) (F0 m 26 ls []) := by
  obtain ⟨hx, hb, hr, hml, hown, hts, hX, hbl, hlocks, hgv⟩ := id C0
  have hA : ∀ q : Nat, s.heap.size ≤ q → (fun q : Nat => s.heap.size ≤ q) q := fun _ h => h
  have hbA : ¬ (fun q : Nat => s.heap.size ≤ q) b := Nat.not_le.mpr hbl
  refine lv_aload_n Z.1 Z.2.1 dL_law_26 rfl (lv_at hl 0 rfl) ?_
  refine lv_iload_n Z.1 Z.2.1 dL_law_27 rfl (lv_at hl 3 rfl) ?_
  refine l_ald Z hX hbl hbA h.2.2 (by omega) (by omega) dL_law_28 ?_
  refine i_bipush Z dL_law_29 (by decide) ?_
  refine lv_iand Z.1 Z.2.1 dL_law_31 ?_
  obtain ⟨j, hj, ej⟩ := pk_andE (iI (xv xs (5 * N))) (m := iI 15) 4 (by decide)
  rw [ej]
  have hj : j < 16 := hj
  rcases (show j = 0 ∨ j = 1 ∨ j = 2 ∨ j = 3 ∨ j = 4 ∨ j = 5 ∨ j = 6 ∨ j = 7 ∨ j = 8 ∨ j = 9 ∨ j = 10 ∨ j = 11 ∨ j = 12 ∨ j = 13 ∨ j = 14 ∨ j = 15 by omega) with rfl | rfl | rfl | rfl | rfl | rfl | rfl | rfl | rfl | rfl | rfl | rfl | rfl | rfl | rfl | rfl
  · refine lv_tableIn (off := 76) (tgt := 108) Z.1 Z.2.1 dL_law_32 (by decide) (by decide) rfl (by decide) ?_
    exact law_c0 hL C0 Z n0 n1 hI hC h hl K
  · refine lv_tableIn (off := 129) (tgt := 161) Z.1 Z.2.1 dL_law_32 (by decide) (by decide) rfl (by decide) ?_
    exact law_c1 hL C0 Z n0 n1 hI hC h hl K
  · refine lv_tableIn (off := 162) (tgt := 194) Z.1 Z.2.1 dL_law_32 (by decide) (by decide) rfl (by decide) ?_
    exact law_c2 hL C0 Z n0 n1 hI hC h hl K
  · refine lv_tableIn (off := 195) (tgt := 227) Z.1 Z.2.1 dL_law_32 (by decide) (by decide) rfl (by decide) ?_
    exact law_c3 hL C0 Z n0 n1 hI hC h hl K
  · refine lv_tableIn (off := 228) (tgt := 260) Z.1 Z.2.1 dL_law_32 (by decide) (by decide) rfl (by decide) ?_
    exact law_c4 hL C0 Z n0 n1 hI hC h hl K
  · refine lv_tableIn (off := 251) (tgt := 283) Z.1 Z.2.1 dL_law_32 (by decide) (by decide) rfl (by decide) ?_
    exact law_c5 hL C0 Z n0 n1 hI hC h hl K
  · refine lv_tableIn (off := 284) (tgt := 316) Z.1 Z.2.1 dL_law_32 (by decide) (by decide) rfl (by decide) ?_
    exact law_c6 hL C0 Z n0 n1 hI hC h hl K
  · refine lv_tableIn (off := 307) (tgt := 339) Z.1 Z.2.1 dL_law_32 (by decide) (by decide) rfl (by decide) ?_
    exact law_c7 hL C0 Z n0 n1 hI hC h hl K
  · refine lv_tableIn (off := 350) (tgt := 382) Z.1 Z.2.1 dL_law_32 (by decide) (by decide) rfl (by decide) ?_
    exact law_c8 hL C0 Z n0 n1 hI hC h hl K
  · refine lv_tableIn (off := 373) (tgt := 405) Z.1 Z.2.1 dL_law_32 (by decide) (by decide) rfl (by decide) ?_
    exact law_c9 hL C0 Z n0 n1 hI hC h hl K
  · refine lv_tableIn (off := 384) (tgt := 416) Z.1 Z.2.1 dL_law_32 (by decide) (by decide) rfl (by decide) ?_
    exact law_c10 hL C0 Z n0 n1 hI hC h hl K
  · refine lv_tableIn (off := 407) (tgt := 439) Z.1 Z.2.1 dL_law_32 (by decide) (by decide) rfl (by decide) ?_
    exact law_c11 hL C0 Z n0 n1 hI hC h hl K
  · refine lv_tableIn (off := 430) (tgt := 462) Z.1 Z.2.1 dL_law_32 (by decide) (by decide) rfl (by decide) ?_
    exact law_c12 hL C0 Z n0 n1 hI hC h hl K
  · refine lv_tableIn (off := 463) (tgt := 495) Z.1 Z.2.1 dL_law_32 (by decide) (by decide) rfl (by decide) ?_
    exact law_c13 hL C0 Z n0 n1 hI hC h hl K
  · refine lv_tableIn (off := 476) (tgt := 508) Z.1 Z.2.1 dL_law_32 (by decide) (by decide) rfl (by decide) ?_
    exact law_c14 hL C0 Z n0 n1 hI hC h hl K
  · refine lv_tableOut (tgt := 531) Z.1 Z.2.1 dL_law_32 (by decide) (by decide) ?_
    exact K X H locs ls hI (BC_up hC) h hl
set_option maxHeartbeats 4000000 in
set_option maxRecDepth 100000 in
/-- the law's loop: N calls so far -/
theorem law_loop {p : Program} {l : Launch} {e : Env} {s : State} {m : MethodId} {below : List Frame} {meth : Method} {c : Code} {D : va_G} {dA : ClassId} {a1 a2 : Nat → Nat} {b L : Nat} {xs : Nat → Int32} (hL : L ≤ 320) (C0 : lw_At p s m meth c b L xs) (Z : gC R_law D dA p s m #[Value.ref b] c cL_law 4) :
    ∀ (n : Nat) (N : Int) (X : zS) (H : Heap) (locs : List Loc) (ls : Array Slot), 0 ≤ N → 5 * N ≤ (L : Int) → (L : Int) - 5 * N < (n : Int) → IC X → BC N X → gH D (fun q : Nat => s.heap.size ≤ q) (cWG dA a1 (gG X) ++ mWG dA a2 (gG X)) s.heap H locs → lv_has ls 4 [(0, .ref b), (1, .ref (a1 0)), (2, .ref (a2 0)), (3, .int (iI (5 * N)))] → W p l e room_1 s m #[Value.ref b] below meth c H locs 29 937 (lw_Z below #[Value.ref b] s) (F0 m 18 ls []) := by
  intro n
  induction n with
  | zero =>
    intro N X H locs ls n0 n1 hm
    exfalso; omega
  | succ n ih =>
    intro N X H locs ls n0 n1 hm hI hC h hl
    obtain ⟨hx, hb, hr, hml, hown, hts, hX, hbl, hlocks, hgv⟩ := id C0
    have hbA : ¬ (fun q : Nat => s.heap.size ≤ q) b := Nat.not_le.mpr hbl
    refine lv_iload_n Z.1 Z.2.1 dL_law_18 rfl (lv_at hl 3 rfl) ?_
    refine lv_aload_n Z.1 Z.2.1 dL_law_19 rfl (lv_at hl 0 rfl) ?_
    refine va_slen Z.1 Z.2.1 hX hbl hbA h.2.2 dL_law_20 ?_
    rw [iI_nat]
    refine i_const Z dL_law_21 ?_
    refine i_sub Z dL_law_22 ?_
    refine i_icmp_gt (tgt := 537) Z (by omega) dL_law_23 (by decide) (fun c23 => ?_) (fun c23 => ?_)
    · refine lv_iconst (v := 1) Z.1 Z.2.1 dL_law_537 (by decide) ?_
      refine va_forget (fun q hq => h.2.2.2.2 q hq) ?_
      refine W.widen (k := 600000) (n := 7290000) (Nat.le_of_ble_eq_true rfl) (Nat.le_of_ble_eq_true rfl) ?_
      exact lw_ret hx hb hr hlocks dL_law_538
    · refine law_step hL C0 Z n0 (by omega) hI hC h hl (fun X1 H1 locs1 ls1 hI1 hC1 h1 hl1 => ?_)
      refine i_inc (lv' := [(3, .int (iI (5 * N + 5))), (0, .ref b), (1, .ref (a1 0)), (2, .ref (a2 0))]) Z dL_law_531 hl1 (k := 3) rfl (by decide) rfl (fun ls hl => ?_)
      refine lv_goto (tgt := 18) Z.1 Z.2.1 dL_law_534 (by decide) ?_
      rw [show 5 * N + 5 = 5 * (N + 1) by omega] at hl
      exact ih (N + 1) X1 H1 locs1 ls (by omega) (by omega) (by omega) hI1 hC1 h1 (lv_sub hl [1, 2, 3, 0] rfl)
set_option maxHeartbeats 4000000 in
set_option maxRecDepth 100000 in
/-- the law, from its entry -/
theorem whole_start {p : Program} {e : Env} {s : State} {m : MethodId} {below : List Frame} {meth : Method} {c : Code} (l : Launch) {b L : Nat} {xs : Nat → Int32} (hL : L ≤ 320) (C0 : lw_At p s m meth c b L xs) : W p l e room_1 s m #[Value.ref b] below meth c s.heap [] 0 0 (lw_Z below #[Value.ref b] s) (entryFrame m ([Value.ref b] : List Value).toArray 4) := by
  obtain ⟨hx, hb, hr, hml, hown, hts, hX, hbl, hlocks, hgv⟩ := id C0
  have hA : ∀ q : Nat, s.heap.size ≤ q → (fun q : Nat => s.heap.size ≤ q) q := fun _ h => h
  obtain ⟨c0_, iS0, hKn0⟩ := u_known (C := RX0) (T := TX0) (N := 21) (n := 21) hts (fun w h => lw_all_tbl (in_X0 w h)) (hts _ (lw_all_tbl q25))
  obtain ⟨c1_, iS1, hKn1⟩ := u_known (C := RX1) (T := TX1) (N := 12) (n := 12) hts (fun w h => lw_all_tbl (in_X1 w h)) (hts _ (lw_all_tbl q224))
  obtain ⟨D, hKc⟩ : ∃ D : va_G, ∀ (k : Nat) (q : vw_C), vwCl[k]? = some q → u_Kn s q.1 q.2.1 q.2.2 (D.1 k) (D.2 k) := by
    refine ⟨(fun k => if k = 0 then c0_ else c1_, fun k => if k = 0 then iS0 else iS1), ?_⟩
    intro k q hq
    match k, hq with
    | 0, hq => cases hq; exact hKn0
    | 1, hq => cases hq; exact hKn1
    | k + 2, hq => simp [vwCl] at hq
  obtain ⟨dA, kA, comp, f1, f2, f3⟩ := Cond.arrayClass_spec (hts _ (lw_all_tbl q96))
  have hK : va_K D vwCl [(dA, .int)] s := ⟨hKc, fun k q hk => by
    have hz : k < 1 := (List.getElem?_eq_some_iff.mp hk).1
    rw [show k = 0 by omega] at hk
    cases hk
    exact ⟨fun n z => ⟨fun k h => (by cases h), kA, f2, comp, f3⟩, f1⟩⟩
  have Z : gC R_law D dA p s m #[Value.ref b] c cL_law 4 := ⟨hx, hb, hml, hown, fun w h => hts w (lw_all_tbl h), hK⟩
  have hS : va_S (fun q : Nat => s.heap.size ≤ q) s.heap s.heap [] := va_S.rf
  have hP : va_P D vwCl [] s.heap := fun k q h => by simp at h
  have hD : va_D (fun q : Nat => s.heap.size ≤ q) [] := ⟨fun i j p q h => by simp at h, fun k q h => by simp at h⟩
  have hl := lv_entry ([.ref b]) (n := 4) (Nat.le_of_ble_eq_true rfl)
  rw [lg_entry_eq]
  generalize (lg_sl ([.ref b]) ++ List.replicate (4 - (lg_sl ([.ref b])).length) Slot.unset).toArray = ls at hl ⊢
  have hl : lv_has ls 4 [(0, .ref b)] := hl
  refine va_new (ci := 0) (fs := cD) (C := RX0) (T := TX0) (N := 21) hx hb Z.2.2.2.2.1 in_X0 tyX0 tyX0_ok hown (Z.2.2.2.2.1 _ q24) (Z.2.2.2.2.1 _ q25) (Z.2.2.2.2.1 _ q22) Z.2.2.2.2.2 hP hD hS hA rfl (fun j hj => by rcases (show j = 0 ∨ j = 1 ∨ j = 2 ∨ j = 3 ∨ j = 4 ∨ j = 5 ∨ j = 6 ∨ j = 7 ∨ j = 8 ∨ j = 9 ∨ j = 10 ∨ j = 11 ∨ j = 12 ∨ j = 13 ∨ j = 14 ∨ j = 15 ∨ j = 16 ∨ j = 17 ∨ j = 18 ∨ j = 19 ∨ j = 20 by omega) with rfl | rfl | rfl | rfl | rfl | rfl | rfl | rfl | rfl | rfl | rfl | rfl | rfl | rfl | rfl | rfl | rfl | rfl | rfl | rfl | rfl <;> rfl) (Nat.le_of_ble_eq_true rfl) (Nat.le_of_ble_eq_true rfl) dL_law_0 (fun v1 H hP hD hS => ?_)
  have hP : va_P D vwCl ([(v1, .inr (0, cD))]) H := hP
  have hD : va_D (fun q : Nat => s.heap.size ≤ q) ([(v1, .inr (0, cD))]) := hD
  refine W.widen (k := 1) (n := 21) (Nat.le_of_ble_eq_true rfl) (Nat.le_of_ble_eq_true rfl) ?_
  refine lv_dup hx hb dL_law_3 rfl ?_
  have hPc := hP.sub (ws' := [(v1, .inr (0, cD))]) [0] rfl
  have hDc := hD.sub (ws' := [(v1, .inr (0, cD))]) [0] (by decide) rfl
  have hFc := va_free (wc := [(v1, .inr (0, cD))]) hD hS hA [0] rfl
  refine va_callv (va_runI (As := []) (rest := [.ref v1]) ⟨hx, hb, hml, hown, Z.2.2.2.2.1⟩ (metX0_init l D dA v1 H.size) (cwI 0 Z.2.2.2.2.1 (lw_meth q28) rfl rfl rfl (Z.2.2.2.2.1 _ q22) (Z.2.2.2.2.1 _ q26) (Z.2.2.2.2.1 _ q27) rfl (by decide +kernel) ⟨Nat.le_of_ble_eq_true rfl, Nat.le_of_ble_eq_true rfl⟩) ⟨fun a U g mk q => by obtain ⟨q0, q1, qP, qK, qD⟩ := q; exact ⟨q0, q1, qP, va_K.moved (u := U) (U := U.calling g mk a) (Vm.Alike.refl U.vm) qK, qD⟩, fun U hU hW => ⟨rfl, by rw [hU], by rw [hU]; exact hPc, va_K.moved hW.alike Z.2.2.2.2.2, hDc.weaken (fun _ _ _ _ => trivial)⟩⟩ rfl rfl hl.1 rfl (lv_room (Nat.le_of_ble_eq_true rfl)) dL_law_4 ⟨Nat.le_of_ble_eq_true rfl, Nat.le_of_ble_eq_true rfl⟩) hS (fun q _ h => hFc q h) hFc (fun a1 t H1 locs ht hvm hw hB hz1 hk1 hS => ?_)
  have hw : a1 0 = v1 := hw
  obtain ⟨hP1, hK1, hD1⟩ := hB
  rw [ht] at hP1
  obtain ⟨hP, hD⟩ := va_join (wr := []) (w1 := cWG dA a1 (gG zA)) hP hD [0] [] rfl rfl (by decide) (by decide) hk1 hFc hP1 hD1
  generalize H1 = H at hP hS ⊢
  have hP : va_P D vwCl (cWG dA a1 (gG zA)) H := hP
  have hD : va_D (fun q : Nat => s.heap.size ≤ q) (cWG dA a1 (gG zA)) := hD
  refine W.widen (k := 18) (n := 599) (Nat.le_of_ble_eq_true rfl) (Nat.le_of_ble_eq_true rfl) ?_
  refine lv_astore_n (lv' := [(1, .ref v1), (0, .ref b)]) hx hb dL_law_7 rfl hl (by decide) rfl (fun ls hl => ?_)
  rw [← hw] at hl
  refine va_new (ci := 1) (fs := mD) (C := RX1) (T := TX1) (N := 12) hx hb Z.2.2.2.2.1 in_X1 tyX1 tyX1_ok hown (Z.2.2.2.2.1 _ q223) (Z.2.2.2.2.1 _ q224) (Z.2.2.2.2.1 _ q23) Z.2.2.2.2.2 hP hD hS hA rfl (fun j hj => by rcases (show j = 0 ∨ j = 1 ∨ j = 2 ∨ j = 3 ∨ j = 4 ∨ j = 5 ∨ j = 6 ∨ j = 7 ∨ j = 8 ∨ j = 9 ∨ j = 10 ∨ j = 11 by omega) with rfl | rfl | rfl | rfl | rfl | rfl | rfl | rfl | rfl | rfl | rfl | rfl <;> rfl) (Nat.le_of_ble_eq_true rfl) (Nat.le_of_ble_eq_true rfl) dL_law_8 (fun v2 H hP hD hS => ?_)
  have hP : va_P D vwCl (cWG dA a1 (gG zA) ++ [(v2, .inr (1, mD))]) H := hP
  have hD : va_D (fun q : Nat => s.heap.size ≤ q) (cWG dA a1 (gG zA) ++ [(v2, .inr (1, mD))]) := hD
  refine W.widen (k := 19) (n := 611) (Nat.le_of_ble_eq_true rfl) (Nat.le_of_ble_eq_true rfl) ?_
  refine lv_dup hx hb dL_law_11 rfl ?_
  have hPc := hP.sub (ws' := [(v2, .inr (1, mD))]) [18] rfl
  have hDc := hD.sub (ws' := [(v2, .inr (1, mD))]) [18] (by decide) rfl
  have hFc := va_free (wc := [(v2, .inr (1, mD))]) hD hS hA [18] rfl
  refine va_callv (va_runI (As := []) (rest := [.ref v2]) ⟨hx, hb, hml, hown, Z.2.2.2.2.1⟩ (metX1_init l D dA v2 H.size) (cwI 0 Z.2.2.2.2.1 (lw_meth q227) rfl rfl rfl (Z.2.2.2.2.1 _ q23) (Z.2.2.2.2.1 _ q225) (Z.2.2.2.2.1 _ q226) rfl (by decide +kernel) ⟨Nat.le_of_ble_eq_true rfl, Nat.le_of_ble_eq_true rfl⟩) ⟨fun a U g mk q => by obtain ⟨q0, q1, qP, qK, qD⟩ := q; exact ⟨q0, q1, qP, va_K.moved (u := U) (U := U.calling g mk a) (Vm.Alike.refl U.vm) qK, qD⟩, fun U hU hW => ⟨rfl, by rw [hU], by rw [hU]; exact hPc, va_K.moved hW.alike Z.2.2.2.2.2, hDc.weaken (fun _ _ _ _ => trivial)⟩⟩ rfl rfl hl.1 rfl (lv_room (Nat.le_of_ble_eq_true rfl)) dL_law_12 ⟨Nat.le_of_ble_eq_true rfl, Nat.le_of_ble_eq_true rfl⟩) hS (fun q _ h => hFc q h) hFc (fun a2 t H1 locs ht hvm hw hB hz1 hk1 hS => ?_)
  have hw : a2 0 = v2 := hw
  obtain ⟨hP1, hK1, hD1⟩ := hB
  rw [ht] at hP1
  obtain ⟨hP, hD⟩ := va_join (wr := cWG dA a1 (gG zA)) (w1 := mWG dA a2 (gG zA)) hP hD [18] [0, 1, 2, 3, 4, 5, 6, 7, 8, 9, 10, 11, 12, 13, 14, 15, 16, 17] rfl rfl (by decide) (by decide) hk1 hFc hP1 hD1
  generalize H1 = H at hP hS ⊢
  have hP : va_P D vwCl (cWG dA a1 (gG zA) ++ mWG dA a2 (gG zA)) H := hP
  have hD : va_D (fun q : Nat => s.heap.size ≤ q) (cWG dA a1 (gG zA) ++ mWG dA a2 (gG zA)) := hD
  refine W.widen (k := 29) (n := 937) (Nat.le_of_ble_eq_true rfl) (Nat.le_of_ble_eq_true rfl) ?_
  refine lv_astore_n (lv' := [(2, .ref v2), (1, .ref (a1 0)), (0, .ref b)]) hx hb dL_law_15 rfl hl (by decide) rfl (fun ls hl => ?_)
  rw [← hw] at hl
  refine i_const Z dL_law_16 ?_
  refine lv_istore_n (lv' := [(3, .int (iI 0)), (2, .ref (a2 0)), (1, .ref (a1 0)), (0, .ref b)]) hx hb dL_law_17 rfl hl (by decide) rfl (fun ls hl => ?_)
  exact law_loop hL C0 Z (L + 1) 0 zA H locs ls (by omega) (by omega) (by omega) zA_IC zA_BC ⟨hP, hD, hS⟩ (lv_sub hl [3, 2, 1, 0] rfl)
end
section
set_option maxHeartbeats 4000000 in
theorem lw_walk (l : Launch) (b : Addr) (xs : List Int32) : MetFree l x (headSpec (Jvm.Cond.code x code maxLocals ret :: tables_1) room_1) (lw_P b xs) (fun _ _ _ _ _ => True) lw_Q := by
  refine MetFree.of_bodyS (code := code) (maxLocals := maxLocals) (ret := ret) (by decide) ?_ ?_
  · intro args s m h hn
    obtain ⟨meth, c, h1, h2, h3, h4, h5, h6, -, -⟩ := Cond.code_spec hn (atoms_spec (ws := Jvm.Cond.code x code maxLocals ret :: tables_1) h _ List.mem_cons_self)
    exact ⟨meth, c, h1, h2, h3, h4, h5, h6⟩
  · intro p e s m args below meth c s₁ B hml0 hP _
    obtain ⟨rfl, hx, hbd, hgv⟩ := hP
    obtain ⟨scr, harrAt, hlist, hof, hsmall⟩ := hx
    obtain ⟨hcb, hkn, -, -⟩ := State.arrayAt?_spec harrAt
    have hown : s.vm.findClass R_law = some m.cls := findClass_of_methodNamed B.named
    have hts0 : ∀ c ∈ (Jvm.Cond.code x code maxLocals ret :: tables_1), c.before #[Value.ref b] s = true := atoms_spec (ws := Jvm.Cond.code x code maxLocals ret :: tables_1) B.pre
    have hts : ∀ w ∈ lw_tbl, w.before #[Value.ref b] s = true := k2_hts_sels lw_privs (fun w hw => hts0 w (List.mem_cons_of_mem _ hw)) lw_privs_ok
    have hml : c.maxLocals = 4 := B.maxLocals_eq (hts0 _ List.mem_cons_self)
    have X₀ : Stand p l e room_1 s m #[Value.ref b] below meth c s₁ [] 0 0 := Stand.of_body B
    have hh0 : s₁.heap = s.heap := by rw [B.state]; rfl
    have hsz : scr.slots.size = xs.length := by rw [← Array.length_toList, hlist, List.length_map]
    have hval : ∀ j : Nat, j < xs.length → scr.slots[j]? = some (.int (xs.getD j 0)) := fun j hj => by
      rw [← Array.getElem?_toList, hlist]
      simp [hj]
    have hbl : b < s.heap.size := (Array.getElem?_eq_some_iff.mp hcb).1
    have hX : va_X b xs.length (fun j => xs.getD j 0) s s.heap := ⟨scr, hcb, hof, hkn, hsz, hval⟩
    have K : W p l e room_1 s m #[Value.ref b] below meth c s₁.heap [] 0 0 (lw_Z below #[Value.ref b] s) (entryFrame m ([Value.ref b] : List Value).toArray 4) := by
      rw [hh0]
      exact whole_start l hbd ⟨B.exec, B.bytes, B.returns, hml, hown, hts, hX, hbl, B.notSynchronized, hgv⟩
    obtain ⟨t, a1, o, b1, b2, b3⟩ := K s₁ rfl X₀
    exact ⟨t, o, a1, b1, b2, b3⟩
theorem lw_pre_spec {args : Array Value} {s : State} (h : (Jvm.Cond.and given_1 narrow_1).before args s = true) (hr : rest_1_c.before args s = true) : ∃ (b : Addr) (xs : List Int32), lw_P b xs args s := by
  have hs := flat_of_before _ h
  have hq := flat_of_before _ hr
  have hc : (Cond.count 1).before args s = true := hs _ (by decide +kernel)
  have harr : (Cond.arrayOf (.arg 0) .int).before args s = true := hs _ (by decide +kernel)
  have hle : (Cond.le (.length (.arg 0)) (.int 320)).before args s = true := hs _ (by decide +kernel)
  have hlen : (Cond.isInt (.length (.arg 0))).before args s = true := hq _ (by decide +kernel)
  have hall : (Cond.all (.arg 0) (.isInt (.elem (.arg 0) (.index 0)))).before args s = true := hq _ (by decide +kernel)
  obtain ⟨b, xs, hb, hx⟩ := State.ints_of_pre rfl harr hlen hall
  have hsm : xs.length < 2 ^ 31 := hx.choose_spec.2.2.2
  have hev : (Term.length (.arg 0)).eval args s none [] s = some (.int xs.length.toInt32) := hx.length_eval hb
  have hv := Cond.le_ints hev (show (Term.int 320).eval args s none [] s = some (.int 320) from rfl)
  have hd : xs.length.toInt32 ≤ 320 := by
    simpa [Cond.before, Cond.holds, hv] using hle
  have hN : xs.length ≤ 320 := (Int32.ofNat_le_ofNat hsm (by decide)).mp (show Int32.ofNat xs.length ≤ Int32.ofNat 320 from hd)
  exact ⟨b, xs, Cond.one_arg hc (show args[0]? = some (.ref b) from hb), hx, hN, h⟩
theorem lw_comes (l : Launch) : Comes l x (Jvm.Cond.code x code maxLocals ret :: tables_1) room_1 (fun tb e args s => Calls_1 tb e args s ∧ rest_1 tb e args s ∧ Pre_1 tb e args s)
    (fun _ _ args s o t => lw_Q args s o t) := by
  intro p e ha hc hk s m args below hf hfit hheap happ hpre
  obtain ⟨b, xs, hP⟩ := lw_pre_spec hpre.2.2 hpre.2.1
  obtain ⟨k, o, h1, h2, h3, hQ⟩ := lw_walk l b xs p e ha hc hk s m args below hf ((Spec.applies_iff_loose hf).mp happ).1 hP trivial
  exact ⟨k, o, h1, h2, h3, hQ⟩
theorem lw_frame {s t : State} {o : Outcome} {args : Array Value} (h : Framed s o t [] 600000 7290000) :
    Framed s o t (fieldLocs frame_1_writes args s ++ arrayLocs frame_1_arrays args s ++ staticLocs frame_1_statics s) 600000 7290000 := h
theorem lw_limb (L : Cond) (hL : ∀ (args : Array Value) (s t : State), L.after args s (.returned (some (.int 1))) t = true) :
    ArmFor flags0 classFile x code maxLocals ret World_1 tables_1 room_1 Calls_1 rest_1 Pre_1
      (fun tb e a s o t => postC L tb e a s o t ∧ Framed s o t (fieldLocs frame_1_writes a s ++ arrayLocs frame_1_arrays a s ++ staticLocs frame_1_statics s) 600000 7290000) := by
  intro l _ _ _ p e ha hc hk s m args below hf hfit hheap happ hpre
  obtain ⟨k, o, h1, h2, h3, rfl, hF⟩ := lw_comes l p e ha hc hk s m args below hf hfit hheap happ hpre
  exact ⟨k, _, h1, h2, h3, hL args s _, lw_frame hF⟩
theorem i_vc : Claimed_1_1 ∧ Claimed_1_2 := ⟨lw_limb limb_1_1 (fun args s t => by simp [limb_1_1, Cond.after, Cond.holds, Cond.value]), lw_limb limb_1_2 (fun args s t => Cond.after_iff.mpr (by
  first | (rw [show limb_1_2 = Cond.eq .result (.int 1) from rfl, Cond.eq_ints (x := 1) (y := 1) rfl rfl]; simp; done) | (simp [limb_1_2, Cond.value, Term.eval]; done)))⟩
end
