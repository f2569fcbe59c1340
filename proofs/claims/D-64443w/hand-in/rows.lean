section
-- ===== PART A: goes FIRST, ahead of the names: the tables' words, and 'selects' of the private methods out of them =====
/-- a private method of a class that the tables say can be made, by its rows of tables_1 -/
def lw_okq (q : MethodName × Nat) : Prop := (q.1.cls ≠ "java/lang/invoke/MethodHandle" ∧ q.1.cls ≠ "java/lang/invoke/VarHandle") ∧ Cond.instantiable q.1.cls q.2 ∈ tables_1 ∧ Cond.privateMethod q.1 ∈ tables_1 ∧ Cond.instanceMethod q.1 ∈ tables_1
set_option maxRecDepth 100000
theorem lw_t1 {w : Cond} (h : w ∈ tables_1_1) : w ∈ tables_1 := List.mem_append_left _ h
theorem lw_t2 {w : Cond} (h : w ∈ tables_1_2) : w ∈ tables_1 := List.mem_append_right _ h
theorem lw_p0 : lw_okq (⟨"LossyLink", "waitingOrSent", "(I)I"⟩, 15) := ⟨⟨by decide +kernel, by decide +kernel⟩, lw_t1 (List.mem_of_getElem? (i := 4) rfl), lw_t1 (List.mem_of_getElem? (i := 67) rfl), lw_t1 (List.mem_of_getElem? (i := 68) rfl)⟩
theorem lw_p1 : lw_okq (⟨"LossyLink", "sendMore", "(I)V"⟩, 15) := ⟨⟨by decide +kernel, by decide +kernel⟩, lw_t1 (List.mem_of_getElem? (i := 4) rfl), lw_t1 (List.mem_of_getElem? (i := 71) rfl), lw_t1 (List.mem_of_getElem? (i := 72) rfl)⟩
theorem lw_p2 : lw_okq (⟨"LossyLink", "send", "(IIII)V"⟩, 15) := ⟨⟨by decide +kernel, by decide +kernel⟩, lw_t1 (List.mem_of_getElem? (i := 4) rfl), lw_t1 (List.mem_of_getElem? (i := 75) rfl), lw_t1 (List.mem_of_getElem? (i := 76) rfl)⟩
theorem lw_p3 : lw_okq (⟨"LossyLink", "waitingFor", "(I)I"⟩, 15) := ⟨⟨by decide +kernel, by decide +kernel⟩, lw_t1 (List.mem_of_getElem? (i := 4) rfl), lw_t1 (List.mem_of_getElem? (i := 90) rfl), lw_t1 (List.mem_of_getElem? (i := 91) rfl)⟩
theorem lw_p4 : lw_okq (⟨"LossyLink", "settle", "()V"⟩, 15) := ⟨⟨by decide +kernel, by decide +kernel⟩, lw_t1 (List.mem_of_getElem? (i := 4) rfl), lw_t1 (List.mem_of_getElem? (i := 94) rfl), lw_t1 (List.mem_of_getElem? (i := 95) rfl)⟩
theorem lw_p5 : lw_okq (⟨"LossyLink", "busy", "()Z"⟩, 15) := ⟨⟨by decide +kernel, by decide +kernel⟩, lw_t1 (List.mem_of_getElem? (i := 4) rfl), lw_t1 (List.mem_of_getElem? (i := 98) rfl), lw_t1 (List.mem_of_getElem? (i := 99) rfl)⟩
theorem lw_p6 : lw_okq (⟨"LossyLink", "goBack", "(I)V"⟩, 15) := ⟨⟨by decide +kernel, by decide +kernel⟩, lw_t1 (List.mem_of_getElem? (i := 4) rfl), lw_t1 (List.mem_of_getElem? (i := 102) rfl), lw_t1 (List.mem_of_getElem? (i := 103) rfl)⟩
theorem lw_p7 : lw_okq (⟨"LossyLink", "emptyLine", "(I)V"⟩, 15) := ⟨⟨by decide +kernel, by decide +kernel⟩, lw_t1 (List.mem_of_getElem? (i := 4) rfl), lw_t1 (List.mem_of_getElem? (i := 106) rfl), lw_t1 (List.mem_of_getElem? (i := 107) rfl)⟩
theorem lw_p8 : lw_okq (⟨"LossyLink", "carryOne", "(I)V"⟩, 15) := ⟨⟨by decide +kernel, by decide +kernel⟩, lw_t1 (List.mem_of_getElem? (i := 4) rfl), lw_t1 (List.mem_of_getElem? (i := 110) rfl), lw_t1 (List.mem_of_getElem? (i := 111) rfl)⟩
theorem lw_p9 : lw_okq (⟨"LossyLink", "takeFrame", "(I)I"⟩, 15) := ⟨⟨by decide +kernel, by decide +kernel⟩, lw_t1 (List.mem_of_getElem? (i := 4) rfl), lw_t1 (List.mem_of_getElem? (i := 114) rfl), lw_t1 (List.mem_of_getElem? (i := 115) rfl)⟩
theorem lw_p10 : lw_okq (⟨"LossyLink", "arrive", "(II)V"⟩, 15) := ⟨⟨by decide +kernel, by decide +kernel⟩, lw_t1 (List.mem_of_getElem? (i := 4) rfl), lw_t1 (List.mem_of_getElem? (i := 118) rfl), lw_t1 (List.mem_of_getElem? (i := 119) rfl)⟩
theorem lw_p11 : lw_okq (⟨"LossyLink", "confirm", "(II)V"⟩, 15) := ⟨⟨by decide +kernel, by decide +kernel⟩, lw_t1 (List.mem_of_getElem? (i := 4) rfl), lw_t1 (List.mem_of_getElem? (i := 125) rfl), lw_t1 (List.mem_of_getElem? (i := 126) rfl)⟩
theorem lw_p12 : lw_okq (⟨"LossyLink", "receiveData", "(III)V"⟩, 15) := ⟨⟨by decide +kernel, by decide +kernel⟩, lw_t1 (List.mem_of_getElem? (i := 4) rfl), lw_t1 (List.mem_of_getElem? (i := 129) rfl), lw_t1 (List.mem_of_getElem? (i := 130) rfl)⟩
theorem lw_p13 : lw_okq (⟨"LossyLink", "accept", "(II)V"⟩, 15) := ⟨⟨by decide +kernel, by decide +kernel⟩, lw_t1 (List.mem_of_getElem? (i := 4) rfl), lw_t1 (List.mem_of_getElem? (i := 133) rfl), lw_t1 (List.mem_of_getElem? (i := 134) rfl)⟩
theorem lw_p14 : lw_okq (⟨"LossyLink", "payDebt", "(I)V"⟩, 15) := ⟨⟨by decide +kernel, by decide +kernel⟩, lw_t1 (List.mem_of_getElem? (i := 4) rfl), lw_t1 (List.mem_of_getElem? (i := 137) rfl), lw_t1 (List.mem_of_getElem? (i := 138) rfl)⟩
theorem lw_p15 : lw_okq (⟨"LossyLink", "takeOne", "(I)I"⟩, 15) := ⟨⟨by decide +kernel, by decide +kernel⟩, lw_t1 (List.mem_of_getElem? (i := 4) rfl), lw_t1 (List.mem_of_getElem? (i := 141) rfl), lw_t1 (List.mem_of_getElem? (i := 142) rfl)⟩
def lw_privs_1 : List (MethodName × Nat) := [(⟨"LossyLink", "waitingOrSent", "(I)I"⟩, 15), (⟨"LossyLink", "sendMore", "(I)V"⟩, 15), (⟨"LossyLink", "send", "(IIII)V"⟩, 15), (⟨"LossyLink", "waitingFor", "(I)I"⟩, 15), (⟨"LossyLink", "settle", "()V"⟩, 15), (⟨"LossyLink", "busy", "()Z"⟩, 15), (⟨"LossyLink", "goBack", "(I)V"⟩, 15), (⟨"LossyLink", "emptyLine", "(I)V"⟩, 15), (⟨"LossyLink", "carryOne", "(I)V"⟩, 15), (⟨"LossyLink", "takeFrame", "(I)I"⟩, 15), (⟨"LossyLink", "arrive", "(II)V"⟩, 15), (⟨"LossyLink", "confirm", "(II)V"⟩, 15), (⟨"LossyLink", "receiveData", "(III)V"⟩, 15), (⟨"LossyLink", "accept", "(II)V"⟩, 15), (⟨"LossyLink", "payDebt", "(I)V"⟩, 15), (⟨"LossyLink", "takeOne", "(I)I"⟩, 15)]
theorem lw_r1 : ∀ q ∈ lw_privs_1, lw_okq q := List.forall_mem_cons.mpr ⟨lw_p0, List.forall_mem_cons.mpr ⟨lw_p1, List.forall_mem_cons.mpr ⟨lw_p2, List.forall_mem_cons.mpr ⟨lw_p3, List.forall_mem_cons.mpr ⟨lw_p4, List.forall_mem_cons.mpr ⟨lw_p5, List.forall_mem_cons.mpr ⟨lw_p6, List.forall_mem_cons.mpr ⟨lw_p7, List.forall_mem_cons.mpr ⟨lw_p8, List.forall_mem_cons.mpr ⟨lw_p9, List.forall_mem_cons.mpr ⟨lw_p10, List.forall_mem_cons.mpr ⟨lw_p11, List.forall_mem_cons.mpr ⟨lw_p12, List.forall_mem_cons.mpr ⟨lw_p13, List.forall_mem_cons.mpr ⟨lw_p14, List.forall_mem_cons.mpr ⟨lw_p15, fun _ h => absurd h List.not_mem_nil⟩⟩⟩⟩⟩⟩⟩⟩⟩⟩⟩⟩⟩⟩⟩⟩
theorem lw_p16 : lw_okq (⟨"LossyLink", "marked", "(I)I"⟩, 15) := ⟨⟨by decide +kernel, by decide +kernel⟩, lw_t1 (List.mem_of_getElem? (i := 4) rfl), lw_t1 (List.mem_of_getElem? (i := 149) rfl), lw_t1 (List.mem_of_getElem? (i := 150) rfl)⟩
theorem lw_p17 : lw_okq (⟨"LossyLink", "byteAt", "(II)I"⟩, 15) := ⟨⟨by decide +kernel, by decide +kernel⟩, lw_t1 (List.mem_of_getElem? (i := 4) rfl), lw_t1 (List.mem_of_getElem? (i := 153) rfl), lw_t1 (List.mem_of_getElem? (i := 154) rfl)⟩
theorem lw_p18 : lw_okq (⟨"LossyLinkModel", "bad", "(I)Z"⟩, 4) := ⟨⟨by decide +kernel, by decide +kernel⟩, lw_t1 (List.mem_of_getElem? (i := 200) rfl), lw_t1 (List.mem_of_getElem? (i := 223) rfl), lw_t1 (List.mem_of_getElem? (i := 224) rfl)⟩
theorem lw_p19 : lw_okq (⟨"LossyLinkModel", "off", "(II)V"⟩, 4) := ⟨⟨by decide +kernel, by decide +kernel⟩, lw_t1 (List.mem_of_getElem? (i := 200) rfl), lw_t1 (List.mem_of_getElem? (i := 231) rfl), lw_t1 (List.mem_of_getElem? (i := 232) rfl)⟩
def lw_privs_2 : List (MethodName × Nat) := [(⟨"LossyLink", "marked", "(I)I"⟩, 15), (⟨"LossyLink", "byteAt", "(II)I"⟩, 15), (⟨"LossyLinkModel", "bad", "(I)Z"⟩, 4), (⟨"LossyLinkModel", "off", "(II)V"⟩, 4)]
theorem lw_r2 : ∀ q ∈ lw_privs_2, lw_okq q := List.forall_mem_cons.mpr ⟨lw_p16, List.forall_mem_cons.mpr ⟨lw_p17, List.forall_mem_cons.mpr ⟨lw_p18, List.forall_mem_cons.mpr ⟨lw_p19, fun _ h => absurd h List.not_mem_nil⟩⟩⟩⟩
def lw_privs : List (MethodName × Nat) := lw_privs_1 ++ (lw_privs_2)
def lw_tbl : List Cond := k2_sels lw_privs ++ tables_1
theorem lw_privs_ok : ∀ q ∈ lw_privs, lw_okq q := by
  show ∀ q ∈ lw_privs_1 ++ (lw_privs_2), lw_okq q
  exact List.forall_mem_append.mpr ⟨lw_r1, lw_r2⟩
-- ===== ONE list of words for every method: the tables' words that hold all through a run =====
def lw_all : List Cond := lw_tbl.filter goodWord
/-- a word of the tables by its place: claim/WORDS.tsv -/
theorem lw_w {w : Cond} (i : Nat) (h : lw_tbl[i]? = some w) (g : goodWord w = true) : w ∈ lw_all := List.mem_filter.mpr ⟨List.mem_of_getElem? h, g⟩
theorem lw_all_tbl {w : Cond} (h : w ∈ lw_all) : w ∈ lw_tbl := (List.mem_filter.mp h).1
theorem lw_self : GoodIn lw_all lw_all := fun w h => ⟨h, good_of_word (List.mem_filter.mp h).2⟩
/-- a class's field words, by their places -/
theorem lw_in (ws : List Cond) (ps : List Nat) (hp : ws = ps.filterMap (fun i => lw_tbl[i]?)) (hg : ws.all goodWord = true) : ∀ w ∈ ws, w ∈ lw_all := by
  intro w h
  have h1 := List.all_eq_true.mp hg w h
  rw [hp] at h
  obtain ⟨i, -, hi⟩ := List.mem_filterMap.mp h
  exact lw_w i hi h1
/-- the words of a contract for the method y with code b, L locals, answer r -/
abbrev ws_ (y : MethodName) (b : ByteArray) (L : Nat) (r : Option FieldType) : List Cond := Cond.code y b L r :: lw_all
theorem lw_meth {y : MethodName} {b : ByteArray} {L : Nat} {r : Option FieldType} (h : Cond.code y b L r ∈ lw_all) : GoodIn lw_all (ws_ y b L r) := by
  intro w hw
  rcases List.mem_cons.mp hw with e | e
  · rw [e]
    exact lw_self _ h
  · exact lw_self _ e
theorem lw_app {a c : List Cond} (ha : ∀ w ∈ a, w ∈ lw_all) (hc : GoodIn lw_all c) : GoodIn lw_all (a ++ c) := by
  intro w hw
  rcases List.mem_append.mp hw with e | e
  · exact lw_self w (ha w e)
  · exact hc w e
/-- what a call through an object asks: cwV n hts (lw_V ..) -/
theorem lw_V {own : String} {idx : Nat} {C : String} {y : MethodName} {b : ByteArray} {L : Nat} {r : Option FieldType} (h1 : Cond.methodLink own idx y ∈ lw_all) (h2 : Cond.instanceMethod y ∈ lw_all) (h3 : Cond.selects C y y ∈ lw_all) (h4 : Cond.initialized C ∈ lw_all) (h5 : Cond.code y b L r ∈ lw_all) : GoodIn lw_all (wsV own idx C y (ws_ y b L r)) := by
  refine lw_app ?_ (lw_meth h5)
  intro w hw
  simp only [List.mem_cons, List.not_mem_nil, or_false] at hw
  rcases hw with e | e | e | e
  · rw [e]; exact h1
  · rw [e]; exact h2
  · rw [e]; exact h3
  · rw [e]; exact h4
/-- what a static call asks: va_cwS n hts (lw_S ..) -/
theorem lw_S {own : String} {idx : Nat} {y : MethodName} {b : ByteArray} {L : Nat} {r : Option FieldType} (h1 : Cond.methodLink own idx y ∈ lw_all) (h2 : Cond.static y ∈ lw_all) (h3 : Cond.initialized y.cls ∈ lw_all) (h4 : Cond.code y b L r ∈ lw_all) : GoodIn lw_all (va_wsS own idx y (ws_ y b L r)) := by
  refine lw_app ?_ (lw_meth h4)
  intro w hw
  simp only [List.mem_cons, List.not_mem_nil, or_false] at hw
  rcases hw with e | e | e
  · rw [e]; exact h1
  · rw [e]; exact h2
  · rw [e]; exact h3
/-- the words of a contract for a method WITH HANDLERS (hh: its table) -/
abbrev wsW_ (y : MethodName) (b : ByteArray) (L : Nat) (r : Option FieldType) (hh : List (Nat × Nat × Nat × Nat)) : List Cond := Cond.codeWith y b L r hh :: lw_all
theorem lw_methW {y : MethodName} {b : ByteArray} {L : Nat} {r : Option FieldType} {hh : List (Nat × Nat × Nat × Nat)} (h : Cond.codeWith y b L r hh ∈ lw_all) : GoodIn lw_all (wsW_ y b L r hh) := by
  intro w hw
  rcases List.mem_cons.mp hw with e | e
  · rw [e]
    exact lw_self _ h
  · exact lw_self _ e
/-- any list of words by their places (lw_in), good -/
theorem lw_good {ws : List Cond} (h : ∀ w ∈ ws, w ∈ lw_all) : GoodIn lw_all ws := fun w hw => lw_self w (h w hw)
/-- what a call of a method with handlers asks: vx_cwVW n hts (lw_VW ..), vx_cwSW n hts (lw_SW ..) -/
theorem lw_VW {own : String} {idx : Nat} {C : String} {y : MethodName} {b : ByteArray} {L : Nat} {r : Option FieldType} {hh : List (Nat × Nat × Nat × Nat)} (h1 : Cond.methodLink own idx y ∈ lw_all) (h2 : Cond.instanceMethod y ∈ lw_all) (h3 : Cond.selects C y y ∈ lw_all) (h4 : Cond.initialized C ∈ lw_all) (h5 : Cond.codeWith y b L r hh ∈ lw_all) : GoodIn lw_all (wsV own idx C y (wsW_ y b L r hh)) := by
  refine lw_app ?_ (lw_methW h5)
  intro w hw
  simp only [List.mem_cons, List.not_mem_nil, or_false] at hw
  rcases hw with e | e | e | e
  · rw [e]; exact h1
  · rw [e]; exact h2
  · rw [e]; exact h3
  · rw [e]; exact h4
theorem lw_SW {own : String} {idx : Nat} {y : MethodName} {b : ByteArray} {L : Nat} {r : Option FieldType} {hh : List (Nat × Nat × Nat × Nat)} (h1 : Cond.methodLink own idx y ∈ lw_all) (h2 : Cond.static y ∈ lw_all) (h3 : Cond.initialized y.cls ∈ lw_all) (h4 : Cond.codeWith y b L r hh ∈ lw_all) : GoodIn lw_all (va_wsS own idx y (wsW_ y b L r hh)) := by
  refine lw_app ?_ (lw_methW h4)
  intro w hw
  simp only [List.mem_cons, List.not_mem_nil, or_false] at hw
  rcases hw with e | e | e
  · rw [e]; exact h1
  · rw [e]; exact h2
  · rw [e]; exact h3
/-- a word by its place in its run of the tables -/
theorem lw_at {r : List Cond} (hr : ∀ w ∈ r, w ∈ lw_tbl) {w : Cond} (i : Nat) (h : r[i]? = some w) : w ∈ lw_tbl := hr w (List.mem_of_getElem? h)
theorem lw_g {w : Cond} (h : w ∈ lw_tbl) (g : goodWord w = true) : w ∈ lw_all := List.mem_filter.mpr ⟨h, g⟩
theorem lw_ms : ∀ w ∈ k2_sels lw_privs, w ∈ lw_tbl := fun w h => show w ∈ k2_sels lw_privs ++ tables_1 from List.mem_append_left _ h
theorem lw_m1 : ∀ w ∈ tables_1_1, w ∈ lw_tbl := fun w h => show w ∈ k2_sels lw_privs ++ tables_1 from List.mem_append_right (k2_sels lw_privs) (show w ∈ tables_1 from List.mem_append_left _ h)
theorem lw_m2 : ∀ w ∈ tables_1_2, w ∈ lw_tbl := fun w h => show w ∈ k2_sels lw_privs ++ tables_1 from List.mem_append_right (k2_sels lw_privs) (show w ∈ tables_1 from List.mem_append_right _ h)
theorem qs0 : (Cond.selects "LossyLink" ⟨"LossyLink", "waitingOrSent", "(I)I"⟩ ⟨"LossyLink", "waitingOrSent", "(I)I"⟩) ∈ lw_all := lw_g (lw_at lw_ms 0 rfl) rfl
theorem qs1 : (Cond.selects "LossyLink" ⟨"LossyLink", "sendMore", "(I)V"⟩ ⟨"LossyLink", "sendMore", "(I)V"⟩) ∈ lw_all := lw_g (lw_at lw_ms 1 rfl) rfl
theorem qs2 : (Cond.selects "LossyLink" ⟨"LossyLink", "send", "(IIII)V"⟩ ⟨"LossyLink", "send", "(IIII)V"⟩) ∈ lw_all := lw_g (lw_at lw_ms 2 rfl) rfl
theorem qs3 : (Cond.selects "LossyLink" ⟨"LossyLink", "waitingFor", "(I)I"⟩ ⟨"LossyLink", "waitingFor", "(I)I"⟩) ∈ lw_all := lw_g (lw_at lw_ms 3 rfl) rfl
theorem qs4 : (Cond.selects "LossyLink" ⟨"LossyLink", "settle", "()V"⟩ ⟨"LossyLink", "settle", "()V"⟩) ∈ lw_all := lw_g (lw_at lw_ms 4 rfl) rfl
theorem qs5 : (Cond.selects "LossyLink" ⟨"LossyLink", "busy", "()Z"⟩ ⟨"LossyLink", "busy", "()Z"⟩) ∈ lw_all := lw_g (lw_at lw_ms 5 rfl) rfl
theorem qs6 : (Cond.selects "LossyLink" ⟨"LossyLink", "goBack", "(I)V"⟩ ⟨"LossyLink", "goBack", "(I)V"⟩) ∈ lw_all := lw_g (lw_at lw_ms 6 rfl) rfl
theorem qs7 : (Cond.selects "LossyLink" ⟨"LossyLink", "emptyLine", "(I)V"⟩ ⟨"LossyLink", "emptyLine", "(I)V"⟩) ∈ lw_all := lw_g (lw_at lw_ms 7 rfl) rfl
theorem qs8 : (Cond.selects "LossyLink" ⟨"LossyLink", "carryOne", "(I)V"⟩ ⟨"LossyLink", "carryOne", "(I)V"⟩) ∈ lw_all := lw_g (lw_at lw_ms 8 rfl) rfl
theorem qs9 : (Cond.selects "LossyLink" ⟨"LossyLink", "takeFrame", "(I)I"⟩ ⟨"LossyLink", "takeFrame", "(I)I"⟩) ∈ lw_all := lw_g (lw_at lw_ms 9 rfl) rfl
theorem qs10 : (Cond.selects "LossyLink" ⟨"LossyLink", "arrive", "(II)V"⟩ ⟨"LossyLink", "arrive", "(II)V"⟩) ∈ lw_all := lw_g (lw_at lw_ms 10 rfl) rfl
theorem qs11 : (Cond.selects "LossyLink" ⟨"LossyLink", "confirm", "(II)V"⟩ ⟨"LossyLink", "confirm", "(II)V"⟩) ∈ lw_all := lw_g (lw_at lw_ms 11 rfl) rfl
theorem qs12 : (Cond.selects "LossyLink" ⟨"LossyLink", "receiveData", "(III)V"⟩ ⟨"LossyLink", "receiveData", "(III)V"⟩) ∈ lw_all := lw_g (lw_at lw_ms 12 rfl) rfl
theorem qs13 : (Cond.selects "LossyLink" ⟨"LossyLink", "accept", "(II)V"⟩ ⟨"LossyLink", "accept", "(II)V"⟩) ∈ lw_all := lw_g (lw_at lw_ms 13 rfl) rfl
theorem qs14 : (Cond.selects "LossyLink" ⟨"LossyLink", "payDebt", "(I)V"⟩ ⟨"LossyLink", "payDebt", "(I)V"⟩) ∈ lw_all := lw_g (lw_at lw_ms 14 rfl) rfl
theorem qs15 : (Cond.selects "LossyLink" ⟨"LossyLink", "takeOne", "(I)I"⟩ ⟨"LossyLink", "takeOne", "(I)I"⟩) ∈ lw_all := lw_g (lw_at lw_ms 15 rfl) rfl
theorem qs16 : (Cond.selects "LossyLink" ⟨"LossyLink", "marked", "(I)I"⟩ ⟨"LossyLink", "marked", "(I)I"⟩) ∈ lw_all := lw_g (lw_at lw_ms 16 rfl) rfl
theorem qs17 : (Cond.selects "LossyLink" ⟨"LossyLink", "byteAt", "(II)I"⟩ ⟨"LossyLink", "byteAt", "(II)I"⟩) ∈ lw_all := lw_g (lw_at lw_ms 17 rfl) rfl
theorem qs18 : (Cond.selects "LossyLinkModel" ⟨"LossyLinkModel", "bad", "(I)Z"⟩ ⟨"LossyLinkModel", "bad", "(I)Z"⟩) ∈ lw_all := lw_g (lw_at lw_ms 18 rfl) rfl
theorem qs19 : (Cond.selects "LossyLinkModel" ⟨"LossyLinkModel", "off", "(II)V"⟩ ⟨"LossyLinkModel", "off", "(II)V"⟩) ∈ lw_all := lw_g (lw_at lw_ms 19 rfl) rfl
end
section
/-! java/lang/Object -/
set_option maxRecDepth 100000
def RJ0 : String := "java/lang/Object"
abbrev cJ0_init : ByteArray := object_method_1_code
def yJ0_init : MethodName := ⟨RJ0, "<init>", "()V"⟩
theorem dJ0_init_0 : decode cJ0_init 0 = .ok (.return_, 1) := by decide +kernel
theorem q29 : (Jvm.Cond.instanceMethod ({ cls := "java/lang/Object", name := "<init>", desc := "()V" } : Jvm.MethodName)) ∈ lw_all := lw_g (lw_at lw_m1 9 rfl) rfl
theorem q30 : (Jvm.Cond.code ({ cls := "java/lang/Object", name := "<init>", desc := "()V" } : Jvm.MethodName) object_method_1_code (1 : Nat) (Option.none : Option Jvm.ClassFile.FieldType)) ∈ lw_all := lw_g (lw_at lw_m1 10 rfl) rfl
theorem q77 : (Jvm.Cond.arrayClass Jvm.ClassFile.FieldType.int) ∈ lw_all := lw_g (lw_at lw_m1 57 rfl) rfl
set_option maxRecDepth 100000
theorem q78 : (Jvm.Cond.arrayClass Jvm.ClassFile.FieldType.boolean) ∈ lw_all := lw_g (lw_at lw_m1 58 rfl) rfl
/-! LossyLink -/
set_option maxRecDepth 100000
def RX1 : String := "LossyLink"
def TX1 : u_T := fun k => match k with
  | 0 => ("LossyLink", "window", "I", true)
  | 1 => ("LossyLink", "sendHead", "[I", true)
  | 2 => ("LossyLink", "sendCount", "[I", true)
  | 3 => ("LossyLink", "sendByte", "[I", true)
  | 4 => ("LossyLink", "firstNumber", "[I", true)
  | 5 => ("LossyLink", "underWay", "[I", true)
  | 6 => ("LossyLink", "expected", "[I", true)
  | 7 => ("LossyLink", "asked", "[Z", true)
  | 8 => ("LossyLink", "owes", "[Z", true)
  | 9 => ("LossyLink", "gotHead", "[I", true)
  | 10 => ("LossyLink", "gotCount", "[I", true)
  | 11 => ("LossyLink", "gotByte", "[I", true)
  | 12 => ("LossyLink", "finished", "[I", true)
  | 13 => ("LossyLink", "frames", "[I", true)
  | _ => ("LossyLink", "frame", "[I", true)
def tyX1 : Nat → FieldType := fun k => match k with
  | 0 => .int
  | 1 => .array .int
  | 2 => .array .int
  | 3 => .array .int
  | 4 => .array .int
  | 5 => .array .int
  | 6 => .array .int
  | 7 => .array .boolean
  | 8 => .array .boolean
  | 9 => .array .int
  | 10 => .array .int
  | 11 => .array .int
  | 12 => .array .int
  | 13 => .array .int
  | _ => .array .int
abbrev wsX10 : List Cond := u_ws RX1 TX1 15
set_option maxRecDepth 100000 in
theorem nmX1 : ∀ a, a < 15 → ∀ b, b < 15 → a ≠ b → (TX1 a).2.1 ≠ (TX1 b).2.1 := by decide +kernel
set_option maxRecDepth 100000 in
theorem tyX1_ok : ∀ k, k < 15 → parseFieldDescriptor (TX1 k).2.2.1 = some (tyX1 k) := by decide +kernel
theorem q21 : (Jvm.Cond.initialized "LossyLink") ∈ lw_all := lw_g (lw_at lw_m1 1 rfl) rfl
theorem q24 : (Jvm.Cond.instantiable "LossyLink" (15 : Nat)) ∈ lw_all := lw_g (lw_at lw_m1 4 rfl) rfl
theorem q26 : (Jvm.Cond.instanceMethod ({ cls := "LossyLink", name := "<init>", desc := "(I)V" } : Jvm.MethodName)) ∈ lw_all := lw_g (lw_at lw_m1 6 rfl) rfl
theorem q27 : (Jvm.Cond.code ({ cls := "LossyLink", name := "<init>", desc := "(I)V" } : Jvm.MethodName) prog_1_method_1_code (3 : Nat) (Option.none : Option Jvm.ClassFile.FieldType)) ∈ lw_all := lw_g (lw_at lw_m1 7 rfl) rfl
theorem q28 : (Jvm.Cond.methodLink "LossyLink" (1 : Nat) ({ cls := "java/lang/Object", name := "<init>", desc := "()V" } : Jvm.MethodName)) ∈ lw_all := lw_g (lw_at lw_m1 8 rfl) rfl
theorem q31 : (Jvm.Cond.fieldLink "LossyLink" (53 : Nat) "LossyLink" "window" "I") ∈ lw_all := lw_g (lw_at lw_m1 11 rfl) rfl
theorem q32 : (Jvm.Cond.fieldLink "LossyLink" (7 : Nat) "LossyLink" "sendHead" "[I") ∈ lw_all := lw_g (lw_at lw_m1 12 rfl) rfl
theorem q33 : (Jvm.Cond.fieldLink "LossyLink" (13 : Nat) "LossyLink" "sendCount" "[I") ∈ lw_all := lw_g (lw_at lw_m1 13 rfl) rfl
theorem q34 : (Jvm.Cond.fieldLink "LossyLink" (16 : Nat) "LossyLink" "sendByte" "[I") ∈ lw_all := lw_g (lw_at lw_m1 14 rfl) rfl
theorem q35 : (Jvm.Cond.fieldLink "LossyLink" (19 : Nat) "LossyLink" "firstNumber" "[I") ∈ lw_all := lw_g (lw_at lw_m1 15 rfl) rfl
theorem q36 : (Jvm.Cond.fieldLink "LossyLink" (22 : Nat) "LossyLink" "underWay" "[I") ∈ lw_all := lw_g (lw_at lw_m1 16 rfl) rfl
theorem q37 : (Jvm.Cond.fieldLink "LossyLink" (25 : Nat) "LossyLink" "expected" "[I") ∈ lw_all := lw_g (lw_at lw_m1 17 rfl) rfl
theorem q38 : (Jvm.Cond.fieldLink "LossyLink" (28 : Nat) "LossyLink" "asked" "[Z") ∈ lw_all := lw_g (lw_at lw_m1 18 rfl) rfl
theorem q39 : (Jvm.Cond.fieldLink "LossyLink" (32 : Nat) "LossyLink" "owes" "[Z") ∈ lw_all := lw_g (lw_at lw_m1 19 rfl) rfl
theorem q40 : (Jvm.Cond.fieldLink "LossyLink" (35 : Nat) "LossyLink" "gotHead" "[I") ∈ lw_all := lw_g (lw_at lw_m1 20 rfl) rfl
theorem q41 : (Jvm.Cond.fieldLink "LossyLink" (38 : Nat) "LossyLink" "gotCount" "[I") ∈ lw_all := lw_g (lw_at lw_m1 21 rfl) rfl
theorem q42 : (Jvm.Cond.fieldLink "LossyLink" (41 : Nat) "LossyLink" "gotByte" "[I") ∈ lw_all := lw_g (lw_at lw_m1 22 rfl) rfl
theorem q43 : (Jvm.Cond.fieldLink "LossyLink" (44 : Nat) "LossyLink" "finished" "[I") ∈ lw_all := lw_g (lw_at lw_m1 23 rfl) rfl
theorem q44 : (Jvm.Cond.fieldLink "LossyLink" (47 : Nat) "LossyLink" "frames" "[I") ∈ lw_all := lw_g (lw_at lw_m1 24 rfl) rfl
theorem q45 : (Jvm.Cond.fieldLink "LossyLink" (50 : Nat) "LossyLink" "frame" "[I") ∈ lw_all := lw_g (lw_at lw_m1 25 rfl) rfl
theorem q46 : (Jvm.Cond.laysFinal "LossyLink" "LossyLink" "window" "I") ∈ lw_all := lw_g (lw_at lw_m1 26 rfl) rfl
theorem q47 : (Jvm.Cond.soleField "LossyLink" "window") ∈ lw_all := lw_g (lw_at lw_m1 27 rfl) rfl
theorem q48 : (Jvm.Cond.laysFinal "LossyLink" "LossyLink" "sendHead" "[I") ∈ lw_all := lw_g (lw_at lw_m1 28 rfl) rfl
theorem q49 : (Jvm.Cond.soleField "LossyLink" "sendHead") ∈ lw_all := lw_g (lw_at lw_m1 29 rfl) rfl
theorem q50 : (Jvm.Cond.laysFinal "LossyLink" "LossyLink" "sendCount" "[I") ∈ lw_all := lw_g (lw_at lw_m1 30 rfl) rfl
theorem q51 : (Jvm.Cond.soleField "LossyLink" "sendCount") ∈ lw_all := lw_g (lw_at lw_m1 31 rfl) rfl
theorem q52 : (Jvm.Cond.laysFinal "LossyLink" "LossyLink" "sendByte" "[I") ∈ lw_all := lw_g (lw_at lw_m1 32 rfl) rfl
theorem q53 : (Jvm.Cond.soleField "LossyLink" "sendByte") ∈ lw_all := lw_g (lw_at lw_m1 33 rfl) rfl
theorem q54 : (Jvm.Cond.laysFinal "LossyLink" "LossyLink" "firstNumber" "[I") ∈ lw_all := lw_g (lw_at lw_m1 34 rfl) rfl
theorem q55 : (Jvm.Cond.soleField "LossyLink" "firstNumber") ∈ lw_all := lw_g (lw_at lw_m1 35 rfl) rfl
theorem q56 : (Jvm.Cond.laysFinal "LossyLink" "LossyLink" "underWay" "[I") ∈ lw_all := lw_g (lw_at lw_m1 36 rfl) rfl
theorem q57 : (Jvm.Cond.soleField "LossyLink" "underWay") ∈ lw_all := lw_g (lw_at lw_m1 37 rfl) rfl
theorem q58 : (Jvm.Cond.laysFinal "LossyLink" "LossyLink" "expected" "[I") ∈ lw_all := lw_g (lw_at lw_m1 38 rfl) rfl
theorem q59 : (Jvm.Cond.soleField "LossyLink" "expected") ∈ lw_all := lw_g (lw_at lw_m1 39 rfl) rfl
theorem q60 : (Jvm.Cond.laysFinal "LossyLink" "LossyLink" "asked" "[Z") ∈ lw_all := lw_g (lw_at lw_m1 40 rfl) rfl
theorem q61 : (Jvm.Cond.soleField "LossyLink" "asked") ∈ lw_all := lw_g (lw_at lw_m1 41 rfl) rfl
theorem q62 : (Jvm.Cond.laysFinal "LossyLink" "LossyLink" "owes" "[Z") ∈ lw_all := lw_g (lw_at lw_m1 42 rfl) rfl
theorem q63 : (Jvm.Cond.soleField "LossyLink" "owes") ∈ lw_all := lw_g (lw_at lw_m1 43 rfl) rfl
theorem q64 : (Jvm.Cond.laysFinal "LossyLink" "LossyLink" "gotHead" "[I") ∈ lw_all := lw_g (lw_at lw_m1 44 rfl) rfl
theorem q65 : (Jvm.Cond.soleField "LossyLink" "gotHead") ∈ lw_all := lw_g (lw_at lw_m1 45 rfl) rfl
theorem q66 : (Jvm.Cond.laysFinal "LossyLink" "LossyLink" "gotCount" "[I") ∈ lw_all := lw_g (lw_at lw_m1 46 rfl) rfl
theorem q67 : (Jvm.Cond.soleField "LossyLink" "gotCount") ∈ lw_all := lw_g (lw_at lw_m1 47 rfl) rfl
theorem q68 : (Jvm.Cond.laysFinal "LossyLink" "LossyLink" "gotByte" "[I") ∈ lw_all := lw_g (lw_at lw_m1 48 rfl) rfl
theorem q69 : (Jvm.Cond.soleField "LossyLink" "gotByte") ∈ lw_all := lw_g (lw_at lw_m1 49 rfl) rfl
theorem q70 : (Jvm.Cond.laysFinal "LossyLink" "LossyLink" "finished" "[I") ∈ lw_all := lw_g (lw_at lw_m1 50 rfl) rfl
theorem q71 : (Jvm.Cond.soleField "LossyLink" "finished") ∈ lw_all := lw_g (lw_at lw_m1 51 rfl) rfl
theorem q72 : (Jvm.Cond.laysFinal "LossyLink" "LossyLink" "frames" "[I") ∈ lw_all := lw_g (lw_at lw_m1 52 rfl) rfl
theorem q73 : (Jvm.Cond.soleField "LossyLink" "frames") ∈ lw_all := lw_g (lw_at lw_m1 53 rfl) rfl
theorem q74 : (Jvm.Cond.laysFinal "LossyLink" "LossyLink" "frame" "[I") ∈ lw_all := lw_g (lw_at lw_m1 54 rfl) rfl
theorem q75 : (Jvm.Cond.soleField "LossyLink" "frame") ∈ lw_all := lw_g (lw_at lw_m1 55 rfl) rfl
theorem q76 : (Jvm.Cond.superclass "LossyLink" "java/lang/Object") ∈ lw_all := lw_g (lw_at lw_m1 56 rfl) rfl
theorem q80 : (Jvm.Cond.instanceMethod ({ cls := "LossyLink", name := "give", desc := "(IIZ)I" } : Jvm.MethodName)) ∈ lw_all := lw_g (lw_at lw_m1 60 rfl) rfl
theorem q81 : (Jvm.Cond.selects "LossyLink" ({ cls := "LossyLink", name := "give", desc := "(IIZ)I" } : Jvm.MethodName) ({ cls := "LossyLink", name := "give", desc := "(IIZ)I" } : Jvm.MethodName)) ∈ lw_all := lw_g (lw_at lw_m1 61 rfl) rfl
theorem q82 : (Jvm.Cond.code ({ cls := "LossyLink", name := "give", desc := "(IIZ)I" } : Jvm.MethodName) prog_1_method_19_code (5 : Nat) (Option.some Jvm.ClassFile.FieldType.int)) ∈ lw_all := lw_g (lw_at lw_m1 62 rfl) rfl
theorem q83 : (Jvm.Cond.methodLink "LossyLink" (110 : Nat) ({ cls := "LossyLink", name := "bad", desc := "(I)Z" } : Jvm.MethodName)) ∈ lw_all := lw_g (lw_at lw_m1 63 rfl) rfl
theorem q84 : (Jvm.Cond.static ({ cls := "LossyLink", name := "bad", desc := "(I)Z" } : Jvm.MethodName)) ∈ lw_all := lw_g (lw_at lw_m1 64 rfl) rfl
theorem q85 : (Jvm.Cond.code ({ cls := "LossyLink", name := "bad", desc := "(I)Z" } : Jvm.MethodName) prog_1_method_2_code (1 : Nat) (Option.some Jvm.ClassFile.FieldType.boolean)) ∈ lw_all := lw_g (lw_at lw_m1 65 rfl) rfl
theorem q86 : (Jvm.Cond.methodLink "LossyLink" (113 : Nat) ({ cls := "LossyLink", name := "waitingOrSent", desc := "(I)I" } : Jvm.MethodName)) ∈ lw_all := lw_g (lw_at lw_m1 66 rfl) rfl
theorem q87 : (Jvm.Cond.privateMethod ({ cls := "LossyLink", name := "waitingOrSent", desc := "(I)I" } : Jvm.MethodName)) ∈ lw_tbl := lw_at lw_m1 67 rfl
theorem q88 : (Jvm.Cond.instanceMethod ({ cls := "LossyLink", name := "waitingOrSent", desc := "(I)I" } : Jvm.MethodName)) ∈ lw_all := lw_g (lw_at lw_m1 68 rfl) rfl
theorem q89 : (Jvm.Cond.code ({ cls := "LossyLink", name := "waitingOrSent", desc := "(I)I" } : Jvm.MethodName) prog_1_method_20_code (4 : Nat) (Option.some Jvm.ClassFile.FieldType.int)) ∈ lw_all := lw_g (lw_at lw_m1 69 rfl) rfl
theorem q90 : (Jvm.Cond.methodLink "LossyLink" (69 : Nat) ({ cls := "LossyLink", name := "sendMore", desc := "(I)V" } : Jvm.MethodName)) ∈ lw_all := lw_g (lw_at lw_m1 70 rfl) rfl
theorem q91 : (Jvm.Cond.privateMethod ({ cls := "LossyLink", name := "sendMore", desc := "(I)V" } : Jvm.MethodName)) ∈ lw_tbl := lw_at lw_m1 71 rfl
theorem q92 : (Jvm.Cond.instanceMethod ({ cls := "LossyLink", name := "sendMore", desc := "(I)V" } : Jvm.MethodName)) ∈ lw_all := lw_g (lw_at lw_m1 72 rfl) rfl
theorem q93 : (Jvm.Cond.code ({ cls := "LossyLink", name := "sendMore", desc := "(I)V" } : Jvm.MethodName) prog_1_method_7_code (4 : Nat) (Option.none : Option Jvm.ClassFile.FieldType)) ∈ lw_all := lw_g (lw_at lw_m1 73 rfl) rfl
theorem q94 : (Jvm.Cond.methodLink "LossyLink" (65 : Nat) ({ cls := "LossyLink", name := "send", desc := "(IIII)V" } : Jvm.MethodName)) ∈ lw_all := lw_g (lw_at lw_m1 74 rfl) rfl
theorem q95 : (Jvm.Cond.privateMethod ({ cls := "LossyLink", name := "send", desc := "(IIII)V" } : Jvm.MethodName)) ∈ lw_tbl := lw_at lw_m1 75 rfl
theorem q96 : (Jvm.Cond.instanceMethod ({ cls := "LossyLink", name := "send", desc := "(IIII)V" } : Jvm.MethodName)) ∈ lw_all := lw_g (lw_at lw_m1 76 rfl) rfl
theorem q97 : (Jvm.Cond.code ({ cls := "LossyLink", name := "send", desc := "(IIII)V" } : Jvm.MethodName) prog_1_method_6_code (6 : Nat) (Option.none : Option Jvm.ClassFile.FieldType)) ∈ lw_all := lw_g (lw_at lw_m1 77 rfl) rfl
theorem q98 : (Jvm.Cond.methodLink "LossyLink" (62 : Nat) ({ cls := "LossyLink", name := "withCheck", desc := "(I)I" } : Jvm.MethodName)) ∈ lw_all := lw_g (lw_at lw_m1 78 rfl) rfl
theorem q99 : (Jvm.Cond.static ({ cls := "LossyLink", name := "withCheck", desc := "(I)I" } : Jvm.MethodName)) ∈ lw_all := lw_g (lw_at lw_m1 79 rfl) rfl
theorem q100 : (Jvm.Cond.code ({ cls := "LossyLink", name := "withCheck", desc := "(I)I" } : Jvm.MethodName) prog_1_method_4_code (2 : Nat) (Option.some Jvm.ClassFile.FieldType.int)) ∈ lw_all := lw_g (lw_at lw_m1 80 rfl) rfl
theorem q101 : (Jvm.Cond.methodLink "LossyLink" (58 : Nat) ({ cls := "LossyLink", name := "checkOf", desc := "(I)I" } : Jvm.MethodName)) ∈ lw_all := lw_g (lw_at lw_m1 81 rfl) rfl
theorem q102 : (Jvm.Cond.static ({ cls := "LossyLink", name := "checkOf", desc := "(I)I" } : Jvm.MethodName)) ∈ lw_all := lw_g (lw_at lw_m1 82 rfl) rfl
theorem q103 : (Jvm.Cond.code ({ cls := "LossyLink", name := "checkOf", desc := "(I)I" } : Jvm.MethodName) prog_1_method_3_code (3 : Nat) (Option.some Jvm.ClassFile.FieldType.int)) ∈ lw_all := lw_g (lw_at lw_m1 83 rfl) rfl
theorem q104 : (Jvm.Cond.constant "LossyLink" (57 : Nat) (131071 : Int32)) ∈ lw_all := lw_g (lw_at lw_m1 84 rfl) rfl
theorem q106 : (Jvm.Cond.instanceMethod ({ cls := "LossyLink", name := "take", desc := "(I)I" } : Jvm.MethodName)) ∈ lw_all := lw_g (lw_at lw_m1 86 rfl) rfl
theorem q107 : (Jvm.Cond.selects "LossyLink" ({ cls := "LossyLink", name := "take", desc := "(I)I" } : Jvm.MethodName) ({ cls := "LossyLink", name := "take", desc := "(I)I" } : Jvm.MethodName)) ∈ lw_all := lw_g (lw_at lw_m1 87 rfl) rfl
theorem q108 : (Jvm.Cond.code ({ cls := "LossyLink", name := "take", desc := "(I)I" } : Jvm.MethodName) prog_1_method_23_code (4 : Nat) (Option.some Jvm.ClassFile.FieldType.int)) ∈ lw_all := lw_g (lw_at lw_m1 88 rfl) rfl
theorem q109 : (Jvm.Cond.methodLink "LossyLink" (119 : Nat) ({ cls := "LossyLink", name := "waitingFor", desc := "(I)I" } : Jvm.MethodName)) ∈ lw_all := lw_g (lw_at lw_m1 89 rfl) rfl
theorem q110 : (Jvm.Cond.privateMethod ({ cls := "LossyLink", name := "waitingFor", desc := "(I)I" } : Jvm.MethodName)) ∈ lw_tbl := lw_at lw_m1 90 rfl
theorem q111 : (Jvm.Cond.instanceMethod ({ cls := "LossyLink", name := "waitingFor", desc := "(I)I" } : Jvm.MethodName)) ∈ lw_all := lw_g (lw_at lw_m1 91 rfl) rfl
theorem q112 : (Jvm.Cond.code ({ cls := "LossyLink", name := "waitingFor", desc := "(I)I" } : Jvm.MethodName) prog_1_method_21_code (2 : Nat) (Option.some Jvm.ClassFile.FieldType.int)) ∈ lw_all := lw_g (lw_at lw_m1 92 rfl) rfl
theorem q113 : (Jvm.Cond.methodLink "LossyLink" (116 : Nat) ({ cls := "LossyLink", name := "settle", desc := "()V" } : Jvm.MethodName)) ∈ lw_all := lw_g (lw_at lw_m1 93 rfl) rfl
theorem q114 : (Jvm.Cond.privateMethod ({ cls := "LossyLink", name := "settle", desc := "()V" } : Jvm.MethodName)) ∈ lw_tbl := lw_at lw_m1 94 rfl
theorem q115 : (Jvm.Cond.instanceMethod ({ cls := "LossyLink", name := "settle", desc := "()V" } : Jvm.MethodName)) ∈ lw_all := lw_g (lw_at lw_m1 95 rfl) rfl
theorem q116 : (Jvm.Cond.code ({ cls := "LossyLink", name := "settle", desc := "()V" } : Jvm.MethodName) prog_1_method_18_code (2 : Nat) (Option.none : Option Jvm.ClassFile.FieldType)) ∈ lw_all := lw_g (lw_at lw_m1 96 rfl) rfl
theorem q117 : (Jvm.Cond.methodLink "LossyLink" (103 : Nat) ({ cls := "LossyLink", name := "busy", desc := "()Z" } : Jvm.MethodName)) ∈ lw_all := lw_g (lw_at lw_m1 97 rfl) rfl
theorem q118 : (Jvm.Cond.privateMethod ({ cls := "LossyLink", name := "busy", desc := "()Z" } : Jvm.MethodName)) ∈ lw_tbl := lw_at lw_m1 98 rfl
theorem q119 : (Jvm.Cond.instanceMethod ({ cls := "LossyLink", name := "busy", desc := "()Z" } : Jvm.MethodName)) ∈ lw_all := lw_g (lw_at lw_m1 99 rfl) rfl
theorem q120 : (Jvm.Cond.code ({ cls := "LossyLink", name := "busy", desc := "()Z" } : Jvm.MethodName) prog_1_method_16_code (1 : Nat) (Option.some Jvm.ClassFile.FieldType.boolean)) ∈ lw_all := lw_g (lw_at lw_m1 100 rfl) rfl
theorem q121 : (Jvm.Cond.methodLink "LossyLink" (88 : Nat) ({ cls := "LossyLink", name := "goBack", desc := "(I)V" } : Jvm.MethodName)) ∈ lw_all := lw_g (lw_at lw_m1 101 rfl) rfl
theorem q122 : (Jvm.Cond.privateMethod ({ cls := "LossyLink", name := "goBack", desc := "(I)V" } : Jvm.MethodName)) ∈ lw_tbl := lw_at lw_m1 102 rfl
theorem q123 : (Jvm.Cond.instanceMethod ({ cls := "LossyLink", name := "goBack", desc := "(I)V" } : Jvm.MethodName)) ∈ lw_all := lw_g (lw_at lw_m1 103 rfl) rfl
theorem q124 : (Jvm.Cond.code ({ cls := "LossyLink", name := "goBack", desc := "(I)V" } : Jvm.MethodName) prog_1_method_8_code (2 : Nat) (Option.none : Option Jvm.ClassFile.FieldType)) ∈ lw_all := lw_g (lw_at lw_m1 104 rfl) rfl
theorem q125 : (Jvm.Cond.methodLink "LossyLink" (107 : Nat) ({ cls := "LossyLink", name := "emptyLine", desc := "(I)V" } : Jvm.MethodName)) ∈ lw_all := lw_g (lw_at lw_m1 105 rfl) rfl
theorem q126 : (Jvm.Cond.privateMethod ({ cls := "LossyLink", name := "emptyLine", desc := "(I)V" } : Jvm.MethodName)) ∈ lw_tbl := lw_at lw_m1 106 rfl
theorem q127 : (Jvm.Cond.instanceMethod ({ cls := "LossyLink", name := "emptyLine", desc := "(I)V" } : Jvm.MethodName)) ∈ lw_all := lw_g (lw_at lw_m1 107 rfl) rfl
theorem q128 : (Jvm.Cond.code ({ cls := "LossyLink", name := "emptyLine", desc := "(I)V" } : Jvm.MethodName) prog_1_method_17_code (3 : Nat) (Option.none : Option Jvm.ClassFile.FieldType)) ∈ lw_all := lw_g (lw_at lw_m1 108 rfl) rfl
theorem q129 : (Jvm.Cond.methodLink "LossyLink" (100 : Nat) ({ cls := "LossyLink", name := "carryOne", desc := "(I)V" } : Jvm.MethodName)) ∈ lw_all := lw_g (lw_at lw_m1 109 rfl) rfl
theorem q130 : (Jvm.Cond.privateMethod ({ cls := "LossyLink", name := "carryOne", desc := "(I)V" } : Jvm.MethodName)) ∈ lw_tbl := lw_at lw_m1 110 rfl
theorem q131 : (Jvm.Cond.instanceMethod ({ cls := "LossyLink", name := "carryOne", desc := "(I)V" } : Jvm.MethodName)) ∈ lw_all := lw_g (lw_at lw_m1 111 rfl) rfl
theorem q132 : (Jvm.Cond.code ({ cls := "LossyLink", name := "carryOne", desc := "(I)V" } : Jvm.MethodName) prog_1_method_15_code (3 : Nat) (Option.none : Option Jvm.ClassFile.FieldType)) ∈ lw_all := lw_g (lw_at lw_m1 112 rfl) rfl
theorem q133 : (Jvm.Cond.methodLink "LossyLink" (91 : Nat) ({ cls := "LossyLink", name := "takeFrame", desc := "(I)I" } : Jvm.MethodName)) ∈ lw_all := lw_g (lw_at lw_m1 113 rfl) rfl
theorem q134 : (Jvm.Cond.privateMethod ({ cls := "LossyLink", name := "takeFrame", desc := "(I)I" } : Jvm.MethodName)) ∈ lw_tbl := lw_at lw_m1 114 rfl
theorem q135 : (Jvm.Cond.instanceMethod ({ cls := "LossyLink", name := "takeFrame", desc := "(I)I" } : Jvm.MethodName)) ∈ lw_all := lw_g (lw_at lw_m1 115 rfl) rfl
theorem q136 : (Jvm.Cond.code ({ cls := "LossyLink", name := "takeFrame", desc := "(I)I" } : Jvm.MethodName) prog_1_method_13_code (4 : Nat) (Option.some Jvm.ClassFile.FieldType.int)) ∈ lw_all := lw_g (lw_at lw_m1 116 rfl) rfl
theorem q137 : (Jvm.Cond.methodLink "LossyLink" (94 : Nat) ({ cls := "LossyLink", name := "arrive", desc := "(II)V" } : Jvm.MethodName)) ∈ lw_all := lw_g (lw_at lw_m1 117 rfl) rfl
theorem q138 : (Jvm.Cond.privateMethod ({ cls := "LossyLink", name := "arrive", desc := "(II)V" } : Jvm.MethodName)) ∈ lw_tbl := lw_at lw_m1 118 rfl
theorem q139 : (Jvm.Cond.instanceMethod ({ cls := "LossyLink", name := "arrive", desc := "(II)V" } : Jvm.MethodName)) ∈ lw_all := lw_g (lw_at lw_m1 119 rfl) rfl
theorem q140 : (Jvm.Cond.code ({ cls := "LossyLink", name := "arrive", desc := "(II)V" } : Jvm.MethodName) prog_1_method_12_code (5 : Nat) (Option.none : Option Jvm.ClassFile.FieldType)) ∈ lw_all := lw_g (lw_at lw_m1 120 rfl) rfl
theorem q141 : (Jvm.Cond.methodLink "LossyLink" (77 : Nat) ({ cls := "LossyLink", name := "sound", desc := "(I)Z" } : Jvm.MethodName)) ∈ lw_all := lw_g (lw_at lw_m1 121 rfl) rfl
theorem q142 : (Jvm.Cond.static ({ cls := "LossyLink", name := "sound", desc := "(I)Z" } : Jvm.MethodName)) ∈ lw_all := lw_g (lw_at lw_m1 122 rfl) rfl
theorem q143 : (Jvm.Cond.code ({ cls := "LossyLink", name := "sound", desc := "(I)Z" } : Jvm.MethodName) prog_1_method_5_code (2 : Nat) (Option.some Jvm.ClassFile.FieldType.boolean)) ∈ lw_all := lw_g (lw_at lw_m1 123 rfl) rfl
theorem q144 : (Jvm.Cond.methodLink "LossyLink" (81 : Nat) ({ cls := "LossyLink", name := "confirm", desc := "(II)V" } : Jvm.MethodName)) ∈ lw_all := lw_g (lw_at lw_m1 124 rfl) rfl
theorem q145 : (Jvm.Cond.privateMethod ({ cls := "LossyLink", name := "confirm", desc := "(II)V" } : Jvm.MethodName)) ∈ lw_tbl := lw_at lw_m1 125 rfl
theorem q146 : (Jvm.Cond.instanceMethod ({ cls := "LossyLink", name := "confirm", desc := "(II)V" } : Jvm.MethodName)) ∈ lw_all := lw_g (lw_at lw_m1 126 rfl) rfl
theorem q147 : (Jvm.Cond.code ({ cls := "LossyLink", name := "confirm", desc := "(II)V" } : Jvm.MethodName) prog_1_method_9_code (4 : Nat) (Option.none : Option Jvm.ClassFile.FieldType)) ∈ lw_all := lw_g (lw_at lw_m1 127 rfl) rfl
theorem q148 : (Jvm.Cond.methodLink "LossyLink" (84 : Nat) ({ cls := "LossyLink", name := "receiveData", desc := "(III)V" } : Jvm.MethodName)) ∈ lw_all := lw_g (lw_at lw_m1 128 rfl) rfl
theorem q149 : (Jvm.Cond.privateMethod ({ cls := "LossyLink", name := "receiveData", desc := "(III)V" } : Jvm.MethodName)) ∈ lw_tbl := lw_at lw_m1 129 rfl
theorem q150 : (Jvm.Cond.instanceMethod ({ cls := "LossyLink", name := "receiveData", desc := "(III)V" } : Jvm.MethodName)) ∈ lw_all := lw_g (lw_at lw_m1 130 rfl) rfl
theorem q151 : (Jvm.Cond.code ({ cls := "LossyLink", name := "receiveData", desc := "(III)V" } : Jvm.MethodName) prog_1_method_11_code (5 : Nat) (Option.none : Option Jvm.ClassFile.FieldType)) ∈ lw_all := lw_g (lw_at lw_m1 131 rfl) rfl
theorem q152 : (Jvm.Cond.methodLink "LossyLink" (73 : Nat) ({ cls := "LossyLink", name := "accept", desc := "(II)V" } : Jvm.MethodName)) ∈ lw_all := lw_g (lw_at lw_m1 132 rfl) rfl
theorem q153 : (Jvm.Cond.privateMethod ({ cls := "LossyLink", name := "accept", desc := "(II)V" } : Jvm.MethodName)) ∈ lw_tbl := lw_at lw_m1 133 rfl
theorem q154 : (Jvm.Cond.instanceMethod ({ cls := "LossyLink", name := "accept", desc := "(II)V" } : Jvm.MethodName)) ∈ lw_all := lw_g (lw_at lw_m1 134 rfl) rfl
theorem q155 : (Jvm.Cond.code ({ cls := "LossyLink", name := "accept", desc := "(II)V" } : Jvm.MethodName) prog_1_method_10_code (3 : Nat) (Option.none : Option Jvm.ClassFile.FieldType)) ∈ lw_all := lw_g (lw_at lw_m1 135 rfl) rfl
theorem q156 : (Jvm.Cond.methodLink "LossyLink" (97 : Nat) ({ cls := "LossyLink", name := "payDebt", desc := "(I)V" } : Jvm.MethodName)) ∈ lw_all := lw_g (lw_at lw_m1 136 rfl) rfl
theorem q157 : (Jvm.Cond.privateMethod ({ cls := "LossyLink", name := "payDebt", desc := "(I)V" } : Jvm.MethodName)) ∈ lw_tbl := lw_at lw_m1 137 rfl
theorem q158 : (Jvm.Cond.instanceMethod ({ cls := "LossyLink", name := "payDebt", desc := "(I)V" } : Jvm.MethodName)) ∈ lw_all := lw_g (lw_at lw_m1 138 rfl) rfl
theorem q159 : (Jvm.Cond.code ({ cls := "LossyLink", name := "payDebt", desc := "(I)V" } : Jvm.MethodName) prog_1_method_14_code (2 : Nat) (Option.none : Option Jvm.ClassFile.FieldType)) ∈ lw_all := lw_g (lw_at lw_m1 139 rfl) rfl
theorem q160 : (Jvm.Cond.methodLink "LossyLink" (122 : Nat) ({ cls := "LossyLink", name := "takeOne", desc := "(I)I" } : Jvm.MethodName)) ∈ lw_all := lw_g (lw_at lw_m1 140 rfl) rfl
theorem q161 : (Jvm.Cond.privateMethod ({ cls := "LossyLink", name := "takeOne", desc := "(I)I" } : Jvm.MethodName)) ∈ lw_tbl := lw_at lw_m1 141 rfl
theorem q162 : (Jvm.Cond.instanceMethod ({ cls := "LossyLink", name := "takeOne", desc := "(I)I" } : Jvm.MethodName)) ∈ lw_all := lw_g (lw_at lw_m1 142 rfl) rfl
theorem q163 : (Jvm.Cond.code ({ cls := "LossyLink", name := "takeOne", desc := "(I)I" } : Jvm.MethodName) prog_1_method_22_code (3 : Nat) (Option.some Jvm.ClassFile.FieldType.int)) ∈ lw_all := lw_g (lw_at lw_m1 143 rfl) rfl
theorem q165 : (Jvm.Cond.instanceMethod ({ cls := "LossyLink", name := "takeMessage", desc := "(I)I" } : Jvm.MethodName)) ∈ lw_all := lw_g (lw_at lw_m1 145 rfl) rfl
theorem q166 : (Jvm.Cond.selects "LossyLink" ({ cls := "LossyLink", name := "takeMessage", desc := "(I)I" } : Jvm.MethodName) ({ cls := "LossyLink", name := "takeMessage", desc := "(I)I" } : Jvm.MethodName)) ∈ lw_all := lw_g (lw_at lw_m1 146 rfl) rfl
theorem q167 : (Jvm.Cond.code ({ cls := "LossyLink", name := "takeMessage", desc := "(I)I" } : Jvm.MethodName) prog_1_method_26_code (6 : Nat) (Option.some Jvm.ClassFile.FieldType.int)) ∈ lw_all := lw_g (lw_at lw_m1 147 rfl) rfl
theorem q168 : (Jvm.Cond.methodLink "LossyLink" (129 : Nat) ({ cls := "LossyLink", name := "marked", desc := "(I)I" } : Jvm.MethodName)) ∈ lw_all := lw_g (lw_at lw_m1 148 rfl) rfl
theorem q169 : (Jvm.Cond.privateMethod ({ cls := "LossyLink", name := "marked", desc := "(I)I" } : Jvm.MethodName)) ∈ lw_tbl := lw_at lw_m1 149 rfl
theorem q170 : (Jvm.Cond.instanceMethod ({ cls := "LossyLink", name := "marked", desc := "(I)I" } : Jvm.MethodName)) ∈ lw_all := lw_g (lw_at lw_m1 150 rfl) rfl
theorem q171 : (Jvm.Cond.code ({ cls := "LossyLink", name := "marked", desc := "(I)I" } : Jvm.MethodName) prog_1_method_25_code (4 : Nat) (Option.some Jvm.ClassFile.FieldType.int)) ∈ lw_all := lw_g (lw_at lw_m1 151 rfl) rfl
theorem q172 : (Jvm.Cond.methodLink "LossyLink" (125 : Nat) ({ cls := "LossyLink", name := "byteAt", desc := "(II)I" } : Jvm.MethodName)) ∈ lw_all := lw_g (lw_at lw_m1 152 rfl) rfl
theorem q173 : (Jvm.Cond.privateMethod ({ cls := "LossyLink", name := "byteAt", desc := "(II)I" } : Jvm.MethodName)) ∈ lw_tbl := lw_at lw_m1 153 rfl
theorem q174 : (Jvm.Cond.instanceMethod ({ cls := "LossyLink", name := "byteAt", desc := "(II)I" } : Jvm.MethodName)) ∈ lw_all := lw_g (lw_at lw_m1 154 rfl) rfl
theorem q175 : (Jvm.Cond.code ({ cls := "LossyLink", name := "byteAt", desc := "(II)I" } : Jvm.MethodName) prog_1_method_24_code (3 : Nat) (Option.some Jvm.ClassFile.FieldType.int)) ∈ lw_all := lw_g (lw_at lw_m1 155 rfl) rfl
theorem q177 : (Jvm.Cond.instanceMethod ({ cls := "LossyLink", name := "skip", desc := "(I)I" } : Jvm.MethodName)) ∈ lw_all := lw_g (lw_at lw_m1 157 rfl) rfl
theorem q178 : (Jvm.Cond.selects "LossyLink" ({ cls := "LossyLink", name := "skip", desc := "(I)I" } : Jvm.MethodName) ({ cls := "LossyLink", name := "skip", desc := "(I)I" } : Jvm.MethodName)) ∈ lw_all := lw_g (lw_at lw_m1 158 rfl) rfl
theorem q179 : (Jvm.Cond.code ({ cls := "LossyLink", name := "skip", desc := "(I)I" } : Jvm.MethodName) prog_1_method_27_code (4 : Nat) (Option.some Jvm.ClassFile.FieldType.int)) ∈ lw_all := lw_g (lw_at lw_m1 159 rfl) rfl
theorem q181 : (Jvm.Cond.instanceMethod ({ cls := "LossyLink", name := "reset", desc := "()V" } : Jvm.MethodName)) ∈ lw_all := lw_g (lw_at lw_m1 161 rfl) rfl
theorem q182 : (Jvm.Cond.selects "LossyLink" ({ cls := "LossyLink", name := "reset", desc := "()V" } : Jvm.MethodName) ({ cls := "LossyLink", name := "reset", desc := "()V" } : Jvm.MethodName)) ∈ lw_all := lw_g (lw_at lw_m1 162 rfl) rfl
theorem q183 : (Jvm.Cond.code ({ cls := "LossyLink", name := "reset", desc := "()V" } : Jvm.MethodName) prog_1_method_28_code (2 : Nat) (Option.none : Option Jvm.ClassFile.FieldType)) ∈ lw_all := lw_g (lw_at lw_m1 163 rfl) rfl
theorem q185 : (Jvm.Cond.instanceMethod ({ cls := "LossyLink", name := "carry", desc := "(III)I" } : Jvm.MethodName)) ∈ lw_all := lw_g (lw_at lw_m1 165 rfl) rfl
theorem q186 : (Jvm.Cond.selects "LossyLink" ({ cls := "LossyLink", name := "carry", desc := "(III)I" } : Jvm.MethodName) ({ cls := "LossyLink", name := "carry", desc := "(III)I" } : Jvm.MethodName)) ∈ lw_all := lw_g (lw_at lw_m1 166 rfl) rfl
theorem q187 : (Jvm.Cond.code ({ cls := "LossyLink", name := "carry", desc := "(III)I" } : Jvm.MethodName) prog_1_method_29_code (5 : Nat) (Option.some Jvm.ClassFile.FieldType.int)) ∈ lw_all := lw_g (lw_at lw_m1 167 rfl) rfl
theorem q189 : (Jvm.Cond.instanceMethod ({ cls := "LossyLink", name := "fire", desc := "(I)I" } : Jvm.MethodName)) ∈ lw_all := lw_g (lw_at lw_m1 169 rfl) rfl
theorem q190 : (Jvm.Cond.selects "LossyLink" ({ cls := "LossyLink", name := "fire", desc := "(I)I" } : Jvm.MethodName) ({ cls := "LossyLink", name := "fire", desc := "(I)I" } : Jvm.MethodName)) ∈ lw_all := lw_g (lw_at lw_m1 170 rfl) rfl
theorem q191 : (Jvm.Cond.code ({ cls := "LossyLink", name := "fire", desc := "(I)I" } : Jvm.MethodName) prog_1_method_30_code (2 : Nat) (Option.some Jvm.ClassFile.FieldType.int)) ∈ lw_all := lw_g (lw_at lw_m1 171 rfl) rfl
theorem q193 : (Jvm.Cond.instanceMethod ({ cls := "LossyLink", name := "waiting", desc := "(I)I" } : Jvm.MethodName)) ∈ lw_all := lw_g (lw_at lw_m1 173 rfl) rfl
theorem q194 : (Jvm.Cond.selects "LossyLink" ({ cls := "LossyLink", name := "waiting", desc := "(I)I" } : Jvm.MethodName) ({ cls := "LossyLink", name := "waiting", desc := "(I)I" } : Jvm.MethodName)) ∈ lw_all := lw_g (lw_at lw_m1 174 rfl) rfl
theorem q195 : (Jvm.Cond.code ({ cls := "LossyLink", name := "waiting", desc := "(I)I" } : Jvm.MethodName) prog_1_method_31_code (2 : Nat) (Option.some Jvm.ClassFile.FieldType.int)) ∈ lw_all := lw_g (lw_at lw_m1 175 rfl) rfl
theorem q197 : (Jvm.Cond.instanceMethod ({ cls := "LossyLink", name := "messages", desc := "(I)I" } : Jvm.MethodName)) ∈ lw_all := lw_g (lw_at lw_m1 177 rfl) rfl
theorem q198 : (Jvm.Cond.selects "LossyLink" ({ cls := "LossyLink", name := "messages", desc := "(I)I" } : Jvm.MethodName) ({ cls := "LossyLink", name := "messages", desc := "(I)I" } : Jvm.MethodName)) ∈ lw_all := lw_g (lw_at lw_m1 178 rfl) rfl
theorem q199 : (Jvm.Cond.code ({ cls := "LossyLink", name := "messages", desc := "(I)I" } : Jvm.MethodName) prog_1_method_32_code (2 : Nat) (Option.some Jvm.ClassFile.FieldType.int)) ∈ lw_all := lw_g (lw_at lw_m1 179 rfl) rfl
theorem q201 : (Jvm.Cond.instanceMethod ({ cls := "LossyLink", name := "peek", desc := "(II)I" } : Jvm.MethodName)) ∈ lw_all := lw_g (lw_at lw_m1 181 rfl) rfl
theorem q202 : (Jvm.Cond.selects "LossyLink" ({ cls := "LossyLink", name := "peek", desc := "(II)I" } : Jvm.MethodName) ({ cls := "LossyLink", name := "peek", desc := "(II)I" } : Jvm.MethodName)) ∈ lw_all := lw_g (lw_at lw_m1 182 rfl) rfl
theorem q203 : (Jvm.Cond.code ({ cls := "LossyLink", name := "peek", desc := "(II)I" } : Jvm.MethodName) prog_1_method_33_code (4 : Nat) (Option.some Jvm.ClassFile.FieldType.int)) ∈ lw_all := lw_g (lw_at lw_m1 183 rfl) rfl
theorem q205 : (Jvm.Cond.instanceMethod ({ cls := "LossyLink", name := "ends", desc := "(II)Z" } : Jvm.MethodName)) ∈ lw_all := lw_g (lw_at lw_m1 185 rfl) rfl
theorem q206 : (Jvm.Cond.selects "LossyLink" ({ cls := "LossyLink", name := "ends", desc := "(II)Z" } : Jvm.MethodName) ({ cls := "LossyLink", name := "ends", desc := "(II)Z" } : Jvm.MethodName)) ∈ lw_all := lw_g (lw_at lw_m1 186 rfl) rfl
theorem q207 : (Jvm.Cond.code ({ cls := "LossyLink", name := "ends", desc := "(II)Z" } : Jvm.MethodName) prog_1_method_34_code (4 : Nat) (Option.some Jvm.ClassFile.FieldType.boolean)) ∈ lw_all := lw_g (lw_at lw_m1 187 rfl) rfl
theorem q209 : (Jvm.Cond.instanceMethod ({ cls := "LossyLink", name := "done", desc := "(I)I" } : Jvm.MethodName)) ∈ lw_all := lw_g (lw_at lw_m1 189 rfl) rfl
theorem q210 : (Jvm.Cond.selects "LossyLink" ({ cls := "LossyLink", name := "done", desc := "(I)I" } : Jvm.MethodName) ({ cls := "LossyLink", name := "done", desc := "(I)I" } : Jvm.MethodName)) ∈ lw_all := lw_g (lw_at lw_m1 190 rfl) rfl
theorem q211 : (Jvm.Cond.code ({ cls := "LossyLink", name := "done", desc := "(I)I" } : Jvm.MethodName) prog_1_method_35_code (2 : Nat) (Option.some Jvm.ClassFile.FieldType.int)) ∈ lw_all := lw_g (lw_at lw_m1 191 rfl) rfl
theorem q213 : (Jvm.Cond.instanceMethod ({ cls := "LossyLink", name := "sum", desc := "(I)I" } : Jvm.MethodName)) ∈ lw_all := lw_g (lw_at lw_m1 193 rfl) rfl
theorem q214 : (Jvm.Cond.selects "LossyLink" ({ cls := "LossyLink", name := "sum", desc := "(I)I" } : Jvm.MethodName) ({ cls := "LossyLink", name := "sum", desc := "(I)I" } : Jvm.MethodName)) ∈ lw_all := lw_g (lw_at lw_m1 194 rfl) rfl
theorem q215 : (Jvm.Cond.code ({ cls := "LossyLink", name := "sum", desc := "(I)I" } : Jvm.MethodName) prog_1_method_36_code (5 : Nat) (Option.some Jvm.ClassFile.FieldType.int)) ∈ lw_all := lw_g (lw_at lw_m1 195 rfl) rfl
theorem in_X1 : ∀ w ∈ wsX10, w ∈ lw_all := lw_in wsX10 [46, 48, 50, 52, 54, 56, 58, 60, 62, 64, 66, 68, 70, 72, 74] (by decide +kernel) (by decide +kernel)
end
section
set_option maxRecDepth 100000
abbrev cX1_init : ByteArray := prog_1_method_1_code
def yX1_init : MethodName := ⟨RX1, "<init>", "(I)V"⟩
theorem dX1_init_0 : decode cX1_init 0 = .ok (.aload_n 0, 1) := by decide +kernel
theorem dX1_init_1 : decode cX1_init 1 = .ok (.invokespecial 1, 3) := by decide +kernel
theorem dX1_init_4 : decode cX1_init 4 = .ok (.aload_n 0, 1) := by decide +kernel
theorem dX1_init_5 : decode cX1_init 5 = .ok (.iconst 2, 1) := by decide +kernel
theorem dX1_init_6 : decode cX1_init 6 = .ok (.newarray .int, 2) := by decide +kernel
theorem dX1_init_8 : decode cX1_init 8 = .ok (.putfield 7, 3) := by decide +kernel
theorem dX1_init_11 : decode cX1_init 11 = .ok (.aload_n 0, 1) := by decide +kernel
theorem dX1_init_12 : decode cX1_init 12 = .ok (.iconst 2, 1) := by decide +kernel
theorem dX1_init_13 : decode cX1_init 13 = .ok (.newarray .int, 2) := by decide +kernel
theorem dX1_init_15 : decode cX1_init 15 = .ok (.putfield 13, 3) := by decide +kernel
theorem dX1_init_18 : decode cX1_init 18 = .ok (.aload_n 0, 1) := by decide +kernel
theorem dX1_init_19 : decode cX1_init 19 = .ok (.bipush 64, 2) := by decide +kernel
theorem dX1_init_21 : decode cX1_init 21 = .ok (.newarray .int, 2) := by decide +kernel
theorem dX1_init_23 : decode cX1_init 23 = .ok (.putfield 16, 3) := by decide +kernel
theorem dX1_init_26 : decode cX1_init 26 = .ok (.aload_n 0, 1) := by decide +kernel
theorem dX1_init_27 : decode cX1_init 27 = .ok (.iconst 2, 1) := by decide +kernel
theorem dX1_init_28 : decode cX1_init 28 = .ok (.newarray .int, 2) := by decide +kernel
theorem dX1_init_30 : decode cX1_init 30 = .ok (.putfield 19, 3) := by decide +kernel
theorem dX1_init_33 : decode cX1_init 33 = .ok (.aload_n 0, 1) := by decide +kernel
theorem dX1_init_34 : decode cX1_init 34 = .ok (.iconst 2, 1) := by decide +kernel
theorem dX1_init_35 : decode cX1_init 35 = .ok (.newarray .int, 2) := by decide +kernel
theorem dX1_init_37 : decode cX1_init 37 = .ok (.putfield 22, 3) := by decide +kernel
theorem dX1_init_40 : decode cX1_init 40 = .ok (.aload_n 0, 1) := by decide +kernel
theorem dX1_init_41 : decode cX1_init 41 = .ok (.iconst 2, 1) := by decide +kernel
theorem dX1_init_42 : decode cX1_init 42 = .ok (.newarray .int, 2) := by decide +kernel
theorem dX1_init_44 : decode cX1_init 44 = .ok (.putfield 25, 3) := by decide +kernel
theorem dX1_init_47 : decode cX1_init 47 = .ok (.aload_n 0, 1) := by decide +kernel
theorem dX1_init_48 : decode cX1_init 48 = .ok (.iconst 2, 1) := by decide +kernel
theorem dX1_init_49 : decode cX1_init 49 = .ok (.newarray .boolean, 2) := by decide +kernel
theorem dX1_init_51 : decode cX1_init 51 = .ok (.putfield 28, 3) := by decide +kernel
theorem dX1_init_54 : decode cX1_init 54 = .ok (.aload_n 0, 1) := by decide +kernel
theorem dX1_init_55 : decode cX1_init 55 = .ok (.iconst 2, 1) := by decide +kernel
theorem dX1_init_56 : decode cX1_init 56 = .ok (.newarray .boolean, 2) := by decide +kernel
theorem dX1_init_58 : decode cX1_init 58 = .ok (.putfield 32, 3) := by decide +kernel
theorem dX1_init_61 : decode cX1_init 61 = .ok (.aload_n 0, 1) := by decide +kernel
theorem dX1_init_62 : decode cX1_init 62 = .ok (.iconst 2, 1) := by decide +kernel
theorem dX1_init_63 : decode cX1_init 63 = .ok (.newarray .int, 2) := by decide +kernel
theorem dX1_init_65 : decode cX1_init 65 = .ok (.putfield 35, 3) := by decide +kernel
theorem dX1_init_68 : decode cX1_init 68 = .ok (.aload_n 0, 1) := by decide +kernel
theorem dX1_init_69 : decode cX1_init 69 = .ok (.iconst 2, 1) := by decide +kernel
theorem dX1_init_70 : decode cX1_init 70 = .ok (.newarray .int, 2) := by decide +kernel
theorem dX1_init_72 : decode cX1_init 72 = .ok (.putfield 38, 3) := by decide +kernel
theorem dX1_init_75 : decode cX1_init 75 = .ok (.aload_n 0, 1) := by decide +kernel
theorem dX1_init_76 : decode cX1_init 76 = .ok (.bipush 64, 2) := by decide +kernel
theorem dX1_init_78 : decode cX1_init 78 = .ok (.newarray .int, 2) := by decide +kernel
theorem dX1_init_80 : decode cX1_init 80 = .ok (.putfield 41, 3) := by decide +kernel
theorem dX1_init_83 : decode cX1_init 83 = .ok (.aload_n 0, 1) := by decide +kernel
theorem dX1_init_84 : decode cX1_init 84 = .ok (.iconst 2, 1) := by decide +kernel
theorem dX1_init_85 : decode cX1_init 85 = .ok (.newarray .int, 2) := by decide +kernel
theorem dX1_init_87 : decode cX1_init 87 = .ok (.putfield 44, 3) := by decide +kernel
theorem dX1_init_90 : decode cX1_init 90 = .ok (.aload_n 0, 1) := by decide +kernel
theorem dX1_init_91 : decode cX1_init 91 = .ok (.iconst 2, 1) := by decide +kernel
theorem dX1_init_92 : decode cX1_init 92 = .ok (.newarray .int, 2) := by decide +kernel
theorem dX1_init_94 : decode cX1_init 94 = .ok (.putfield 47, 3) := by decide +kernel
theorem dX1_init_97 : decode cX1_init 97 = .ok (.aload_n 0, 1) := by decide +kernel
theorem dX1_init_98 : decode cX1_init 98 = .ok (.bipush 32, 2) := by decide +kernel
theorem dX1_init_100 : decode cX1_init 100 = .ok (.newarray .int, 2) := by decide +kernel
theorem dX1_init_102 : decode cX1_init 102 = .ok (.putfield 50, 3) := by decide +kernel
theorem dX1_init_105 : decode cX1_init 105 = .ok (.iload_n 1, 1) := by decide +kernel
theorem dX1_init_106 : decode cX1_init 106 = .ok (.istore_n 2, 1) := by decide +kernel
theorem dX1_init_107 : decode cX1_init 107 = .ok (.iload_n 2, 1) := by decide +kernel
theorem dX1_init_108 : decode cX1_init 108 = .ok (.iconst 1, 1) := by decide +kernel
theorem dX1_init_109 : decode cX1_init 109 = .ok (.if_icmp .ge 5, 3) := by decide +kernel
theorem dX1_init_112 : decode cX1_init 112 = .ok (.iconst 1, 1) := by decide +kernel
theorem dX1_init_113 : decode cX1_init 113 = .ok (.istore_n 2, 1) := by decide +kernel
theorem dX1_init_114 : decode cX1_init 114 = .ok (.iload_n 2, 1) := by decide +kernel
theorem dX1_init_115 : decode cX1_init 115 = .ok (.iconst 4, 1) := by decide +kernel
theorem dX1_init_116 : decode cX1_init 116 = .ok (.if_icmp .le 5, 3) := by decide +kernel
theorem dX1_init_119 : decode cX1_init 119 = .ok (.iconst 4, 1) := by decide +kernel
theorem dX1_init_120 : decode cX1_init 120 = .ok (.istore_n 2, 1) := by decide +kernel
theorem dX1_init_121 : decode cX1_init 121 = .ok (.aload_n 0, 1) := by decide +kernel
theorem dX1_init_122 : decode cX1_init 122 = .ok (.iload_n 2, 1) := by decide +kernel
theorem dX1_init_123 : decode cX1_init 123 = .ok (.putfield 53, 3) := by decide +kernel
theorem dX1_init_126 : decode cX1_init 126 = .ok (.return_, 1) := by decide +kernel
abbrev cX1_give : ByteArray := prog_1_method_19_code
def yX1_give : MethodName := ⟨RX1, "give", "(IIZ)I"⟩
theorem dX1_give_0 : decode cX1_give 0 = .ok (.iload_n 1, 1) := by decide +kernel
theorem dX1_give_1 : decode cX1_give 1 = .ok (.invokestatic 110, 3) := by decide +kernel
theorem dX1_give_4 : decode cX1_give 4 = .ok (.ifCond .eq 5, 3) := by decide +kernel
theorem dX1_give_7 : decode cX1_give 7 = .ok (.iconst (-1), 1) := by decide +kernel
theorem dX1_give_8 : decode cX1_give 8 = .ok (.ireturn, 1) := by decide +kernel
theorem dX1_give_9 : decode cX1_give 9 = .ok (.iload_n 2, 1) := by decide +kernel
theorem dX1_give_10 : decode cX1_give 10 = .ok (.ifCond .lt 10, 3) := by decide +kernel
theorem dX1_give_13 : decode cX1_give 13 = .ok (.iload_n 2, 1) := by decide +kernel
theorem dX1_give_14 : decode cX1_give 14 = .ok (.sipush 255, 3) := by decide +kernel
theorem dX1_give_17 : decode cX1_give 17 = .ok (.if_icmp .le 6, 3) := by decide +kernel
theorem dX1_give_20 : decode cX1_give 20 = .ok (.bipush (-4), 2) := by decide +kernel
theorem dX1_give_22 : decode cX1_give 22 = .ok (.ireturn, 1) := by decide +kernel
theorem dX1_give_23 : decode cX1_give 23 = .ok (.aload_n 0, 1) := by decide +kernel
theorem dX1_give_24 : decode cX1_give 24 = .ok (.iload_n 1, 1) := by decide +kernel
theorem dX1_give_25 : decode cX1_give 25 = .ok (.invokevirtual 113, 3) := by decide +kernel
theorem dX1_give_28 : decode cX1_give 28 = .ok (.istore 4, 2) := by decide +kernel
theorem dX1_give_30 : decode cX1_give 30 = .ok (.iload 4, 2) := by decide +kernel
theorem dX1_give_32 : decode cX1_give 32 = .ok (.bipush 30, 2) := by decide +kernel
theorem dX1_give_34 : decode cX1_give 34 = .ok (.if_icmp .lt 6, 3) := by decide +kernel
theorem dX1_give_37 : decode cX1_give 37 = .ok (.bipush (-2), 2) := by decide +kernel
theorem dX1_give_39 : decode cX1_give 39 = .ok (.ireturn, 1) := by decide +kernel
theorem dX1_give_40 : decode cX1_give 40 = .ok (.aload_n 0, 1) := by decide +kernel
theorem dX1_give_41 : decode cX1_give 41 = .ok (.getfield 16, 3) := by decide +kernel
theorem dX1_give_44 : decode cX1_give 44 = .ok (.iload_n 1, 1) := by decide +kernel
theorem dX1_give_45 : decode cX1_give 45 = .ok (.bipush 32, 2) := by decide +kernel
theorem dX1_give_47 : decode cX1_give 47 = .ok (.imul, 1) := by decide +kernel
theorem dX1_give_48 : decode cX1_give 48 = .ok (.aload_n 0, 1) := by decide +kernel
theorem dX1_give_49 : decode cX1_give 49 = .ok (.getfield 7, 3) := by decide +kernel
theorem dX1_give_52 : decode cX1_give 52 = .ok (.iload_n 1, 1) := by decide +kernel
theorem dX1_give_53 : decode cX1_give 53 = .ok (.iaload, 1) := by decide +kernel
theorem dX1_give_54 : decode cX1_give 54 = .ok (.aload_n 0, 1) := by decide +kernel
theorem dX1_give_55 : decode cX1_give 55 = .ok (.getfield 13, 3) := by decide +kernel
theorem dX1_give_58 : decode cX1_give 58 = .ok (.iload_n 1, 1) := by decide +kernel
theorem dX1_give_59 : decode cX1_give 59 = .ok (.iaload, 1) := by decide +kernel
theorem dX1_give_60 : decode cX1_give 60 = .ok (.iadd, 1) := by decide +kernel
theorem dX1_give_61 : decode cX1_give 61 = .ok (.bipush 31, 2) := by decide +kernel
theorem dX1_give_63 : decode cX1_give 63 = .ok (.iand, 1) := by decide +kernel
theorem dX1_give_64 : decode cX1_give 64 = .ok (.iadd, 1) := by decide +kernel
theorem dX1_give_65 : decode cX1_give 65 = .ok (.iload_n 3, 1) := by decide +kernel
theorem dX1_give_66 : decode cX1_give 66 = .ok (.ifCond .eq 11, 3) := by decide +kernel
theorem dX1_give_69 : decode cX1_give 69 = .ok (.iload_n 2, 1) := by decide +kernel
theorem dX1_give_70 : decode cX1_give 70 = .ok (.sipush 256, 3) := by decide +kernel
theorem dX1_give_73 : decode cX1_give 73 = .ok (.ior, 1) := by decide +kernel
theorem dX1_give_74 : decode cX1_give 74 = .ok (.goto 4, 3) := by decide +kernel
theorem dX1_give_77 : decode cX1_give 77 = .ok (.iload_n 2, 1) := by decide +kernel
theorem dX1_give_78 : decode cX1_give 78 = .ok (.iastore, 1) := by decide +kernel
theorem dX1_give_79 : decode cX1_give 79 = .ok (.aload_n 0, 1) := by decide +kernel
theorem dX1_give_80 : decode cX1_give 80 = .ok (.getfield 13, 3) := by decide +kernel
theorem dX1_give_83 : decode cX1_give 83 = .ok (.iload_n 1, 1) := by decide +kernel
theorem dX1_give_84 : decode cX1_give 84 = .ok (.dup2, 1) := by decide +kernel
theorem dX1_give_85 : decode cX1_give 85 = .ok (.iaload, 1) := by decide +kernel
theorem dX1_give_86 : decode cX1_give 86 = .ok (.iconst 1, 1) := by decide +kernel
theorem dX1_give_87 : decode cX1_give 87 = .ok (.iadd, 1) := by decide +kernel
theorem dX1_give_88 : decode cX1_give 88 = .ok (.iastore, 1) := by decide +kernel
theorem dX1_give_89 : decode cX1_give 89 = .ok (.aload_n 0, 1) := by decide +kernel
theorem dX1_give_90 : decode cX1_give 90 = .ok (.iload_n 1, 1) := by decide +kernel
theorem dX1_give_91 : decode cX1_give 91 = .ok (.invokevirtual 69, 3) := by decide +kernel
theorem dX1_give_94 : decode cX1_give 94 = .ok (.iload 4, 2) := by decide +kernel
theorem dX1_give_96 : decode cX1_give 96 = .ok (.iconst 1, 1) := by decide +kernel
theorem dX1_give_97 : decode cX1_give 97 = .ok (.iadd, 1) := by decide +kernel
theorem dX1_give_98 : decode cX1_give 98 = .ok (.ireturn, 1) := by decide +kernel
abbrev cX1_bad : ByteArray := prog_1_method_2_code
def yX1_bad : MethodName := ⟨RX1, "bad", "(I)Z"⟩
theorem dX1_bad_0 : decode cX1_bad 0 = .ok (.iload_n 0, 1) := by decide +kernel
theorem dX1_bad_1 : decode cX1_bad 1 = .ok (.ifCond .lt 8, 3) := by decide +kernel
theorem dX1_bad_4 : decode cX1_bad 4 = .ok (.iload_n 0, 1) := by decide +kernel
theorem dX1_bad_5 : decode cX1_bad 5 = .ok (.iconst 1, 1) := by decide +kernel
theorem dX1_bad_6 : decode cX1_bad 6 = .ok (.if_icmp .le 7, 3) := by decide +kernel
theorem dX1_bad_9 : decode cX1_bad 9 = .ok (.iconst 1, 1) := by decide +kernel
theorem dX1_bad_10 : decode cX1_bad 10 = .ok (.goto 4, 3) := by decide +kernel
theorem dX1_bad_13 : decode cX1_bad 13 = .ok (.iconst 0, 1) := by decide +kernel
theorem dX1_bad_14 : decode cX1_bad 14 = .ok (.ireturn, 1) := by decide +kernel
abbrev cX1_waitingOrSent : ByteArray := prog_1_method_20_code
def yX1_waitingOrSent : MethodName := ⟨RX1, "waitingOrSent", "(I)I"⟩
theorem dX1_waitingOrSent_0 : decode cX1_waitingOrSent 0 = .ok (.iconst 1, 1) := by decide +kernel
theorem dX1_waitingOrSent_1 : decode cX1_waitingOrSent 1 = .ok (.iload_n 1, 1) := by decide +kernel
theorem dX1_waitingOrSent_2 : decode cX1_waitingOrSent 2 = .ok (.isub, 1) := by decide +kernel
theorem dX1_waitingOrSent_3 : decode cX1_waitingOrSent 3 = .ok (.istore_n 2, 1) := by decide +kernel
theorem dX1_waitingOrSent_4 : decode cX1_waitingOrSent 4 = .ok (.aload_n 0, 1) := by decide +kernel
theorem dX1_waitingOrSent_5 : decode cX1_waitingOrSent 5 = .ok (.getfield 25, 3) := by decide +kernel
theorem dX1_waitingOrSent_8 : decode cX1_waitingOrSent 8 = .ok (.iload_n 2, 1) := by decide +kernel
theorem dX1_waitingOrSent_9 : decode cX1_waitingOrSent 9 = .ok (.iaload, 1) := by decide +kernel
theorem dX1_waitingOrSent_10 : decode cX1_waitingOrSent 10 = .ok (.aload_n 0, 1) := by decide +kernel
theorem dX1_waitingOrSent_11 : decode cX1_waitingOrSent 11 = .ok (.getfield 19, 3) := by decide +kernel
theorem dX1_waitingOrSent_14 : decode cX1_waitingOrSent 14 = .ok (.iload_n 1, 1) := by decide +kernel
theorem dX1_waitingOrSent_15 : decode cX1_waitingOrSent 15 = .ok (.iaload, 1) := by decide +kernel
theorem dX1_waitingOrSent_16 : decode cX1_waitingOrSent 16 = .ok (.isub, 1) := by decide +kernel
theorem dX1_waitingOrSent_17 : decode cX1_waitingOrSent 17 = .ok (.bipush 7, 2) := by decide +kernel
theorem dX1_waitingOrSent_19 : decode cX1_waitingOrSent 19 = .ok (.iand, 1) := by decide +kernel
theorem dX1_waitingOrSent_20 : decode cX1_waitingOrSent 20 = .ok (.istore_n 3, 1) := by decide +kernel
theorem dX1_waitingOrSent_21 : decode cX1_waitingOrSent 21 = .ok (.aload_n 0, 1) := by decide +kernel
theorem dX1_waitingOrSent_22 : decode cX1_waitingOrSent 22 = .ok (.getfield 38, 3) := by decide +kernel
theorem dX1_waitingOrSent_25 : decode cX1_waitingOrSent 25 = .ok (.iload_n 2, 1) := by decide +kernel
theorem dX1_waitingOrSent_26 : decode cX1_waitingOrSent 26 = .ok (.iaload, 1) := by decide +kernel
theorem dX1_waitingOrSent_27 : decode cX1_waitingOrSent 27 = .ok (.aload_n 0, 1) := by decide +kernel
theorem dX1_waitingOrSent_28 : decode cX1_waitingOrSent 28 = .ok (.getfield 13, 3) := by decide +kernel
theorem dX1_waitingOrSent_31 : decode cX1_waitingOrSent 31 = .ok (.iload_n 1, 1) := by decide +kernel
theorem dX1_waitingOrSent_32 : decode cX1_waitingOrSent 32 = .ok (.iaload, 1) := by decide +kernel
theorem dX1_waitingOrSent_33 : decode cX1_waitingOrSent 33 = .ok (.iadd, 1) := by decide +kernel
theorem dX1_waitingOrSent_34 : decode cX1_waitingOrSent 34 = .ok (.iload_n 3, 1) := by decide +kernel
theorem dX1_waitingOrSent_35 : decode cX1_waitingOrSent 35 = .ok (.isub, 1) := by decide +kernel
theorem dX1_waitingOrSent_36 : decode cX1_waitingOrSent 36 = .ok (.ireturn, 1) := by decide +kernel
abbrev cX1_sendMore : ByteArray := prog_1_method_7_code
def yX1_sendMore : MethodName := ⟨RX1, "sendMore", "(I)V"⟩
theorem dX1_sendMore_0 : decode cX1_sendMore 0 = .ok (.aload_n 0, 1) := by decide +kernel
theorem dX1_sendMore_1 : decode cX1_sendMore 1 = .ok (.getfield 22, 3) := by decide +kernel
theorem dX1_sendMore_4 : decode cX1_sendMore 4 = .ok (.iload_n 1, 1) := by decide +kernel
theorem dX1_sendMore_5 : decode cX1_sendMore 5 = .ok (.iaload, 1) := by decide +kernel
theorem dX1_sendMore_6 : decode cX1_sendMore 6 = .ok (.aload_n 0, 1) := by decide +kernel
theorem dX1_sendMore_7 : decode cX1_sendMore 7 = .ok (.getfield 53, 3) := by decide +kernel
theorem dX1_sendMore_10 : decode cX1_sendMore 10 = .ok (.if_icmp .ge 78, 3) := by decide +kernel
theorem dX1_sendMore_13 : decode cX1_sendMore 13 = .ok (.aload_n 0, 1) := by decide +kernel
theorem dX1_sendMore_14 : decode cX1_sendMore 14 = .ok (.getfield 22, 3) := by decide +kernel
theorem dX1_sendMore_17 : decode cX1_sendMore 17 = .ok (.iload_n 1, 1) := by decide +kernel
theorem dX1_sendMore_18 : decode cX1_sendMore 18 = .ok (.iaload, 1) := by decide +kernel
theorem dX1_sendMore_19 : decode cX1_sendMore 19 = .ok (.aload_n 0, 1) := by decide +kernel
theorem dX1_sendMore_20 : decode cX1_sendMore 20 = .ok (.getfield 13, 3) := by decide +kernel
theorem dX1_sendMore_23 : decode cX1_sendMore 23 = .ok (.iload_n 1, 1) := by decide +kernel
theorem dX1_sendMore_24 : decode cX1_sendMore 24 = .ok (.iaload, 1) := by decide +kernel
theorem dX1_sendMore_25 : decode cX1_sendMore 25 = .ok (.if_icmp .ge 63, 3) := by decide +kernel
theorem dX1_sendMore_28 : decode cX1_sendMore 28 = .ok (.aload_n 0, 1) := by decide +kernel
theorem dX1_sendMore_29 : decode cX1_sendMore 29 = .ok (.getfield 22, 3) := by decide +kernel
theorem dX1_sendMore_32 : decode cX1_sendMore 32 = .ok (.iload_n 1, 1) := by decide +kernel
theorem dX1_sendMore_33 : decode cX1_sendMore 33 = .ok (.iaload, 1) := by decide +kernel
theorem dX1_sendMore_34 : decode cX1_sendMore 34 = .ok (.istore_n 2, 1) := by decide +kernel
theorem dX1_sendMore_35 : decode cX1_sendMore 35 = .ok (.aload_n 0, 1) := by decide +kernel
theorem dX1_sendMore_36 : decode cX1_sendMore 36 = .ok (.getfield 16, 3) := by decide +kernel
theorem dX1_sendMore_39 : decode cX1_sendMore 39 = .ok (.iload_n 1, 1) := by decide +kernel
theorem dX1_sendMore_40 : decode cX1_sendMore 40 = .ok (.bipush 32, 2) := by decide +kernel
theorem dX1_sendMore_42 : decode cX1_sendMore 42 = .ok (.imul, 1) := by decide +kernel
theorem dX1_sendMore_43 : decode cX1_sendMore 43 = .ok (.aload_n 0, 1) := by decide +kernel
theorem dX1_sendMore_44 : decode cX1_sendMore 44 = .ok (.getfield 7, 3) := by decide +kernel
theorem dX1_sendMore_47 : decode cX1_sendMore 47 = .ok (.iload_n 1, 1) := by decide +kernel
theorem dX1_sendMore_48 : decode cX1_sendMore 48 = .ok (.iaload, 1) := by decide +kernel
theorem dX1_sendMore_49 : decode cX1_sendMore 49 = .ok (.iload_n 2, 1) := by decide +kernel
theorem dX1_sendMore_50 : decode cX1_sendMore 50 = .ok (.iadd, 1) := by decide +kernel
theorem dX1_sendMore_51 : decode cX1_sendMore 51 = .ok (.bipush 31, 2) := by decide +kernel
theorem dX1_sendMore_53 : decode cX1_sendMore 53 = .ok (.iand, 1) := by decide +kernel
theorem dX1_sendMore_54 : decode cX1_sendMore 54 = .ok (.iadd, 1) := by decide +kernel
theorem dX1_sendMore_55 : decode cX1_sendMore 55 = .ok (.iaload, 1) := by decide +kernel
theorem dX1_sendMore_56 : decode cX1_sendMore 56 = .ok (.istore_n 3, 1) := by decide +kernel
theorem dX1_sendMore_57 : decode cX1_sendMore 57 = .ok (.aload_n 0, 1) := by decide +kernel
theorem dX1_sendMore_58 : decode cX1_sendMore 58 = .ok (.getfield 22, 3) := by decide +kernel
theorem dX1_sendMore_61 : decode cX1_sendMore 61 = .ok (.iload_n 1, 1) := by decide +kernel
theorem dX1_sendMore_62 : decode cX1_sendMore 62 = .ok (.dup2, 1) := by decide +kernel
theorem dX1_sendMore_63 : decode cX1_sendMore 63 = .ok (.iaload, 1) := by decide +kernel
theorem dX1_sendMore_64 : decode cX1_sendMore 64 = .ok (.iconst 1, 1) := by decide +kernel
theorem dX1_sendMore_65 : decode cX1_sendMore 65 = .ok (.iadd, 1) := by decide +kernel
theorem dX1_sendMore_66 : decode cX1_sendMore 66 = .ok (.iastore, 1) := by decide +kernel
theorem dX1_sendMore_67 : decode cX1_sendMore 67 = .ok (.aload_n 0, 1) := by decide +kernel
theorem dX1_sendMore_68 : decode cX1_sendMore 68 = .ok (.iload_n 1, 1) := by decide +kernel
theorem dX1_sendMore_69 : decode cX1_sendMore 69 = .ok (.iconst 0, 1) := by decide +kernel
theorem dX1_sendMore_70 : decode cX1_sendMore 70 = .ok (.aload_n 0, 1) := by decide +kernel
theorem dX1_sendMore_71 : decode cX1_sendMore 71 = .ok (.getfield 19, 3) := by decide +kernel
theorem dX1_sendMore_74 : decode cX1_sendMore 74 = .ok (.iload_n 1, 1) := by decide +kernel
theorem dX1_sendMore_75 : decode cX1_sendMore 75 = .ok (.iaload, 1) := by decide +kernel
theorem dX1_sendMore_76 : decode cX1_sendMore 76 = .ok (.iload_n 2, 1) := by decide +kernel
theorem dX1_sendMore_77 : decode cX1_sendMore 77 = .ok (.iadd, 1) := by decide +kernel
theorem dX1_sendMore_78 : decode cX1_sendMore 78 = .ok (.bipush 7, 2) := by decide +kernel
theorem dX1_sendMore_80 : decode cX1_sendMore 80 = .ok (.iand, 1) := by decide +kernel
theorem dX1_sendMore_81 : decode cX1_sendMore 81 = .ok (.iload_n 3, 1) := by decide +kernel
theorem dX1_sendMore_82 : decode cX1_sendMore 82 = .ok (.invokevirtual 65, 3) := by decide +kernel
theorem dX1_sendMore_85 : decode cX1_sendMore 85 = .ok (.goto (-85), 3) := by decide +kernel
theorem dX1_sendMore_88 : decode cX1_sendMore 88 = .ok (.return_, 1) := by decide +kernel
abbrev cX1_send : ByteArray := prog_1_method_6_code
def yX1_send : MethodName := ⟨RX1, "send", "(IIII)V"⟩
theorem dX1_send_0 : decode cX1_send 0 = .ok (.aload_n 0, 1) := by decide +kernel
theorem dX1_send_1 : decode cX1_send 1 = .ok (.getfield 32, 3) := by decide +kernel
theorem dX1_send_4 : decode cX1_send 4 = .ok (.iload_n 1, 1) := by decide +kernel
theorem dX1_send_5 : decode cX1_send 5 = .ok (.iconst 0, 1) := by decide +kernel
theorem dX1_send_6 : decode cX1_send 6 = .ok (.bastore, 1) := by decide +kernel
theorem dX1_send_7 : decode cX1_send 7 = .ok (.aload_n 0, 1) := by decide +kernel
theorem dX1_send_8 : decode cX1_send 8 = .ok (.getfield 47, 3) := by decide +kernel
theorem dX1_send_11 : decode cX1_send 11 = .ok (.iload_n 1, 1) := by decide +kernel
theorem dX1_send_12 : decode cX1_send 12 = .ok (.iaload, 1) := by decide +kernel
theorem dX1_send_13 : decode cX1_send 13 = .ok (.bipush 16, 2) := by decide +kernel
theorem dX1_send_15 : decode cX1_send 15 = .ok (.if_icmp .lt 4, 3) := by decide +kernel
theorem dX1_send_18 : decode cX1_send 18 = .ok (.return_, 1) := by decide +kernel
theorem dX1_send_19 : decode cX1_send 19 = .ok (.iload_n 2, 1) := by decide +kernel
theorem dX1_send_20 : decode cX1_send 20 = .ok (.iload_n 3, 1) := by decide +kernel
theorem dX1_send_21 : decode cX1_send 21 = .ok (.iconst 2, 1) := by decide +kernel
theorem dX1_send_22 : decode cX1_send 22 = .ok (.ishl, 1) := by decide +kernel
theorem dX1_send_23 : decode cX1_send 23 = .ok (.ior, 1) := by decide +kernel
theorem dX1_send_24 : decode cX1_send 24 = .ok (.aload_n 0, 1) := by decide +kernel
theorem dX1_send_25 : decode cX1_send 25 = .ok (.getfield 25, 3) := by decide +kernel
theorem dX1_send_28 : decode cX1_send 28 = .ok (.iload_n 1, 1) := by decide +kernel
theorem dX1_send_29 : decode cX1_send 29 = .ok (.iaload, 1) := by decide +kernel
theorem dX1_send_30 : decode cX1_send 30 = .ok (.iconst 5, 1) := by decide +kernel
theorem dX1_send_31 : decode cX1_send 31 = .ok (.ishl, 1) := by decide +kernel
theorem dX1_send_32 : decode cX1_send 32 = .ok (.ior, 1) := by decide +kernel
theorem dX1_send_33 : decode cX1_send 33 = .ok (.iload 4, 2) := by decide +kernel
theorem dX1_send_35 : decode cX1_send 35 = .ok (.bipush 8, 2) := by decide +kernel
theorem dX1_send_37 : decode cX1_send 37 = .ok (.ishl, 1) := by decide +kernel
theorem dX1_send_38 : decode cX1_send 38 = .ok (.ior, 1) := by decide +kernel
theorem dX1_send_39 : decode cX1_send 39 = .ok (.istore 5, 2) := by decide +kernel
theorem dX1_send_41 : decode cX1_send 41 = .ok (.aload_n 0, 1) := by decide +kernel
theorem dX1_send_42 : decode cX1_send 42 = .ok (.getfield 50, 3) := by decide +kernel
theorem dX1_send_45 : decode cX1_send 45 = .ok (.iload_n 1, 1) := by decide +kernel
theorem dX1_send_46 : decode cX1_send 46 = .ok (.bipush 16, 2) := by decide +kernel
theorem dX1_send_48 : decode cX1_send 48 = .ok (.imul, 1) := by decide +kernel
theorem dX1_send_49 : decode cX1_send 49 = .ok (.aload_n 0, 1) := by decide +kernel
theorem dX1_send_50 : decode cX1_send 50 = .ok (.getfield 47, 3) := by decide +kernel
theorem dX1_send_53 : decode cX1_send 53 = .ok (.iload_n 1, 1) := by decide +kernel
theorem dX1_send_54 : decode cX1_send 54 = .ok (.iaload, 1) := by decide +kernel
theorem dX1_send_55 : decode cX1_send 55 = .ok (.iadd, 1) := by decide +kernel
theorem dX1_send_56 : decode cX1_send 56 = .ok (.iload 5, 2) := by decide +kernel
theorem dX1_send_58 : decode cX1_send 58 = .ok (.invokestatic 62, 3) := by decide +kernel
theorem dX1_send_61 : decode cX1_send 61 = .ok (.iastore, 1) := by decide +kernel
theorem dX1_send_62 : decode cX1_send 62 = .ok (.aload_n 0, 1) := by decide +kernel
theorem dX1_send_63 : decode cX1_send 63 = .ok (.getfield 47, 3) := by decide +kernel
theorem dX1_send_66 : decode cX1_send 66 = .ok (.iload_n 1, 1) := by decide +kernel
theorem dX1_send_67 : decode cX1_send 67 = .ok (.dup2, 1) := by decide +kernel
theorem dX1_send_68 : decode cX1_send 68 = .ok (.iaload, 1) := by decide +kernel
theorem dX1_send_69 : decode cX1_send 69 = .ok (.iconst 1, 1) := by decide +kernel
theorem dX1_send_70 : decode cX1_send 70 = .ok (.iadd, 1) := by decide +kernel
theorem dX1_send_71 : decode cX1_send 71 = .ok (.iastore, 1) := by decide +kernel
theorem dX1_send_72 : decode cX1_send 72 = .ok (.return_, 1) := by decide +kernel
abbrev cX1_withCheck : ByteArray := prog_1_method_4_code
def yX1_withCheck : MethodName := ⟨RX1, "withCheck", "(I)I"⟩
theorem dX1_withCheck_0 : decode cX1_withCheck 0 = .ok (.iload_n 0, 1) := by decide +kernel
theorem dX1_withCheck_1 : decode cX1_withCheck 1 = .ok (.invokestatic 58, 3) := by decide +kernel
theorem dX1_withCheck_4 : decode cX1_withCheck 4 = .ok (.istore_n 1, 1) := by decide +kernel
theorem dX1_withCheck_5 : decode cX1_withCheck 5 = .ok (.iload_n 0, 1) := by decide +kernel
theorem dX1_withCheck_6 : decode cX1_withCheck 6 = .ok (.iload_n 1, 1) := by decide +kernel
theorem dX1_withCheck_7 : decode cX1_withCheck 7 = .ok (.bipush 17, 2) := by decide +kernel
theorem dX1_withCheck_9 : decode cX1_withCheck 9 = .ok (.ishl, 1) := by decide +kernel
theorem dX1_withCheck_10 : decode cX1_withCheck 10 = .ok (.ior, 1) := by decide +kernel
theorem dX1_withCheck_11 : decode cX1_withCheck 11 = .ok (.ireturn, 1) := by decide +kernel
abbrev cX1_checkOf : ByteArray := prog_1_method_3_code
def yX1_checkOf : MethodName := ⟨RX1, "checkOf", "(I)I"⟩
theorem dX1_checkOf_0 : decode cX1_checkOf 0 = .ok (.iload_n 0, 1) := by decide +kernel
theorem dX1_checkOf_1 : decode cX1_checkOf 1 = .ok (.ldc 57, 2) := by decide +kernel
theorem dX1_checkOf_3 : decode cX1_checkOf 3 = .ok (.iand, 1) := by decide +kernel
theorem dX1_checkOf_4 : decode cX1_checkOf 4 = .ok (.bipush 8, 2) := by decide +kernel
theorem dX1_checkOf_6 : decode cX1_checkOf 6 = .ok (.ishl, 1) := by decide +kernel
theorem dX1_checkOf_7 : decode cX1_checkOf 7 = .ok (.istore_n 1, 1) := by decide +kernel
theorem dX1_checkOf_8 : decode cX1_checkOf 8 = .ok (.bipush 24, 2) := by decide +kernel
theorem dX1_checkOf_10 : decode cX1_checkOf 10 = .ok (.istore_n 2, 1) := by decide +kernel
theorem dX1_checkOf_11 : decode cX1_checkOf 11 = .ok (.iload_n 2, 1) := by decide +kernel
theorem dX1_checkOf_12 : decode cX1_checkOf 12 = .ok (.bipush 8, 2) := by decide +kernel
theorem dX1_checkOf_14 : decode cX1_checkOf 14 = .ok (.if_icmp .lt 29, 3) := by decide +kernel
theorem dX1_checkOf_17 : decode cX1_checkOf 17 = .ok (.iload_n 1, 1) := by decide +kernel
theorem dX1_checkOf_18 : decode cX1_checkOf 18 = .ok (.iload_n 2, 1) := by decide +kernel
theorem dX1_checkOf_19 : decode cX1_checkOf 19 = .ok (.ishr, 1) := by decide +kernel
theorem dX1_checkOf_20 : decode cX1_checkOf 20 = .ok (.iconst 1, 1) := by decide +kernel
theorem dX1_checkOf_21 : decode cX1_checkOf 21 = .ok (.iand, 1) := by decide +kernel
theorem dX1_checkOf_22 : decode cX1_checkOf 22 = .ok (.iconst 1, 1) := by decide +kernel
theorem dX1_checkOf_23 : decode cX1_checkOf 23 = .ok (.if_icmp .ne 14, 3) := by decide +kernel
theorem dX1_checkOf_26 : decode cX1_checkOf 26 = .ok (.iload_n 1, 1) := by decide +kernel
theorem dX1_checkOf_27 : decode cX1_checkOf 27 = .ok (.sipush 263, 3) := by decide +kernel
theorem dX1_checkOf_30 : decode cX1_checkOf 30 = .ok (.iload_n 2, 1) := by decide +kernel
theorem dX1_checkOf_31 : decode cX1_checkOf 31 = .ok (.bipush 8, 2) := by decide +kernel
theorem dX1_checkOf_33 : decode cX1_checkOf 33 = .ok (.isub, 1) := by decide +kernel
theorem dX1_checkOf_34 : decode cX1_checkOf 34 = .ok (.ishl, 1) := by decide +kernel
theorem dX1_checkOf_35 : decode cX1_checkOf 35 = .ok (.ixor, 1) := by decide +kernel
theorem dX1_checkOf_36 : decode cX1_checkOf 36 = .ok (.istore_n 1, 1) := by decide +kernel
theorem dX1_checkOf_37 : decode cX1_checkOf 37 = .ok (.iinc 2 (-1), 3) := by decide +kernel
theorem dX1_checkOf_40 : decode cX1_checkOf 40 = .ok (.goto (-29), 3) := by decide +kernel
theorem dX1_checkOf_43 : decode cX1_checkOf 43 = .ok (.iload_n 1, 1) := by decide +kernel
theorem dX1_checkOf_44 : decode cX1_checkOf 44 = .ok (.sipush 255, 3) := by decide +kernel
theorem dX1_checkOf_47 : decode cX1_checkOf 47 = .ok (.iand, 1) := by decide +kernel
theorem dX1_checkOf_48 : decode cX1_checkOf 48 = .ok (.ireturn, 1) := by decide +kernel
abbrev cX1_take : ByteArray := prog_1_method_23_code
def yX1_take : MethodName := ⟨RX1, "take", "(I)I"⟩
theorem dX1_take_0 : decode cX1_take 0 = .ok (.iload_n 1, 1) := by decide +kernel
theorem dX1_take_1 : decode cX1_take 1 = .ok (.invokestatic 110, 3) := by decide +kernel
theorem dX1_take_4 : decode cX1_take 4 = .ok (.ifCond .eq 5, 3) := by decide +kernel
theorem dX1_take_7 : decode cX1_take 7 = .ok (.iconst (-1), 1) := by decide +kernel
theorem dX1_take_8 : decode cX1_take 8 = .ok (.ireturn, 1) := by decide +kernel
theorem dX1_take_9 : decode cX1_take 9 = .ok (.aload_n 0, 1) := by decide +kernel
theorem dX1_take_10 : decode cX1_take 10 = .ok (.iload_n 1, 1) := by decide +kernel
theorem dX1_take_11 : decode cX1_take 11 = .ok (.invokevirtual 119, 3) := by decide +kernel
theorem dX1_take_14 : decode cX1_take 14 = .ok (.istore_n 2, 1) := by decide +kernel
theorem dX1_take_15 : decode cX1_take 15 = .ok (.iload_n 2, 1) := by decide +kernel
theorem dX1_take_16 : decode cX1_take 16 = .ok (.ifCond .ne 6, 3) := by decide +kernel
theorem dX1_take_19 : decode cX1_take 19 = .ok (.bipush (-3), 2) := by decide +kernel
theorem dX1_take_21 : decode cX1_take 21 = .ok (.ireturn, 1) := by decide +kernel
theorem dX1_take_22 : decode cX1_take 22 = .ok (.aload_n 0, 1) := by decide +kernel
theorem dX1_take_23 : decode cX1_take 23 = .ok (.iload_n 1, 1) := by decide +kernel
theorem dX1_take_24 : decode cX1_take 24 = .ok (.invokevirtual 122, 3) := by decide +kernel
theorem dX1_take_27 : decode cX1_take 27 = .ok (.istore_n 3, 1) := by decide +kernel
theorem dX1_take_28 : decode cX1_take 28 = .ok (.iload_n 3, 1) := by decide +kernel
theorem dX1_take_29 : decode cX1_take 29 = .ok (.sipush 255, 3) := by decide +kernel
theorem dX1_take_32 : decode cX1_take 32 = .ok (.iand, 1) := by decide +kernel
theorem dX1_take_33 : decode cX1_take 33 = .ok (.ireturn, 1) := by decide +kernel
abbrev cX1_waitingFor : ByteArray := prog_1_method_21_code
def yX1_waitingFor : MethodName := ⟨RX1, "waitingFor", "(I)I"⟩
theorem dX1_waitingFor_0 : decode cX1_waitingFor 0 = .ok (.aload_n 0, 1) := by decide +kernel
theorem dX1_waitingFor_1 : decode cX1_waitingFor 1 = .ok (.invokevirtual 116, 3) := by decide +kernel
theorem dX1_waitingFor_4 : decode cX1_waitingFor 4 = .ok (.aload_n 0, 1) := by decide +kernel
theorem dX1_waitingFor_5 : decode cX1_waitingFor 5 = .ok (.getfield 38, 3) := by decide +kernel
theorem dX1_waitingFor_8 : decode cX1_waitingFor 8 = .ok (.iload_n 1, 1) := by decide +kernel
theorem dX1_waitingFor_9 : decode cX1_waitingFor 9 = .ok (.iaload, 1) := by decide +kernel
theorem dX1_waitingFor_10 : decode cX1_waitingFor 10 = .ok (.ireturn, 1) := by decide +kernel
abbrev cX1_settle : ByteArray := prog_1_method_18_code
def yX1_settle : MethodName := ⟨RX1, "settle", "()V"⟩
theorem dX1_settle_0 : decode cX1_settle 0 = .ok (.iconst 0, 1) := by decide +kernel
theorem dX1_settle_1 : decode cX1_settle 1 = .ok (.istore_n 1, 1) := by decide +kernel
theorem dX1_settle_2 : decode cX1_settle 2 = .ok (.iload_n 1, 1) := by decide +kernel
theorem dX1_settle_3 : decode cX1_settle 3 = .ok (.sipush 200, 3) := by decide +kernel
theorem dX1_settle_6 : decode cX1_settle 6 = .ok (.if_icmp .ge 36, 3) := by decide +kernel
theorem dX1_settle_9 : decode cX1_settle 9 = .ok (.aload_n 0, 1) := by decide +kernel
theorem dX1_settle_10 : decode cX1_settle 10 = .ok (.invokevirtual 103, 3) := by decide +kernel
theorem dX1_settle_13 : decode cX1_settle 13 = .ok (.ifCond .eq 29, 3) := by decide +kernel
theorem dX1_settle_16 : decode cX1_settle 16 = .ok (.aload_n 0, 1) := by decide +kernel
theorem dX1_settle_17 : decode cX1_settle 17 = .ok (.iconst 0, 1) := by decide +kernel
theorem dX1_settle_18 : decode cX1_settle 18 = .ok (.invokevirtual 88, 3) := by decide +kernel
theorem dX1_settle_21 : decode cX1_settle 21 = .ok (.aload_n 0, 1) := by decide +kernel
theorem dX1_settle_22 : decode cX1_settle 22 = .ok (.iconst 0, 1) := by decide +kernel
theorem dX1_settle_23 : decode cX1_settle 23 = .ok (.invokevirtual 107, 3) := by decide +kernel
theorem dX1_settle_26 : decode cX1_settle 26 = .ok (.aload_n 0, 1) := by decide +kernel
theorem dX1_settle_27 : decode cX1_settle 27 = .ok (.iconst 1, 1) := by decide +kernel
theorem dX1_settle_28 : decode cX1_settle 28 = .ok (.invokevirtual 88, 3) := by decide +kernel
theorem dX1_settle_31 : decode cX1_settle 31 = .ok (.aload_n 0, 1) := by decide +kernel
theorem dX1_settle_32 : decode cX1_settle 32 = .ok (.iconst 1, 1) := by decide +kernel
theorem dX1_settle_33 : decode cX1_settle 33 = .ok (.invokevirtual 107, 3) := by decide +kernel
theorem dX1_settle_36 : decode cX1_settle 36 = .ok (.iinc 1 1, 3) := by decide +kernel
theorem dX1_settle_39 : decode cX1_settle 39 = .ok (.goto (-37), 3) := by decide +kernel
theorem dX1_settle_42 : decode cX1_settle 42 = .ok (.return_, 1) := by decide +kernel
end
section
set_option maxRecDepth 100000
abbrev cX1_busy : ByteArray := prog_1_method_16_code
def yX1_busy : MethodName := ⟨RX1, "busy", "()Z"⟩
theorem dX1_busy_0 : decode cX1_busy 0 = .ok (.aload_n 0, 1) := by decide +kernel
theorem dX1_busy_1 : decode cX1_busy 1 = .ok (.getfield 13, 3) := by decide +kernel
theorem dX1_busy_4 : decode cX1_busy 4 = .ok (.iconst 0, 1) := by decide +kernel
theorem dX1_busy_5 : decode cX1_busy 5 = .ok (.iaload, 1) := by decide +kernel
theorem dX1_busy_6 : decode cX1_busy 6 = .ok (.aload_n 0, 1) := by decide +kernel
theorem dX1_busy_7 : decode cX1_busy 7 = .ok (.getfield 13, 3) := by decide +kernel
theorem dX1_busy_10 : decode cX1_busy 10 = .ok (.iconst 1, 1) := by decide +kernel
theorem dX1_busy_11 : decode cX1_busy 11 = .ok (.iaload, 1) := by decide +kernel
theorem dX1_busy_12 : decode cX1_busy 12 = .ok (.iadd, 1) := by decide +kernel
theorem dX1_busy_13 : decode cX1_busy 13 = .ok (.ifCond .le 7, 3) := by decide +kernel
theorem dX1_busy_16 : decode cX1_busy 16 = .ok (.iconst 1, 1) := by decide +kernel
theorem dX1_busy_17 : decode cX1_busy 17 = .ok (.goto 4, 3) := by decide +kernel
theorem dX1_busy_20 : decode cX1_busy 20 = .ok (.iconst 0, 1) := by decide +kernel
theorem dX1_busy_21 : decode cX1_busy 21 = .ok (.ireturn, 1) := by decide +kernel
abbrev cX1_goBack : ByteArray := prog_1_method_8_code
def yX1_goBack : MethodName := ⟨RX1, "goBack", "(I)V"⟩
theorem dX1_goBack_0 : decode cX1_goBack 0 = .ok (.aload_n 0, 1) := by decide +kernel
theorem dX1_goBack_1 : decode cX1_goBack 1 = .ok (.getfield 22, 3) := by decide +kernel
theorem dX1_goBack_4 : decode cX1_goBack 4 = .ok (.iload_n 1, 1) := by decide +kernel
theorem dX1_goBack_5 : decode cX1_goBack 5 = .ok (.iconst 0, 1) := by decide +kernel
theorem dX1_goBack_6 : decode cX1_goBack 6 = .ok (.iastore, 1) := by decide +kernel
theorem dX1_goBack_7 : decode cX1_goBack 7 = .ok (.aload_n 0, 1) := by decide +kernel
theorem dX1_goBack_8 : decode cX1_goBack 8 = .ok (.iload_n 1, 1) := by decide +kernel
theorem dX1_goBack_9 : decode cX1_goBack 9 = .ok (.invokevirtual 69, 3) := by decide +kernel
theorem dX1_goBack_12 : decode cX1_goBack 12 = .ok (.return_, 1) := by decide +kernel
abbrev cX1_emptyLine : ByteArray := prog_1_method_17_code
def yX1_emptyLine : MethodName := ⟨RX1, "emptyLine", "(I)V"⟩
theorem dX1_emptyLine_0 : decode cX1_emptyLine 0 = .ok (.iconst 0, 1) := by decide +kernel
theorem dX1_emptyLine_1 : decode cX1_emptyLine 1 = .ok (.istore_n 2, 1) := by decide +kernel
theorem dX1_emptyLine_2 : decode cX1_emptyLine 2 = .ok (.iload_n 2, 1) := by decide +kernel
theorem dX1_emptyLine_3 : decode cX1_emptyLine 3 = .ok (.bipush 16, 2) := by decide +kernel
theorem dX1_emptyLine_5 : decode cX1_emptyLine 5 = .ok (.if_icmp .ge 23, 3) := by decide +kernel
theorem dX1_emptyLine_8 : decode cX1_emptyLine 8 = .ok (.aload_n 0, 1) := by decide +kernel
theorem dX1_emptyLine_9 : decode cX1_emptyLine 9 = .ok (.getfield 47, 3) := by decide +kernel
theorem dX1_emptyLine_12 : decode cX1_emptyLine 12 = .ok (.iload_n 1, 1) := by decide +kernel
theorem dX1_emptyLine_13 : decode cX1_emptyLine 13 = .ok (.iaload, 1) := by decide +kernel
theorem dX1_emptyLine_14 : decode cX1_emptyLine 14 = .ok (.ifCond .le 14, 3) := by decide +kernel
theorem dX1_emptyLine_17 : decode cX1_emptyLine 17 = .ok (.aload_n 0, 1) := by decide +kernel
theorem dX1_emptyLine_18 : decode cX1_emptyLine 18 = .ok (.iload_n 1, 1) := by decide +kernel
theorem dX1_emptyLine_19 : decode cX1_emptyLine 19 = .ok (.invokevirtual 100, 3) := by decide +kernel
theorem dX1_emptyLine_22 : decode cX1_emptyLine 22 = .ok (.iinc 2 1, 3) := by decide +kernel
theorem dX1_emptyLine_25 : decode cX1_emptyLine 25 = .ok (.goto (-23), 3) := by decide +kernel
theorem dX1_emptyLine_28 : decode cX1_emptyLine 28 = .ok (.return_, 1) := by decide +kernel
abbrev cX1_carryOne : ByteArray := prog_1_method_15_code
def yX1_carryOne : MethodName := ⟨RX1, "carryOne", "(I)V"⟩
theorem dX1_carryOne_0 : decode cX1_carryOne 0 = .ok (.aload_n 0, 1) := by decide +kernel
theorem dX1_carryOne_1 : decode cX1_carryOne 1 = .ok (.iload_n 1, 1) := by decide +kernel
theorem dX1_carryOne_2 : decode cX1_carryOne 2 = .ok (.invokevirtual 91, 3) := by decide +kernel
theorem dX1_carryOne_5 : decode cX1_carryOne 5 = .ok (.istore_n 2, 1) := by decide +kernel
theorem dX1_carryOne_6 : decode cX1_carryOne 6 = .ok (.aload_n 0, 1) := by decide +kernel
theorem dX1_carryOne_7 : decode cX1_carryOne 7 = .ok (.iconst 1, 1) := by decide +kernel
theorem dX1_carryOne_8 : decode cX1_carryOne 8 = .ok (.iload_n 1, 1) := by decide +kernel
theorem dX1_carryOne_9 : decode cX1_carryOne 9 = .ok (.isub, 1) := by decide +kernel
theorem dX1_carryOne_10 : decode cX1_carryOne 10 = .ok (.iload_n 2, 1) := by decide +kernel
theorem dX1_carryOne_11 : decode cX1_carryOne 11 = .ok (.invokevirtual 94, 3) := by decide +kernel
theorem dX1_carryOne_14 : decode cX1_carryOne 14 = .ok (.aload_n 0, 1) := by decide +kernel
theorem dX1_carryOne_15 : decode cX1_carryOne 15 = .ok (.iconst 1, 1) := by decide +kernel
theorem dX1_carryOne_16 : decode cX1_carryOne 16 = .ok (.iload_n 1, 1) := by decide +kernel
theorem dX1_carryOne_17 : decode cX1_carryOne 17 = .ok (.isub, 1) := by decide +kernel
theorem dX1_carryOne_18 : decode cX1_carryOne 18 = .ok (.invokevirtual 97, 3) := by decide +kernel
theorem dX1_carryOne_21 : decode cX1_carryOne 21 = .ok (.return_, 1) := by decide +kernel
abbrev cX1_takeFrame : ByteArray := prog_1_method_13_code
def yX1_takeFrame : MethodName := ⟨RX1, "takeFrame", "(I)I"⟩
theorem dX1_takeFrame_0 : decode cX1_takeFrame 0 = .ok (.aload_n 0, 1) := by decide +kernel
theorem dX1_takeFrame_1 : decode cX1_takeFrame 1 = .ok (.getfield 50, 3) := by decide +kernel
theorem dX1_takeFrame_4 : decode cX1_takeFrame 4 = .ok (.iload_n 1, 1) := by decide +kernel
theorem dX1_takeFrame_5 : decode cX1_takeFrame 5 = .ok (.bipush 16, 2) := by decide +kernel
theorem dX1_takeFrame_7 : decode cX1_takeFrame 7 = .ok (.imul, 1) := by decide +kernel
theorem dX1_takeFrame_8 : decode cX1_takeFrame 8 = .ok (.iaload, 1) := by decide +kernel
theorem dX1_takeFrame_9 : decode cX1_takeFrame 9 = .ok (.istore_n 2, 1) := by decide +kernel
theorem dX1_takeFrame_10 : decode cX1_takeFrame 10 = .ok (.aload_n 0, 1) := by decide +kernel
theorem dX1_takeFrame_11 : decode cX1_takeFrame 11 = .ok (.getfield 47, 3) := by decide +kernel
theorem dX1_takeFrame_14 : decode cX1_takeFrame 14 = .ok (.iload_n 1, 1) := by decide +kernel
theorem dX1_takeFrame_15 : decode cX1_takeFrame 15 = .ok (.dup2, 1) := by decide +kernel
theorem dX1_takeFrame_16 : decode cX1_takeFrame 16 = .ok (.iaload, 1) := by decide +kernel
theorem dX1_takeFrame_17 : decode cX1_takeFrame 17 = .ok (.iconst 1, 1) := by decide +kernel
theorem dX1_takeFrame_18 : decode cX1_takeFrame 18 = .ok (.isub, 1) := by decide +kernel
theorem dX1_takeFrame_19 : decode cX1_takeFrame 19 = .ok (.iastore, 1) := by decide +kernel
theorem dX1_takeFrame_20 : decode cX1_takeFrame 20 = .ok (.iconst 0, 1) := by decide +kernel
theorem dX1_takeFrame_21 : decode cX1_takeFrame 21 = .ok (.istore_n 3, 1) := by decide +kernel
theorem dX1_takeFrame_22 : decode cX1_takeFrame 22 = .ok (.iload_n 3, 1) := by decide +kernel
theorem dX1_takeFrame_23 : decode cX1_takeFrame 23 = .ok (.aload_n 0, 1) := by decide +kernel
theorem dX1_takeFrame_24 : decode cX1_takeFrame 24 = .ok (.getfield 47, 3) := by decide +kernel
theorem dX1_takeFrame_27 : decode cX1_takeFrame 27 = .ok (.iload_n 1, 1) := by decide +kernel
theorem dX1_takeFrame_28 : decode cX1_takeFrame 28 = .ok (.iaload, 1) := by decide +kernel
theorem dX1_takeFrame_29 : decode cX1_takeFrame 29 = .ok (.if_icmp .ge 33, 3) := by decide +kernel
theorem dX1_takeFrame_32 : decode cX1_takeFrame 32 = .ok (.aload_n 0, 1) := by decide +kernel
theorem dX1_takeFrame_33 : decode cX1_takeFrame 33 = .ok (.getfield 50, 3) := by decide +kernel
theorem dX1_takeFrame_36 : decode cX1_takeFrame 36 = .ok (.iload_n 1, 1) := by decide +kernel
theorem dX1_takeFrame_37 : decode cX1_takeFrame 37 = .ok (.bipush 16, 2) := by decide +kernel
theorem dX1_takeFrame_39 : decode cX1_takeFrame 39 = .ok (.imul, 1) := by decide +kernel
theorem dX1_takeFrame_40 : decode cX1_takeFrame 40 = .ok (.iload_n 3, 1) := by decide +kernel
theorem dX1_takeFrame_41 : decode cX1_takeFrame 41 = .ok (.iadd, 1) := by decide +kernel
theorem dX1_takeFrame_42 : decode cX1_takeFrame 42 = .ok (.aload_n 0, 1) := by decide +kernel
theorem dX1_takeFrame_43 : decode cX1_takeFrame 43 = .ok (.getfield 50, 3) := by decide +kernel
theorem dX1_takeFrame_46 : decode cX1_takeFrame 46 = .ok (.iload_n 1, 1) := by decide +kernel
theorem dX1_takeFrame_47 : decode cX1_takeFrame 47 = .ok (.bipush 16, 2) := by decide +kernel
theorem dX1_takeFrame_49 : decode cX1_takeFrame 49 = .ok (.imul, 1) := by decide +kernel
theorem dX1_takeFrame_50 : decode cX1_takeFrame 50 = .ok (.iload_n 3, 1) := by decide +kernel
theorem dX1_takeFrame_51 : decode cX1_takeFrame 51 = .ok (.iadd, 1) := by decide +kernel
theorem dX1_takeFrame_52 : decode cX1_takeFrame 52 = .ok (.iconst 1, 1) := by decide +kernel
theorem dX1_takeFrame_53 : decode cX1_takeFrame 53 = .ok (.iadd, 1) := by decide +kernel
theorem dX1_takeFrame_54 : decode cX1_takeFrame 54 = .ok (.iaload, 1) := by decide +kernel
theorem dX1_takeFrame_55 : decode cX1_takeFrame 55 = .ok (.iastore, 1) := by decide +kernel
theorem dX1_takeFrame_56 : decode cX1_takeFrame 56 = .ok (.iinc 3 1, 3) := by decide +kernel
theorem dX1_takeFrame_59 : decode cX1_takeFrame 59 = .ok (.goto (-37), 3) := by decide +kernel
theorem dX1_takeFrame_62 : decode cX1_takeFrame 62 = .ok (.iload_n 2, 1) := by decide +kernel
theorem dX1_takeFrame_63 : decode cX1_takeFrame 63 = .ok (.ireturn, 1) := by decide +kernel
abbrev cX1_arrive : ByteArray := prog_1_method_12_code
def yX1_arrive : MethodName := ⟨RX1, "arrive", "(II)V"⟩
theorem dX1_arrive_0 : decode cX1_arrive 0 = .ok (.iload_n 2, 1) := by decide +kernel
theorem dX1_arrive_1 : decode cX1_arrive 1 = .ok (.invokestatic 77, 3) := by decide +kernel
theorem dX1_arrive_4 : decode cX1_arrive 4 = .ok (.istore_n 3, 1) := by decide +kernel
theorem dX1_arrive_5 : decode cX1_arrive 5 = .ok (.iload_n 3, 1) := by decide +kernel
theorem dX1_arrive_6 : decode cX1_arrive 6 = .ok (.ifCond .ne 4, 3) := by decide +kernel
theorem dX1_arrive_9 : decode cX1_arrive 9 = .ok (.return_, 1) := by decide +kernel
theorem dX1_arrive_10 : decode cX1_arrive 10 = .ok (.iload_n 2, 1) := by decide +kernel
theorem dX1_arrive_11 : decode cX1_arrive 11 = .ok (.iconst 3, 1) := by decide +kernel
theorem dX1_arrive_12 : decode cX1_arrive 12 = .ok (.iand, 1) := by decide +kernel
theorem dX1_arrive_13 : decode cX1_arrive 13 = .ok (.istore 4, 2) := by decide +kernel
theorem dX1_arrive_15 : decode cX1_arrive 15 = .ok (.aload_n 0, 1) := by decide +kernel
theorem dX1_arrive_16 : decode cX1_arrive 16 = .ok (.iload_n 1, 1) := by decide +kernel
theorem dX1_arrive_17 : decode cX1_arrive 17 = .ok (.iload_n 2, 1) := by decide +kernel
theorem dX1_arrive_18 : decode cX1_arrive 18 = .ok (.iconst 5, 1) := by decide +kernel
theorem dX1_arrive_19 : decode cX1_arrive 19 = .ok (.ishr, 1) := by decide +kernel
theorem dX1_arrive_20 : decode cX1_arrive 20 = .ok (.bipush 7, 2) := by decide +kernel
theorem dX1_arrive_22 : decode cX1_arrive 22 = .ok (.iand, 1) := by decide +kernel
theorem dX1_arrive_23 : decode cX1_arrive 23 = .ok (.invokevirtual 81, 3) := by decide +kernel
theorem dX1_arrive_26 : decode cX1_arrive 26 = .ok (.iload 4, 2) := by decide +kernel
theorem dX1_arrive_28 : decode cX1_arrive 28 = .ok (.ifCond .ne 22, 3) := by decide +kernel
theorem dX1_arrive_31 : decode cX1_arrive 31 = .ok (.aload_n 0, 1) := by decide +kernel
theorem dX1_arrive_32 : decode cX1_arrive 32 = .ok (.iload_n 1, 1) := by decide +kernel
theorem dX1_arrive_33 : decode cX1_arrive 33 = .ok (.iload_n 2, 1) := by decide +kernel
theorem dX1_arrive_34 : decode cX1_arrive 34 = .ok (.iconst 2, 1) := by decide +kernel
theorem dX1_arrive_35 : decode cX1_arrive 35 = .ok (.ishr, 1) := by decide +kernel
theorem dX1_arrive_36 : decode cX1_arrive 36 = .ok (.bipush 7, 2) := by decide +kernel
theorem dX1_arrive_38 : decode cX1_arrive 38 = .ok (.iand, 1) := by decide +kernel
theorem dX1_arrive_39 : decode cX1_arrive 39 = .ok (.iload_n 2, 1) := by decide +kernel
theorem dX1_arrive_40 : decode cX1_arrive 40 = .ok (.bipush 8, 2) := by decide +kernel
theorem dX1_arrive_42 : decode cX1_arrive 42 = .ok (.ishr, 1) := by decide +kernel
theorem dX1_arrive_43 : decode cX1_arrive 43 = .ok (.sipush 511, 3) := by decide +kernel
theorem dX1_arrive_46 : decode cX1_arrive 46 = .ok (.iand, 1) := by decide +kernel
theorem dX1_arrive_47 : decode cX1_arrive 47 = .ok (.invokevirtual 84, 3) := by decide +kernel
theorem dX1_arrive_50 : decode cX1_arrive 50 = .ok (.iload 4, 2) := by decide +kernel
theorem dX1_arrive_52 : decode cX1_arrive 52 = .ok (.iconst 2, 1) := by decide +kernel
theorem dX1_arrive_53 : decode cX1_arrive 53 = .ok (.if_icmp .ne 11, 3) := by decide +kernel
theorem dX1_arrive_56 : decode cX1_arrive 56 = .ok (.aload_n 0, 1) := by decide +kernel
theorem dX1_arrive_57 : decode cX1_arrive 57 = .ok (.iload_n 1, 1) := by decide +kernel
theorem dX1_arrive_58 : decode cX1_arrive 58 = .ok (.invokevirtual 88, 3) := by decide +kernel
theorem dX1_arrive_61 : decode cX1_arrive 61 = .ok (.goto 8, 3) := by decide +kernel
theorem dX1_arrive_64 : decode cX1_arrive 64 = .ok (.aload_n 0, 1) := by decide +kernel
theorem dX1_arrive_65 : decode cX1_arrive 65 = .ok (.iload_n 1, 1) := by decide +kernel
theorem dX1_arrive_66 : decode cX1_arrive 66 = .ok (.invokevirtual 69, 3) := by decide +kernel
theorem dX1_arrive_69 : decode cX1_arrive 69 = .ok (.return_, 1) := by decide +kernel
abbrev cX1_sound : ByteArray := prog_1_method_5_code
def yX1_sound : MethodName := ⟨RX1, "sound", "(I)Z"⟩
theorem dX1_sound_0 : decode cX1_sound 0 = .ok (.iload_n 0, 1) := by decide +kernel
theorem dX1_sound_1 : decode cX1_sound 1 = .ok (.invokestatic 58, 3) := by decide +kernel
theorem dX1_sound_4 : decode cX1_sound 4 = .ok (.istore_n 1, 1) := by decide +kernel
theorem dX1_sound_5 : decode cX1_sound 5 = .ok (.iload_n 1, 1) := by decide +kernel
theorem dX1_sound_6 : decode cX1_sound 6 = .ok (.iload_n 0, 1) := by decide +kernel
theorem dX1_sound_7 : decode cX1_sound 7 = .ok (.bipush 17, 2) := by decide +kernel
theorem dX1_sound_9 : decode cX1_sound 9 = .ok (.ishr, 1) := by decide +kernel
theorem dX1_sound_10 : decode cX1_sound 10 = .ok (.sipush 255, 3) := by decide +kernel
theorem dX1_sound_13 : decode cX1_sound 13 = .ok (.iand, 1) := by decide +kernel
theorem dX1_sound_14 : decode cX1_sound 14 = .ok (.if_icmp .ne 7, 3) := by decide +kernel
theorem dX1_sound_17 : decode cX1_sound 17 = .ok (.iconst 1, 1) := by decide +kernel
theorem dX1_sound_18 : decode cX1_sound 18 = .ok (.goto 4, 3) := by decide +kernel
theorem dX1_sound_21 : decode cX1_sound 21 = .ok (.iconst 0, 1) := by decide +kernel
theorem dX1_sound_22 : decode cX1_sound 22 = .ok (.ireturn, 1) := by decide +kernel
abbrev cX1_confirm : ByteArray := prog_1_method_9_code
def yX1_confirm : MethodName := ⟨RX1, "confirm", "(II)V"⟩
theorem dX1_confirm_0 : decode cX1_confirm 0 = .ok (.iload_n 2, 1) := by decide +kernel
theorem dX1_confirm_1 : decode cX1_confirm 1 = .ok (.aload_n 0, 1) := by decide +kernel
theorem dX1_confirm_2 : decode cX1_confirm 2 = .ok (.getfield 19, 3) := by decide +kernel
theorem dX1_confirm_5 : decode cX1_confirm 5 = .ok (.iload_n 1, 1) := by decide +kernel
theorem dX1_confirm_6 : decode cX1_confirm 6 = .ok (.iaload, 1) := by decide +kernel
theorem dX1_confirm_7 : decode cX1_confirm 7 = .ok (.isub, 1) := by decide +kernel
theorem dX1_confirm_8 : decode cX1_confirm 8 = .ok (.bipush 7, 2) := by decide +kernel
theorem dX1_confirm_10 : decode cX1_confirm 10 = .ok (.iand, 1) := by decide +kernel
theorem dX1_confirm_11 : decode cX1_confirm 11 = .ok (.istore_n 3, 1) := by decide +kernel
theorem dX1_confirm_12 : decode cX1_confirm 12 = .ok (.iload_n 3, 1) := by decide +kernel
theorem dX1_confirm_13 : decode cX1_confirm 13 = .ok (.aload_n 0, 1) := by decide +kernel
theorem dX1_confirm_14 : decode cX1_confirm 14 = .ok (.getfield 22, 3) := by decide +kernel
theorem dX1_confirm_17 : decode cX1_confirm 17 = .ok (.iload_n 1, 1) := by decide +kernel
theorem dX1_confirm_18 : decode cX1_confirm 18 = .ok (.iaload, 1) := by decide +kernel
theorem dX1_confirm_19 : decode cX1_confirm 19 = .ok (.if_icmp .le 4, 3) := by decide +kernel
theorem dX1_confirm_22 : decode cX1_confirm 22 = .ok (.return_, 1) := by decide +kernel
theorem dX1_confirm_23 : decode cX1_confirm 23 = .ok (.aload_n 0, 1) := by decide +kernel
theorem dX1_confirm_24 : decode cX1_confirm 24 = .ok (.getfield 7, 3) := by decide +kernel
theorem dX1_confirm_27 : decode cX1_confirm 27 = .ok (.iload_n 1, 1) := by decide +kernel
theorem dX1_confirm_28 : decode cX1_confirm 28 = .ok (.aload_n 0, 1) := by decide +kernel
theorem dX1_confirm_29 : decode cX1_confirm 29 = .ok (.getfield 7, 3) := by decide +kernel
theorem dX1_confirm_32 : decode cX1_confirm 32 = .ok (.iload_n 1, 1) := by decide +kernel
theorem dX1_confirm_33 : decode cX1_confirm 33 = .ok (.iaload, 1) := by decide +kernel
theorem dX1_confirm_34 : decode cX1_confirm 34 = .ok (.iload_n 3, 1) := by decide +kernel
theorem dX1_confirm_35 : decode cX1_confirm 35 = .ok (.iadd, 1) := by decide +kernel
theorem dX1_confirm_36 : decode cX1_confirm 36 = .ok (.bipush 31, 2) := by decide +kernel
theorem dX1_confirm_38 : decode cX1_confirm 38 = .ok (.iand, 1) := by decide +kernel
theorem dX1_confirm_39 : decode cX1_confirm 39 = .ok (.iastore, 1) := by decide +kernel
theorem dX1_confirm_40 : decode cX1_confirm 40 = .ok (.aload_n 0, 1) := by decide +kernel
theorem dX1_confirm_41 : decode cX1_confirm 41 = .ok (.getfield 13, 3) := by decide +kernel
theorem dX1_confirm_44 : decode cX1_confirm 44 = .ok (.iload_n 1, 1) := by decide +kernel
theorem dX1_confirm_45 : decode cX1_confirm 45 = .ok (.dup2, 1) := by decide +kernel
theorem dX1_confirm_46 : decode cX1_confirm 46 = .ok (.iaload, 1) := by decide +kernel
theorem dX1_confirm_47 : decode cX1_confirm 47 = .ok (.iload_n 3, 1) := by decide +kernel
theorem dX1_confirm_48 : decode cX1_confirm 48 = .ok (.isub, 1) := by decide +kernel
theorem dX1_confirm_49 : decode cX1_confirm 49 = .ok (.iastore, 1) := by decide +kernel
theorem dX1_confirm_50 : decode cX1_confirm 50 = .ok (.aload_n 0, 1) := by decide +kernel
theorem dX1_confirm_51 : decode cX1_confirm 51 = .ok (.getfield 22, 3) := by decide +kernel
theorem dX1_confirm_54 : decode cX1_confirm 54 = .ok (.iload_n 1, 1) := by decide +kernel
theorem dX1_confirm_55 : decode cX1_confirm 55 = .ok (.dup2, 1) := by decide +kernel
theorem dX1_confirm_56 : decode cX1_confirm 56 = .ok (.iaload, 1) := by decide +kernel
theorem dX1_confirm_57 : decode cX1_confirm 57 = .ok (.iload_n 3, 1) := by decide +kernel
theorem dX1_confirm_58 : decode cX1_confirm 58 = .ok (.isub, 1) := by decide +kernel
theorem dX1_confirm_59 : decode cX1_confirm 59 = .ok (.iastore, 1) := by decide +kernel
theorem dX1_confirm_60 : decode cX1_confirm 60 = .ok (.aload_n 0, 1) := by decide +kernel
theorem dX1_confirm_61 : decode cX1_confirm 61 = .ok (.getfield 19, 3) := by decide +kernel
theorem dX1_confirm_64 : decode cX1_confirm 64 = .ok (.iload_n 1, 1) := by decide +kernel
theorem dX1_confirm_65 : decode cX1_confirm 65 = .ok (.iload_n 2, 1) := by decide +kernel
theorem dX1_confirm_66 : decode cX1_confirm 66 = .ok (.iastore, 1) := by decide +kernel
theorem dX1_confirm_67 : decode cX1_confirm 67 = .ok (.return_, 1) := by decide +kernel
abbrev cX1_receiveData : ByteArray := prog_1_method_11_code
def yX1_receiveData : MethodName := ⟨RX1, "receiveData", "(III)V"⟩
theorem dX1_receiveData_0 : decode cX1_receiveData 0 = .ok (.iload_n 2, 1) := by decide +kernel
theorem dX1_receiveData_1 : decode cX1_receiveData 1 = .ok (.aload_n 0, 1) := by decide +kernel
theorem dX1_receiveData_2 : decode cX1_receiveData 2 = .ok (.getfield 25, 3) := by decide +kernel
theorem dX1_receiveData_5 : decode cX1_receiveData 5 = .ok (.iload_n 1, 1) := by decide +kernel
theorem dX1_receiveData_6 : decode cX1_receiveData 6 = .ok (.iaload, 1) := by decide +kernel
theorem dX1_receiveData_7 : decode cX1_receiveData 7 = .ok (.isub, 1) := by decide +kernel
theorem dX1_receiveData_8 : decode cX1_receiveData 8 = .ok (.bipush 7, 2) := by decide +kernel
theorem dX1_receiveData_10 : decode cX1_receiveData 10 = .ok (.iand, 1) := by decide +kernel
theorem dX1_receiveData_11 : decode cX1_receiveData 11 = .ok (.istore 4, 2) := by decide +kernel
theorem dX1_receiveData_13 : decode cX1_receiveData 13 = .ok (.iload 4, 2) := by decide +kernel
theorem dX1_receiveData_15 : decode cX1_receiveData 15 = .ok (.ifCond .ne 12, 3) := by decide +kernel
theorem dX1_receiveData_18 : decode cX1_receiveData 18 = .ok (.aload_n 0, 1) := by decide +kernel
theorem dX1_receiveData_19 : decode cX1_receiveData 19 = .ok (.iload_n 1, 1) := by decide +kernel
theorem dX1_receiveData_20 : decode cX1_receiveData 20 = .ok (.iload_n 3, 1) := by decide +kernel
theorem dX1_receiveData_21 : decode cX1_receiveData 21 = .ok (.invokevirtual 73, 3) := by decide +kernel
theorem dX1_receiveData_24 : decode cX1_receiveData 24 = .ok (.goto 43, 3) := by decide +kernel
theorem dX1_receiveData_27 : decode cX1_receiveData 27 = .ok (.iload 4, 2) := by decide +kernel
theorem dX1_receiveData_29 : decode cX1_receiveData 29 = .ok (.iconst 3, 1) := by decide +kernel
theorem dX1_receiveData_30 : decode cX1_receiveData 30 = .ok (.if_icmp .gt 30, 3) := by decide +kernel
theorem dX1_receiveData_33 : decode cX1_receiveData 33 = .ok (.aload_n 0, 1) := by decide +kernel
theorem dX1_receiveData_34 : decode cX1_receiveData 34 = .ok (.getfield 28, 3) := by decide +kernel
theorem dX1_receiveData_37 : decode cX1_receiveData 37 = .ok (.iload_n 1, 1) := by decide +kernel
theorem dX1_receiveData_38 : decode cX1_receiveData 38 = .ok (.baload, 1) := by decide +kernel
theorem dX1_receiveData_39 : decode cX1_receiveData 39 = .ok (.ifCond .ne 21, 3) := by decide +kernel
theorem dX1_receiveData_42 : decode cX1_receiveData 42 = .ok (.aload_n 0, 1) := by decide +kernel
theorem dX1_receiveData_43 : decode cX1_receiveData 43 = .ok (.getfield 28, 3) := by decide +kernel
theorem dX1_receiveData_46 : decode cX1_receiveData 46 = .ok (.iload_n 1, 1) := by decide +kernel
theorem dX1_receiveData_47 : decode cX1_receiveData 47 = .ok (.iconst 1, 1) := by decide +kernel
theorem dX1_receiveData_48 : decode cX1_receiveData 48 = .ok (.bastore, 1) := by decide +kernel
theorem dX1_receiveData_49 : decode cX1_receiveData 49 = .ok (.aload_n 0, 1) := by decide +kernel
theorem dX1_receiveData_50 : decode cX1_receiveData 50 = .ok (.iload_n 1, 1) := by decide +kernel
theorem dX1_receiveData_51 : decode cX1_receiveData 51 = .ok (.iconst 2, 1) := by decide +kernel
theorem dX1_receiveData_52 : decode cX1_receiveData 52 = .ok (.iconst 0, 1) := by decide +kernel
theorem dX1_receiveData_53 : decode cX1_receiveData 53 = .ok (.iconst 0, 1) := by decide +kernel
theorem dX1_receiveData_54 : decode cX1_receiveData 54 = .ok (.invokevirtual 65, 3) := by decide +kernel
theorem dX1_receiveData_57 : decode cX1_receiveData 57 = .ok (.goto 10, 3) := by decide +kernel
theorem dX1_receiveData_60 : decode cX1_receiveData 60 = .ok (.aload_n 0, 1) := by decide +kernel
theorem dX1_receiveData_61 : decode cX1_receiveData 61 = .ok (.getfield 32, 3) := by decide +kernel
theorem dX1_receiveData_64 : decode cX1_receiveData 64 = .ok (.iload_n 1, 1) := by decide +kernel
theorem dX1_receiveData_65 : decode cX1_receiveData 65 = .ok (.iconst 1, 1) := by decide +kernel
theorem dX1_receiveData_66 : decode cX1_receiveData 66 = .ok (.bastore, 1) := by decide +kernel
theorem dX1_receiveData_67 : decode cX1_receiveData 67 = .ok (.return_, 1) := by decide +kernel
abbrev cX1_accept : ByteArray := prog_1_method_10_code
def yX1_accept : MethodName := ⟨RX1, "accept", "(II)V"⟩
theorem dX1_accept_0 : decode cX1_accept 0 = .ok (.aload_n 0, 1) := by decide +kernel
theorem dX1_accept_1 : decode cX1_accept 1 = .ok (.getfield 41, 3) := by decide +kernel
theorem dX1_accept_4 : decode cX1_accept 4 = .ok (.iload_n 1, 1) := by decide +kernel
theorem dX1_accept_5 : decode cX1_accept 5 = .ok (.bipush 32, 2) := by decide +kernel
theorem dX1_accept_7 : decode cX1_accept 7 = .ok (.imul, 1) := by decide +kernel
theorem dX1_accept_8 : decode cX1_accept 8 = .ok (.aload_n 0, 1) := by decide +kernel
theorem dX1_accept_9 : decode cX1_accept 9 = .ok (.getfield 35, 3) := by decide +kernel
theorem dX1_accept_12 : decode cX1_accept 12 = .ok (.iload_n 1, 1) := by decide +kernel
theorem dX1_accept_13 : decode cX1_accept 13 = .ok (.iaload, 1) := by decide +kernel
theorem dX1_accept_14 : decode cX1_accept 14 = .ok (.aload_n 0, 1) := by decide +kernel
theorem dX1_accept_15 : decode cX1_accept 15 = .ok (.getfield 38, 3) := by decide +kernel
theorem dX1_accept_18 : decode cX1_accept 18 = .ok (.iload_n 1, 1) := by decide +kernel
theorem dX1_accept_19 : decode cX1_accept 19 = .ok (.iaload, 1) := by decide +kernel
theorem dX1_accept_20 : decode cX1_accept 20 = .ok (.iadd, 1) := by decide +kernel
theorem dX1_accept_21 : decode cX1_accept 21 = .ok (.bipush 31, 2) := by decide +kernel
theorem dX1_accept_23 : decode cX1_accept 23 = .ok (.iand, 1) := by decide +kernel
theorem dX1_accept_24 : decode cX1_accept 24 = .ok (.iadd, 1) := by decide +kernel
theorem dX1_accept_25 : decode cX1_accept 25 = .ok (.iload_n 2, 1) := by decide +kernel
theorem dX1_accept_26 : decode cX1_accept 26 = .ok (.iastore, 1) := by decide +kernel
theorem dX1_accept_27 : decode cX1_accept 27 = .ok (.aload_n 0, 1) := by decide +kernel
theorem dX1_accept_28 : decode cX1_accept 28 = .ok (.getfield 38, 3) := by decide +kernel
theorem dX1_accept_31 : decode cX1_accept 31 = .ok (.iload_n 1, 1) := by decide +kernel
theorem dX1_accept_32 : decode cX1_accept 32 = .ok (.dup2, 1) := by decide +kernel
theorem dX1_accept_33 : decode cX1_accept 33 = .ok (.iaload, 1) := by decide +kernel
theorem dX1_accept_34 : decode cX1_accept 34 = .ok (.iconst 1, 1) := by decide +kernel
theorem dX1_accept_35 : decode cX1_accept 35 = .ok (.iadd, 1) := by decide +kernel
theorem dX1_accept_36 : decode cX1_accept 36 = .ok (.iastore, 1) := by decide +kernel
theorem dX1_accept_37 : decode cX1_accept 37 = .ok (.aload_n 0, 1) := by decide +kernel
theorem dX1_accept_38 : decode cX1_accept 38 = .ok (.getfield 25, 3) := by decide +kernel
theorem dX1_accept_41 : decode cX1_accept 41 = .ok (.iload_n 1, 1) := by decide +kernel
theorem dX1_accept_42 : decode cX1_accept 42 = .ok (.aload_n 0, 1) := by decide +kernel
theorem dX1_accept_43 : decode cX1_accept 43 = .ok (.getfield 25, 3) := by decide +kernel
theorem dX1_accept_46 : decode cX1_accept 46 = .ok (.iload_n 1, 1) := by decide +kernel
theorem dX1_accept_47 : decode cX1_accept 47 = .ok (.iaload, 1) := by decide +kernel
theorem dX1_accept_48 : decode cX1_accept 48 = .ok (.iconst 1, 1) := by decide +kernel
theorem dX1_accept_49 : decode cX1_accept 49 = .ok (.iadd, 1) := by decide +kernel
theorem dX1_accept_50 : decode cX1_accept 50 = .ok (.bipush 7, 2) := by decide +kernel
theorem dX1_accept_52 : decode cX1_accept 52 = .ok (.iand, 1) := by decide +kernel
theorem dX1_accept_53 : decode cX1_accept 53 = .ok (.iastore, 1) := by decide +kernel
theorem dX1_accept_54 : decode cX1_accept 54 = .ok (.aload_n 0, 1) := by decide +kernel
theorem dX1_accept_55 : decode cX1_accept 55 = .ok (.getfield 28, 3) := by decide +kernel
theorem dX1_accept_58 : decode cX1_accept 58 = .ok (.iload_n 1, 1) := by decide +kernel
theorem dX1_accept_59 : decode cX1_accept 59 = .ok (.iconst 0, 1) := by decide +kernel
theorem dX1_accept_60 : decode cX1_accept 60 = .ok (.bastore, 1) := by decide +kernel
theorem dX1_accept_61 : decode cX1_accept 61 = .ok (.aload_n 0, 1) := by decide +kernel
theorem dX1_accept_62 : decode cX1_accept 62 = .ok (.getfield 32, 3) := by decide +kernel
theorem dX1_accept_65 : decode cX1_accept 65 = .ok (.iload_n 1, 1) := by decide +kernel
theorem dX1_accept_66 : decode cX1_accept 66 = .ok (.iconst 1, 1) := by decide +kernel
theorem dX1_accept_67 : decode cX1_accept 67 = .ok (.bastore, 1) := by decide +kernel
theorem dX1_accept_68 : decode cX1_accept 68 = .ok (.return_, 1) := by decide +kernel
abbrev cX1_payDebt : ByteArray := prog_1_method_14_code
def yX1_payDebt : MethodName := ⟨RX1, "payDebt", "(I)V"⟩
theorem dX1_payDebt_0 : decode cX1_payDebt 0 = .ok (.aload_n 0, 1) := by decide +kernel
theorem dX1_payDebt_1 : decode cX1_payDebt 1 = .ok (.getfield 32, 3) := by decide +kernel
theorem dX1_payDebt_4 : decode cX1_payDebt 4 = .ok (.iload_n 1, 1) := by decide +kernel
theorem dX1_payDebt_5 : decode cX1_payDebt 5 = .ok (.baload, 1) := by decide +kernel
theorem dX1_payDebt_6 : decode cX1_payDebt 6 = .ok (.ifCond .eq 11, 3) := by decide +kernel
theorem dX1_payDebt_9 : decode cX1_payDebt 9 = .ok (.aload_n 0, 1) := by decide +kernel
theorem dX1_payDebt_10 : decode cX1_payDebt 10 = .ok (.iload_n 1, 1) := by decide +kernel
theorem dX1_payDebt_11 : decode cX1_payDebt 11 = .ok (.iconst 1, 1) := by decide +kernel
theorem dX1_payDebt_12 : decode cX1_payDebt 12 = .ok (.iconst 0, 1) := by decide +kernel
theorem dX1_payDebt_13 : decode cX1_payDebt 13 = .ok (.iconst 0, 1) := by decide +kernel
theorem dX1_payDebt_14 : decode cX1_payDebt 14 = .ok (.invokevirtual 65, 3) := by decide +kernel
theorem dX1_payDebt_17 : decode cX1_payDebt 17 = .ok (.return_, 1) := by decide +kernel
abbrev cX1_takeOne : ByteArray := prog_1_method_22_code
def yX1_takeOne : MethodName := ⟨RX1, "takeOne", "(I)I"⟩
theorem dX1_takeOne_0 : decode cX1_takeOne 0 = .ok (.aload_n 0, 1) := by decide +kernel
theorem dX1_takeOne_1 : decode cX1_takeOne 1 = .ok (.getfield 41, 3) := by decide +kernel
theorem dX1_takeOne_4 : decode cX1_takeOne 4 = .ok (.iload_n 1, 1) := by decide +kernel
theorem dX1_takeOne_5 : decode cX1_takeOne 5 = .ok (.bipush 32, 2) := by decide +kernel
theorem dX1_takeOne_7 : decode cX1_takeOne 7 = .ok (.imul, 1) := by decide +kernel
theorem dX1_takeOne_8 : decode cX1_takeOne 8 = .ok (.aload_n 0, 1) := by decide +kernel
theorem dX1_takeOne_9 : decode cX1_takeOne 9 = .ok (.getfield 35, 3) := by decide +kernel
theorem dX1_takeOne_12 : decode cX1_takeOne 12 = .ok (.iload_n 1, 1) := by decide +kernel
theorem dX1_takeOne_13 : decode cX1_takeOne 13 = .ok (.iaload, 1) := by decide +kernel
theorem dX1_takeOne_14 : decode cX1_takeOne 14 = .ok (.iadd, 1) := by decide +kernel
theorem dX1_takeOne_15 : decode cX1_takeOne 15 = .ok (.iaload, 1) := by decide +kernel
theorem dX1_takeOne_16 : decode cX1_takeOne 16 = .ok (.istore_n 2, 1) := by decide +kernel
theorem dX1_takeOne_17 : decode cX1_takeOne 17 = .ok (.aload_n 0, 1) := by decide +kernel
theorem dX1_takeOne_18 : decode cX1_takeOne 18 = .ok (.getfield 35, 3) := by decide +kernel
theorem dX1_takeOne_21 : decode cX1_takeOne 21 = .ok (.iload_n 1, 1) := by decide +kernel
theorem dX1_takeOne_22 : decode cX1_takeOne 22 = .ok (.aload_n 0, 1) := by decide +kernel
theorem dX1_takeOne_23 : decode cX1_takeOne 23 = .ok (.getfield 35, 3) := by decide +kernel
theorem dX1_takeOne_26 : decode cX1_takeOne 26 = .ok (.iload_n 1, 1) := by decide +kernel
theorem dX1_takeOne_27 : decode cX1_takeOne 27 = .ok (.iaload, 1) := by decide +kernel
theorem dX1_takeOne_28 : decode cX1_takeOne 28 = .ok (.iconst 1, 1) := by decide +kernel
theorem dX1_takeOne_29 : decode cX1_takeOne 29 = .ok (.iadd, 1) := by decide +kernel
theorem dX1_takeOne_30 : decode cX1_takeOne 30 = .ok (.bipush 31, 2) := by decide +kernel
theorem dX1_takeOne_32 : decode cX1_takeOne 32 = .ok (.iand, 1) := by decide +kernel
theorem dX1_takeOne_33 : decode cX1_takeOne 33 = .ok (.iastore, 1) := by decide +kernel
theorem dX1_takeOne_34 : decode cX1_takeOne 34 = .ok (.aload_n 0, 1) := by decide +kernel
theorem dX1_takeOne_35 : decode cX1_takeOne 35 = .ok (.getfield 38, 3) := by decide +kernel
theorem dX1_takeOne_38 : decode cX1_takeOne 38 = .ok (.iload_n 1, 1) := by decide +kernel
theorem dX1_takeOne_39 : decode cX1_takeOne 39 = .ok (.dup2, 1) := by decide +kernel
theorem dX1_takeOne_40 : decode cX1_takeOne 40 = .ok (.iaload, 1) := by decide +kernel
theorem dX1_takeOne_41 : decode cX1_takeOne 41 = .ok (.iconst 1, 1) := by decide +kernel
theorem dX1_takeOne_42 : decode cX1_takeOne 42 = .ok (.isub, 1) := by decide +kernel
theorem dX1_takeOne_43 : decode cX1_takeOne 43 = .ok (.iastore, 1) := by decide +kernel
theorem dX1_takeOne_44 : decode cX1_takeOne 44 = .ok (.aload_n 0, 1) := by decide +kernel
theorem dX1_takeOne_45 : decode cX1_takeOne 45 = .ok (.getfield 44, 3) := by decide +kernel
theorem dX1_takeOne_48 : decode cX1_takeOne 48 = .ok (.iload_n 1, 1) := by decide +kernel
theorem dX1_takeOne_49 : decode cX1_takeOne 49 = .ok (.dup2, 1) := by decide +kernel
theorem dX1_takeOne_50 : decode cX1_takeOne 50 = .ok (.iaload, 1) := by decide +kernel
theorem dX1_takeOne_51 : decode cX1_takeOne 51 = .ok (.iconst 1, 1) := by decide +kernel
theorem dX1_takeOne_52 : decode cX1_takeOne 52 = .ok (.iadd, 1) := by decide +kernel
theorem dX1_takeOne_53 : decode cX1_takeOne 53 = .ok (.iastore, 1) := by decide +kernel
theorem dX1_takeOne_54 : decode cX1_takeOne 54 = .ok (.iload_n 2, 1) := by decide +kernel
theorem dX1_takeOne_55 : decode cX1_takeOne 55 = .ok (.ireturn, 1) := by decide +kernel
end
section
set_option maxRecDepth 100000
abbrev cX1_takeMessage : ByteArray := prog_1_method_26_code
def yX1_takeMessage : MethodName := ⟨RX1, "takeMessage", "(I)I"⟩
theorem dX1_takeMessage_0 : decode cX1_takeMessage 0 = .ok (.iload_n 1, 1) := by decide +kernel
theorem dX1_takeMessage_1 : decode cX1_takeMessage 1 = .ok (.invokestatic 110, 3) := by decide +kernel
theorem dX1_takeMessage_4 : decode cX1_takeMessage 4 = .ok (.ifCond .eq 5, 3) := by decide +kernel
theorem dX1_takeMessage_7 : decode cX1_takeMessage 7 = .ok (.iconst (-1), 1) := by decide +kernel
theorem dX1_takeMessage_8 : decode cX1_takeMessage 8 = .ok (.ireturn, 1) := by decide +kernel
theorem dX1_takeMessage_9 : decode cX1_takeMessage 9 = .ok (.aload_n 0, 1) := by decide +kernel
theorem dX1_takeMessage_10 : decode cX1_takeMessage 10 = .ok (.invokevirtual 116, 3) := by decide +kernel
theorem dX1_takeMessage_13 : decode cX1_takeMessage 13 = .ok (.aload_n 0, 1) := by decide +kernel
theorem dX1_takeMessage_14 : decode cX1_takeMessage 14 = .ok (.iload_n 1, 1) := by decide +kernel
theorem dX1_takeMessage_15 : decode cX1_takeMessage 15 = .ok (.invokevirtual 129, 3) := by decide +kernel
theorem dX1_takeMessage_18 : decode cX1_takeMessage 18 = .ok (.istore_n 2, 1) := by decide +kernel
theorem dX1_takeMessage_19 : decode cX1_takeMessage 19 = .ok (.iload_n 2, 1) := by decide +kernel
theorem dX1_takeMessage_20 : decode cX1_takeMessage 20 = .ok (.ifCond .ne 6, 3) := by decide +kernel
theorem dX1_takeMessage_23 : decode cX1_takeMessage 23 = .ok (.bipush (-3), 2) := by decide +kernel
theorem dX1_takeMessage_25 : decode cX1_takeMessage 25 = .ok (.ireturn, 1) := by decide +kernel
theorem dX1_takeMessage_26 : decode cX1_takeMessage 26 = .ok (.iconst 1, 1) := by decide +kernel
theorem dX1_takeMessage_27 : decode cX1_takeMessage 27 = .ok (.istore_n 3, 1) := by decide +kernel
theorem dX1_takeMessage_28 : decode cX1_takeMessage 28 = .ok (.aload_n 0, 1) := by decide +kernel
theorem dX1_takeMessage_29 : decode cX1_takeMessage 29 = .ok (.iload_n 1, 1) := by decide +kernel
theorem dX1_takeMessage_30 : decode cX1_takeMessage 30 = .ok (.invokevirtual 122, 3) := by decide +kernel
theorem dX1_takeMessage_33 : decode cX1_takeMessage 33 = .ok (.istore 4, 2) := by decide +kernel
theorem dX1_takeMessage_35 : decode cX1_takeMessage 35 = .ok (.iconst 0, 1) := by decide +kernel
theorem dX1_takeMessage_36 : decode cX1_takeMessage 36 = .ok (.istore 5, 2) := by decide +kernel
theorem dX1_takeMessage_38 : decode cX1_takeMessage 38 = .ok (.iload 5, 2) := by decide +kernel
theorem dX1_takeMessage_40 : decode cX1_takeMessage 40 = .ok (.bipush 30, 2) := by decide +kernel
theorem dX1_takeMessage_42 : decode cX1_takeMessage 42 = .ok (.if_icmp .ge 27, 3) := by decide +kernel
theorem dX1_takeMessage_45 : decode cX1_takeMessage 45 = .ok (.iload 4, 2) := by decide +kernel
theorem dX1_takeMessage_47 : decode cX1_takeMessage 47 = .ok (.sipush 256, 3) := by decide +kernel
theorem dX1_takeMessage_50 : decode cX1_takeMessage 50 = .ok (.if_icmp .ge 19, 3) := by decide +kernel
theorem dX1_takeMessage_53 : decode cX1_takeMessage 53 = .ok (.aload_n 0, 1) := by decide +kernel
theorem dX1_takeMessage_54 : decode cX1_takeMessage 54 = .ok (.iload_n 1, 1) := by decide +kernel
theorem dX1_takeMessage_55 : decode cX1_takeMessage 55 = .ok (.invokevirtual 122, 3) := by decide +kernel
theorem dX1_takeMessage_58 : decode cX1_takeMessage 58 = .ok (.istore 4, 2) := by decide +kernel
theorem dX1_takeMessage_60 : decode cX1_takeMessage 60 = .ok (.iinc 3 1, 3) := by decide +kernel
theorem dX1_takeMessage_63 : decode cX1_takeMessage 63 = .ok (.iinc 5 1, 3) := by decide +kernel
theorem dX1_takeMessage_66 : decode cX1_takeMessage 66 = .ok (.goto (-28), 3) := by decide +kernel
theorem dX1_takeMessage_69 : decode cX1_takeMessage 69 = .ok (.iload_n 3, 1) := by decide +kernel
theorem dX1_takeMessage_70 : decode cX1_takeMessage 70 = .ok (.ireturn, 1) := by decide +kernel
abbrev cX1_marked : ByteArray := prog_1_method_25_code
def yX1_marked : MethodName := ⟨RX1, "marked", "(I)I"⟩
theorem dX1_marked_0 : decode cX1_marked 0 = .ok (.iconst 0, 1) := by decide +kernel
theorem dX1_marked_1 : decode cX1_marked 1 = .ok (.istore_n 2, 1) := by decide +kernel
theorem dX1_marked_2 : decode cX1_marked 2 = .ok (.iconst 0, 1) := by decide +kernel
theorem dX1_marked_3 : decode cX1_marked 3 = .ok (.istore_n 3, 1) := by decide +kernel
theorem dX1_marked_4 : decode cX1_marked 4 = .ok (.iload_n 3, 1) := by decide +kernel
theorem dX1_marked_5 : decode cX1_marked 5 = .ok (.aload_n 0, 1) := by decide +kernel
theorem dX1_marked_6 : decode cX1_marked 6 = .ok (.getfield 38, 3) := by decide +kernel
theorem dX1_marked_9 : decode cX1_marked 9 = .ok (.iload_n 1, 1) := by decide +kernel
theorem dX1_marked_10 : decode cX1_marked 10 = .ok (.iaload, 1) := by decide +kernel
theorem dX1_marked_11 : decode cX1_marked 11 = .ok (.if_icmp .ge 21, 3) := by decide +kernel
theorem dX1_marked_14 : decode cX1_marked 14 = .ok (.iload_n 2, 1) := by decide +kernel
theorem dX1_marked_15 : decode cX1_marked 15 = .ok (.aload_n 0, 1) := by decide +kernel
theorem dX1_marked_16 : decode cX1_marked 16 = .ok (.iload_n 1, 1) := by decide +kernel
theorem dX1_marked_17 : decode cX1_marked 17 = .ok (.iload_n 3, 1) := by decide +kernel
theorem dX1_marked_18 : decode cX1_marked 18 = .ok (.invokevirtual 125, 3) := by decide +kernel
theorem dX1_marked_21 : decode cX1_marked 21 = .ok (.bipush 8, 2) := by decide +kernel
theorem dX1_marked_23 : decode cX1_marked 23 = .ok (.ishr, 1) := by decide +kernel
theorem dX1_marked_24 : decode cX1_marked 24 = .ok (.iadd, 1) := by decide +kernel
theorem dX1_marked_25 : decode cX1_marked 25 = .ok (.istore_n 2, 1) := by decide +kernel
theorem dX1_marked_26 : decode cX1_marked 26 = .ok (.iinc 3 1, 3) := by decide +kernel
theorem dX1_marked_29 : decode cX1_marked 29 = .ok (.goto (-25), 3) := by decide +kernel
theorem dX1_marked_32 : decode cX1_marked 32 = .ok (.iload_n 2, 1) := by decide +kernel
theorem dX1_marked_33 : decode cX1_marked 33 = .ok (.ireturn, 1) := by decide +kernel
abbrev cX1_byteAt : ByteArray := prog_1_method_24_code
def yX1_byteAt : MethodName := ⟨RX1, "byteAt", "(II)I"⟩
theorem dX1_byteAt_0 : decode cX1_byteAt 0 = .ok (.aload_n 0, 1) := by decide +kernel
theorem dX1_byteAt_1 : decode cX1_byteAt 1 = .ok (.getfield 41, 3) := by decide +kernel
theorem dX1_byteAt_4 : decode cX1_byteAt 4 = .ok (.iload_n 1, 1) := by decide +kernel
theorem dX1_byteAt_5 : decode cX1_byteAt 5 = .ok (.bipush 32, 2) := by decide +kernel
theorem dX1_byteAt_7 : decode cX1_byteAt 7 = .ok (.imul, 1) := by decide +kernel
theorem dX1_byteAt_8 : decode cX1_byteAt 8 = .ok (.aload_n 0, 1) := by decide +kernel
theorem dX1_byteAt_9 : decode cX1_byteAt 9 = .ok (.getfield 35, 3) := by decide +kernel
theorem dX1_byteAt_12 : decode cX1_byteAt 12 = .ok (.iload_n 1, 1) := by decide +kernel
theorem dX1_byteAt_13 : decode cX1_byteAt 13 = .ok (.iaload, 1) := by decide +kernel
theorem dX1_byteAt_14 : decode cX1_byteAt 14 = .ok (.iload_n 2, 1) := by decide +kernel
theorem dX1_byteAt_15 : decode cX1_byteAt 15 = .ok (.iadd, 1) := by decide +kernel
theorem dX1_byteAt_16 : decode cX1_byteAt 16 = .ok (.bipush 31, 2) := by decide +kernel
theorem dX1_byteAt_18 : decode cX1_byteAt 18 = .ok (.iand, 1) := by decide +kernel
theorem dX1_byteAt_19 : decode cX1_byteAt 19 = .ok (.iadd, 1) := by decide +kernel
theorem dX1_byteAt_20 : decode cX1_byteAt 20 = .ok (.iaload, 1) := by decide +kernel
theorem dX1_byteAt_21 : decode cX1_byteAt 21 = .ok (.ireturn, 1) := by decide +kernel
abbrev cX1_skip : ByteArray := prog_1_method_27_code
def yX1_skip : MethodName := ⟨RX1, "skip", "(I)I"⟩
theorem dX1_skip_0 : decode cX1_skip 0 = .ok (.iload_n 1, 1) := by decide +kernel
theorem dX1_skip_1 : decode cX1_skip 1 = .ok (.invokestatic 110, 3) := by decide +kernel
theorem dX1_skip_4 : decode cX1_skip 4 = .ok (.ifCond .eq 5, 3) := by decide +kernel
theorem dX1_skip_7 : decode cX1_skip 7 = .ok (.iconst (-1), 1) := by decide +kernel
theorem dX1_skip_8 : decode cX1_skip 8 = .ok (.ireturn, 1) := by decide +kernel
theorem dX1_skip_9 : decode cX1_skip 9 = .ok (.aload_n 0, 1) := by decide +kernel
theorem dX1_skip_10 : decode cX1_skip 10 = .ok (.iload_n 1, 1) := by decide +kernel
theorem dX1_skip_11 : decode cX1_skip 11 = .ok (.invokevirtual 119, 3) := by decide +kernel
theorem dX1_skip_14 : decode cX1_skip 14 = .ok (.istore_n 2, 1) := by decide +kernel
theorem dX1_skip_15 : decode cX1_skip 15 = .ok (.iconst 0, 1) := by decide +kernel
theorem dX1_skip_16 : decode cX1_skip 16 = .ok (.istore_n 3, 1) := by decide +kernel
theorem dX1_skip_17 : decode cX1_skip 17 = .ok (.iload_n 3, 1) := by decide +kernel
theorem dX1_skip_18 : decode cX1_skip 18 = .ok (.iload_n 2, 1) := by decide +kernel
theorem dX1_skip_19 : decode cX1_skip 19 = .ok (.if_icmp .ge 15, 3) := by decide +kernel
theorem dX1_skip_22 : decode cX1_skip 22 = .ok (.aload_n 0, 1) := by decide +kernel
theorem dX1_skip_23 : decode cX1_skip 23 = .ok (.iload_n 1, 1) := by decide +kernel
theorem dX1_skip_24 : decode cX1_skip 24 = .ok (.invokevirtual 122, 3) := by decide +kernel
theorem dX1_skip_27 : decode cX1_skip 27 = .ok (.pop, 1) := by decide +kernel
theorem dX1_skip_28 : decode cX1_skip 28 = .ok (.iinc 3 1, 3) := by decide +kernel
theorem dX1_skip_31 : decode cX1_skip 31 = .ok (.goto (-14), 3) := by decide +kernel
theorem dX1_skip_34 : decode cX1_skip 34 = .ok (.iload_n 2, 1) := by decide +kernel
theorem dX1_skip_35 : decode cX1_skip 35 = .ok (.ireturn, 1) := by decide +kernel
abbrev cX1_reset : ByteArray := prog_1_method_28_code
def yX1_reset : MethodName := ⟨RX1, "reset", "()V"⟩
theorem dX1_reset_0 : decode cX1_reset 0 = .ok (.iconst 0, 1) := by decide +kernel
theorem dX1_reset_1 : decode cX1_reset 1 = .ok (.istore_n 1, 1) := by decide +kernel
theorem dX1_reset_2 : decode cX1_reset 2 = .ok (.iload_n 1, 1) := by decide +kernel
theorem dX1_reset_3 : decode cX1_reset 3 = .ok (.iconst 2, 1) := by decide +kernel
theorem dX1_reset_4 : decode cX1_reset 4 = .ok (.if_icmp .ge 86, 3) := by decide +kernel
theorem dX1_reset_7 : decode cX1_reset 7 = .ok (.aload_n 0, 1) := by decide +kernel
theorem dX1_reset_8 : decode cX1_reset 8 = .ok (.getfield 7, 3) := by decide +kernel
theorem dX1_reset_11 : decode cX1_reset 11 = .ok (.iload_n 1, 1) := by decide +kernel
theorem dX1_reset_12 : decode cX1_reset 12 = .ok (.iconst 0, 1) := by decide +kernel
theorem dX1_reset_13 : decode cX1_reset 13 = .ok (.iastore, 1) := by decide +kernel
theorem dX1_reset_14 : decode cX1_reset 14 = .ok (.aload_n 0, 1) := by decide +kernel
theorem dX1_reset_15 : decode cX1_reset 15 = .ok (.getfield 13, 3) := by decide +kernel
theorem dX1_reset_18 : decode cX1_reset 18 = .ok (.iload_n 1, 1) := by decide +kernel
theorem dX1_reset_19 : decode cX1_reset 19 = .ok (.iconst 0, 1) := by decide +kernel
theorem dX1_reset_20 : decode cX1_reset 20 = .ok (.iastore, 1) := by decide +kernel
theorem dX1_reset_21 : decode cX1_reset 21 = .ok (.aload_n 0, 1) := by decide +kernel
theorem dX1_reset_22 : decode cX1_reset 22 = .ok (.getfield 19, 3) := by decide +kernel
theorem dX1_reset_25 : decode cX1_reset 25 = .ok (.iload_n 1, 1) := by decide +kernel
theorem dX1_reset_26 : decode cX1_reset 26 = .ok (.iconst 0, 1) := by decide +kernel
theorem dX1_reset_27 : decode cX1_reset 27 = .ok (.iastore, 1) := by decide +kernel
theorem dX1_reset_28 : decode cX1_reset 28 = .ok (.aload_n 0, 1) := by decide +kernel
theorem dX1_reset_29 : decode cX1_reset 29 = .ok (.getfield 22, 3) := by decide +kernel
theorem dX1_reset_32 : decode cX1_reset 32 = .ok (.iload_n 1, 1) := by decide +kernel
theorem dX1_reset_33 : decode cX1_reset 33 = .ok (.iconst 0, 1) := by decide +kernel
theorem dX1_reset_34 : decode cX1_reset 34 = .ok (.iastore, 1) := by decide +kernel
theorem dX1_reset_35 : decode cX1_reset 35 = .ok (.aload_n 0, 1) := by decide +kernel
theorem dX1_reset_36 : decode cX1_reset 36 = .ok (.getfield 25, 3) := by decide +kernel
theorem dX1_reset_39 : decode cX1_reset 39 = .ok (.iload_n 1, 1) := by decide +kernel
theorem dX1_reset_40 : decode cX1_reset 40 = .ok (.iconst 0, 1) := by decide +kernel
theorem dX1_reset_41 : decode cX1_reset 41 = .ok (.iastore, 1) := by decide +kernel
theorem dX1_reset_42 : decode cX1_reset 42 = .ok (.aload_n 0, 1) := by decide +kernel
theorem dX1_reset_43 : decode cX1_reset 43 = .ok (.getfield 28, 3) := by decide +kernel
theorem dX1_reset_46 : decode cX1_reset 46 = .ok (.iload_n 1, 1) := by decide +kernel
theorem dX1_reset_47 : decode cX1_reset 47 = .ok (.iconst 0, 1) := by decide +kernel
theorem dX1_reset_48 : decode cX1_reset 48 = .ok (.bastore, 1) := by decide +kernel
theorem dX1_reset_49 : decode cX1_reset 49 = .ok (.aload_n 0, 1) := by decide +kernel
theorem dX1_reset_50 : decode cX1_reset 50 = .ok (.getfield 32, 3) := by decide +kernel
theorem dX1_reset_53 : decode cX1_reset 53 = .ok (.iload_n 1, 1) := by decide +kernel
theorem dX1_reset_54 : decode cX1_reset 54 = .ok (.iconst 0, 1) := by decide +kernel
theorem dX1_reset_55 : decode cX1_reset 55 = .ok (.bastore, 1) := by decide +kernel
theorem dX1_reset_56 : decode cX1_reset 56 = .ok (.aload_n 0, 1) := by decide +kernel
theorem dX1_reset_57 : decode cX1_reset 57 = .ok (.getfield 35, 3) := by decide +kernel
theorem dX1_reset_60 : decode cX1_reset 60 = .ok (.iload_n 1, 1) := by decide +kernel
theorem dX1_reset_61 : decode cX1_reset 61 = .ok (.iconst 0, 1) := by decide +kernel
theorem dX1_reset_62 : decode cX1_reset 62 = .ok (.iastore, 1) := by decide +kernel
theorem dX1_reset_63 : decode cX1_reset 63 = .ok (.aload_n 0, 1) := by decide +kernel
theorem dX1_reset_64 : decode cX1_reset 64 = .ok (.getfield 38, 3) := by decide +kernel
theorem dX1_reset_67 : decode cX1_reset 67 = .ok (.iload_n 1, 1) := by decide +kernel
theorem dX1_reset_68 : decode cX1_reset 68 = .ok (.iconst 0, 1) := by decide +kernel
theorem dX1_reset_69 : decode cX1_reset 69 = .ok (.iastore, 1) := by decide +kernel
theorem dX1_reset_70 : decode cX1_reset 70 = .ok (.aload_n 0, 1) := by decide +kernel
theorem dX1_reset_71 : decode cX1_reset 71 = .ok (.getfield 44, 3) := by decide +kernel
theorem dX1_reset_74 : decode cX1_reset 74 = .ok (.iload_n 1, 1) := by decide +kernel
theorem dX1_reset_75 : decode cX1_reset 75 = .ok (.iconst 0, 1) := by decide +kernel
theorem dX1_reset_76 : decode cX1_reset 76 = .ok (.iastore, 1) := by decide +kernel
theorem dX1_reset_77 : decode cX1_reset 77 = .ok (.aload_n 0, 1) := by decide +kernel
theorem dX1_reset_78 : decode cX1_reset 78 = .ok (.getfield 47, 3) := by decide +kernel
theorem dX1_reset_81 : decode cX1_reset 81 = .ok (.iload_n 1, 1) := by decide +kernel
theorem dX1_reset_82 : decode cX1_reset 82 = .ok (.iconst 0, 1) := by decide +kernel
theorem dX1_reset_83 : decode cX1_reset 83 = .ok (.iastore, 1) := by decide +kernel
theorem dX1_reset_84 : decode cX1_reset 84 = .ok (.iinc 1 1, 3) := by decide +kernel
theorem dX1_reset_87 : decode cX1_reset 87 = .ok (.goto (-85), 3) := by decide +kernel
theorem dX1_reset_90 : decode cX1_reset 90 = .ok (.return_, 1) := by decide +kernel
abbrev cX1_carry : ByteArray := prog_1_method_29_code
def yX1_carry : MethodName := ⟨RX1, "carry", "(III)I"⟩
theorem dX1_carry_0 : decode cX1_carry 0 = .ok (.iload_n 1, 1) := by decide +kernel
theorem dX1_carry_1 : decode cX1_carry 1 = .ok (.invokestatic 110, 3) := by decide +kernel
theorem dX1_carry_4 : decode cX1_carry 4 = .ok (.ifCond .eq 5, 3) := by decide +kernel
theorem dX1_carry_7 : decode cX1_carry 7 = .ok (.iconst (-1), 1) := by decide +kernel
theorem dX1_carry_8 : decode cX1_carry 8 = .ok (.ireturn, 1) := by decide +kernel
theorem dX1_carry_9 : decode cX1_carry 9 = .ok (.aload_n 0, 1) := by decide +kernel
theorem dX1_carry_10 : decode cX1_carry 10 = .ok (.getfield 47, 3) := by decide +kernel
theorem dX1_carry_13 : decode cX1_carry 13 = .ok (.iload_n 1, 1) := by decide +kernel
theorem dX1_carry_14 : decode cX1_carry 14 = .ok (.iaload, 1) := by decide +kernel
theorem dX1_carry_15 : decode cX1_carry 15 = .ok (.ifCond .ne 5, 3) := by decide +kernel
theorem dX1_carry_18 : decode cX1_carry 18 = .ok (.iconst 0, 1) := by decide +kernel
theorem dX1_carry_19 : decode cX1_carry 19 = .ok (.ireturn, 1) := by decide +kernel
theorem dX1_carry_20 : decode cX1_carry 20 = .ok (.iload_n 2, 1) := by decide +kernel
theorem dX1_carry_21 : decode cX1_carry 21 = .ok (.iconst 1, 1) := by decide +kernel
theorem dX1_carry_22 : decode cX1_carry 22 = .ok (.if_icmp .ne 12, 3) := by decide +kernel
theorem dX1_carry_25 : decode cX1_carry 25 = .ok (.aload_n 0, 1) := by decide +kernel
theorem dX1_carry_26 : decode cX1_carry 26 = .ok (.iload_n 1, 1) := by decide +kernel
theorem dX1_carry_27 : decode cX1_carry 27 = .ok (.invokevirtual 91, 3) := by decide +kernel
theorem dX1_carry_30 : decode cX1_carry 30 = .ok (.pop, 1) := by decide +kernel
theorem dX1_carry_31 : decode cX1_carry 31 = .ok (.goto 87, 3) := by decide +kernel
theorem dX1_carry_34 : decode cX1_carry 34 = .ok (.iload_n 2, 1) := by decide +kernel
theorem dX1_carry_35 : decode cX1_carry 35 = .ok (.iconst 2, 1) := by decide +kernel
theorem dX1_carry_36 : decode cX1_carry 36 = .ok (.if_icmp .ne 46, 3) := by decide +kernel
theorem dX1_carry_39 : decode cX1_carry 39 = .ok (.iload_n 3, 1) := by decide +kernel
theorem dX1_carry_40 : decode cX1_carry 40 = .ok (.bipush 25, 2) := by decide +kernel
theorem dX1_carry_42 : decode cX1_carry 42 = .ok (.irem, 1) := by decide +kernel
theorem dX1_carry_43 : decode cX1_carry 43 = .ok (.istore 4, 2) := by decide +kernel
theorem dX1_carry_45 : decode cX1_carry 45 = .ok (.aload_n 0, 1) := by decide +kernel
theorem dX1_carry_46 : decode cX1_carry 46 = .ok (.getfield 50, 3) := by decide +kernel
theorem dX1_carry_49 : decode cX1_carry 49 = .ok (.iload_n 1, 1) := by decide +kernel
theorem dX1_carry_50 : decode cX1_carry 50 = .ok (.bipush 16, 2) := by decide +kernel
theorem dX1_carry_52 : decode cX1_carry 52 = .ok (.imul, 1) := by decide +kernel
theorem dX1_carry_53 : decode cX1_carry 53 = .ok (.dup2, 1) := by decide +kernel
theorem dX1_carry_54 : decode cX1_carry 54 = .ok (.iaload, 1) := by decide +kernel
theorem dX1_carry_55 : decode cX1_carry 55 = .ok (.iconst 1, 1) := by decide +kernel
theorem dX1_carry_56 : decode cX1_carry 56 = .ok (.iload 4, 2) := by decide +kernel
theorem dX1_carry_58 : decode cX1_carry 58 = .ok (.ifCond .ge 11, 3) := by decide +kernel
theorem dX1_carry_61 : decode cX1_carry 61 = .ok (.iload 4, 2) := by decide +kernel
theorem dX1_carry_63 : decode cX1_carry 63 = .ok (.bipush 25, 2) := by decide +kernel
theorem dX1_carry_65 : decode cX1_carry 65 = .ok (.iadd, 1) := by decide +kernel
theorem dX1_carry_66 : decode cX1_carry 66 = .ok (.goto 5, 3) := by decide +kernel
theorem dX1_carry_69 : decode cX1_carry 69 = .ok (.iload 4, 2) := by decide +kernel
theorem dX1_carry_71 : decode cX1_carry 71 = .ok (.ishl, 1) := by decide +kernel
theorem dX1_carry_72 : decode cX1_carry 72 = .ok (.ixor, 1) := by decide +kernel
theorem dX1_carry_73 : decode cX1_carry 73 = .ok (.iastore, 1) := by decide +kernel
theorem dX1_carry_74 : decode cX1_carry 74 = .ok (.aload_n 0, 1) := by decide +kernel
theorem dX1_carry_75 : decode cX1_carry 75 = .ok (.iload_n 1, 1) := by decide +kernel
theorem dX1_carry_76 : decode cX1_carry 76 = .ok (.invokevirtual 100, 3) := by decide +kernel
theorem dX1_carry_79 : decode cX1_carry 79 = .ok (.goto 39, 3) := by decide +kernel
theorem dX1_carry_82 : decode cX1_carry 82 = .ok (.iload_n 2, 1) := by decide +kernel
theorem dX1_carry_83 : decode cX1_carry 83 = .ok (.iconst 3, 1) := by decide +kernel
theorem dX1_carry_84 : decode cX1_carry 84 = .ok (.if_icmp .ne 29, 3) := by decide +kernel
theorem dX1_carry_87 : decode cX1_carry 87 = .ok (.aload_n 0, 1) := by decide +kernel
theorem dX1_carry_88 : decode cX1_carry 88 = .ok (.iconst 1, 1) := by decide +kernel
theorem dX1_carry_89 : decode cX1_carry 89 = .ok (.iload_n 1, 1) := by decide +kernel
theorem dX1_carry_90 : decode cX1_carry 90 = .ok (.isub, 1) := by decide +kernel
theorem dX1_carry_91 : decode cX1_carry 91 = .ok (.aload_n 0, 1) := by decide +kernel
theorem dX1_carry_92 : decode cX1_carry 92 = .ok (.getfield 50, 3) := by decide +kernel
theorem dX1_carry_95 : decode cX1_carry 95 = .ok (.iload_n 1, 1) := by decide +kernel
theorem dX1_carry_96 : decode cX1_carry 96 = .ok (.bipush 16, 2) := by decide +kernel
theorem dX1_carry_98 : decode cX1_carry 98 = .ok (.imul, 1) := by decide +kernel
theorem dX1_carry_99 : decode cX1_carry 99 = .ok (.iaload, 1) := by decide +kernel
theorem dX1_carry_100 : decode cX1_carry 100 = .ok (.invokevirtual 94, 3) := by decide +kernel
theorem dX1_carry_103 : decode cX1_carry 103 = .ok (.aload_n 0, 1) := by decide +kernel
theorem dX1_carry_104 : decode cX1_carry 104 = .ok (.iconst 1, 1) := by decide +kernel
theorem dX1_carry_105 : decode cX1_carry 105 = .ok (.iload_n 1, 1) := by decide +kernel
theorem dX1_carry_106 : decode cX1_carry 106 = .ok (.isub, 1) := by decide +kernel
theorem dX1_carry_107 : decode cX1_carry 107 = .ok (.invokevirtual 97, 3) := by decide +kernel
theorem dX1_carry_110 : decode cX1_carry 110 = .ok (.goto 8, 3) := by decide +kernel
theorem dX1_carry_113 : decode cX1_carry 113 = .ok (.aload_n 0, 1) := by decide +kernel
theorem dX1_carry_114 : decode cX1_carry 114 = .ok (.iload_n 1, 1) := by decide +kernel
theorem dX1_carry_115 : decode cX1_carry 115 = .ok (.invokevirtual 100, 3) := by decide +kernel
theorem dX1_carry_118 : decode cX1_carry 118 = .ok (.iconst 0, 1) := by decide +kernel
theorem dX1_carry_119 : decode cX1_carry 119 = .ok (.ireturn, 1) := by decide +kernel
abbrev cX1_fire : ByteArray := prog_1_method_30_code
def yX1_fire : MethodName := ⟨RX1, "fire", "(I)I"⟩
theorem dX1_fire_0 : decode cX1_fire 0 = .ok (.iload_n 1, 1) := by decide +kernel
theorem dX1_fire_1 : decode cX1_fire 1 = .ok (.invokestatic 110, 3) := by decide +kernel
theorem dX1_fire_4 : decode cX1_fire 4 = .ok (.ifCond .eq 5, 3) := by decide +kernel
theorem dX1_fire_7 : decode cX1_fire 7 = .ok (.iconst (-1), 1) := by decide +kernel
theorem dX1_fire_8 : decode cX1_fire 8 = .ok (.ireturn, 1) := by decide +kernel
theorem dX1_fire_9 : decode cX1_fire 9 = .ok (.aload_n 0, 1) := by decide +kernel
theorem dX1_fire_10 : decode cX1_fire 10 = .ok (.getfield 28, 3) := by decide +kernel
theorem dX1_fire_13 : decode cX1_fire 13 = .ok (.iload_n 1, 1) := by decide +kernel
theorem dX1_fire_14 : decode cX1_fire 14 = .ok (.iconst 0, 1) := by decide +kernel
theorem dX1_fire_15 : decode cX1_fire 15 = .ok (.bastore, 1) := by decide +kernel
theorem dX1_fire_16 : decode cX1_fire 16 = .ok (.aload_n 0, 1) := by decide +kernel
theorem dX1_fire_17 : decode cX1_fire 17 = .ok (.iload_n 1, 1) := by decide +kernel
theorem dX1_fire_18 : decode cX1_fire 18 = .ok (.invokevirtual 88, 3) := by decide +kernel
theorem dX1_fire_21 : decode cX1_fire 21 = .ok (.iconst 0, 1) := by decide +kernel
theorem dX1_fire_22 : decode cX1_fire 22 = .ok (.ireturn, 1) := by decide +kernel
abbrev cX1_waiting : ByteArray := prog_1_method_31_code
def yX1_waiting : MethodName := ⟨RX1, "waiting", "(I)I"⟩
theorem dX1_waiting_0 : decode cX1_waiting 0 = .ok (.iload_n 1, 1) := by decide +kernel
theorem dX1_waiting_1 : decode cX1_waiting 1 = .ok (.invokestatic 110, 3) := by decide +kernel
theorem dX1_waiting_4 : decode cX1_waiting 4 = .ok (.ifCond .eq 7, 3) := by decide +kernel
theorem dX1_waiting_7 : decode cX1_waiting 7 = .ok (.iconst (-1), 1) := by decide +kernel
theorem dX1_waiting_8 : decode cX1_waiting 8 = .ok (.goto 8, 3) := by decide +kernel
theorem dX1_waiting_11 : decode cX1_waiting 11 = .ok (.aload_n 0, 1) := by decide +kernel
theorem dX1_waiting_12 : decode cX1_waiting 12 = .ok (.iload_n 1, 1) := by decide +kernel
theorem dX1_waiting_13 : decode cX1_waiting 13 = .ok (.invokevirtual 119, 3) := by decide +kernel
theorem dX1_waiting_16 : decode cX1_waiting 16 = .ok (.ireturn, 1) := by decide +kernel
abbrev cX1_messages : ByteArray := prog_1_method_32_code
def yX1_messages : MethodName := ⟨RX1, "messages", "(I)I"⟩
theorem dX1_messages_0 : decode cX1_messages 0 = .ok (.iload_n 1, 1) := by decide +kernel
theorem dX1_messages_1 : decode cX1_messages 1 = .ok (.invokestatic 110, 3) := by decide +kernel
theorem dX1_messages_4 : decode cX1_messages 4 = .ok (.ifCond .eq 5, 3) := by decide +kernel
theorem dX1_messages_7 : decode cX1_messages 7 = .ok (.iconst (-1), 1) := by decide +kernel
theorem dX1_messages_8 : decode cX1_messages 8 = .ok (.ireturn, 1) := by decide +kernel
theorem dX1_messages_9 : decode cX1_messages 9 = .ok (.aload_n 0, 1) := by decide +kernel
theorem dX1_messages_10 : decode cX1_messages 10 = .ok (.invokevirtual 116, 3) := by decide +kernel
theorem dX1_messages_13 : decode cX1_messages 13 = .ok (.aload_n 0, 1) := by decide +kernel
theorem dX1_messages_14 : decode cX1_messages 14 = .ok (.iload_n 1, 1) := by decide +kernel
theorem dX1_messages_15 : decode cX1_messages 15 = .ok (.invokevirtual 129, 3) := by decide +kernel
theorem dX1_messages_18 : decode cX1_messages 18 = .ok (.ireturn, 1) := by decide +kernel
abbrev cX1_peek : ByteArray := prog_1_method_33_code
def yX1_peek : MethodName := ⟨RX1, "peek", "(II)I"⟩
theorem dX1_peek_0 : decode cX1_peek 0 = .ok (.iload_n 1, 1) := by decide +kernel
theorem dX1_peek_1 : decode cX1_peek 1 = .ok (.invokestatic 110, 3) := by decide +kernel
theorem dX1_peek_4 : decode cX1_peek 4 = .ok (.ifCond .eq 5, 3) := by decide +kernel
theorem dX1_peek_7 : decode cX1_peek 7 = .ok (.iconst (-1), 1) := by decide +kernel
theorem dX1_peek_8 : decode cX1_peek 8 = .ok (.ireturn, 1) := by decide +kernel
theorem dX1_peek_9 : decode cX1_peek 9 = .ok (.aload_n 0, 1) := by decide +kernel
theorem dX1_peek_10 : decode cX1_peek 10 = .ok (.iload_n 1, 1) := by decide +kernel
theorem dX1_peek_11 : decode cX1_peek 11 = .ok (.invokevirtual 119, 3) := by decide +kernel
theorem dX1_peek_14 : decode cX1_peek 14 = .ok (.istore_n 3, 1) := by decide +kernel
theorem dX1_peek_15 : decode cX1_peek 15 = .ok (.iload_n 2, 1) := by decide +kernel
theorem dX1_peek_16 : decode cX1_peek 16 = .ok (.ifCond .lt 8, 3) := by decide +kernel
theorem dX1_peek_19 : decode cX1_peek 19 = .ok (.iload_n 2, 1) := by decide +kernel
theorem dX1_peek_20 : decode cX1_peek 20 = .ok (.iload_n 3, 1) := by decide +kernel
theorem dX1_peek_21 : decode cX1_peek 21 = .ok (.if_icmp .lt 8, 3) := by decide +kernel
theorem dX1_peek_24 : decode cX1_peek 24 = .ok (.bipush (-3), 2) := by decide +kernel
theorem dX1_peek_26 : decode cX1_peek 26 = .ok (.goto 13, 3) := by decide +kernel
theorem dX1_peek_29 : decode cX1_peek 29 = .ok (.aload_n 0, 1) := by decide +kernel
theorem dX1_peek_30 : decode cX1_peek 30 = .ok (.iload_n 1, 1) := by decide +kernel
theorem dX1_peek_31 : decode cX1_peek 31 = .ok (.iload_n 2, 1) := by decide +kernel
theorem dX1_peek_32 : decode cX1_peek 32 = .ok (.invokevirtual 125, 3) := by decide +kernel
theorem dX1_peek_35 : decode cX1_peek 35 = .ok (.sipush 255, 3) := by decide +kernel
theorem dX1_peek_38 : decode cX1_peek 38 = .ok (.iand, 1) := by decide +kernel
theorem dX1_peek_39 : decode cX1_peek 39 = .ok (.ireturn, 1) := by decide +kernel
abbrev cX1_ends : ByteArray := prog_1_method_34_code
def yX1_ends : MethodName := ⟨RX1, "ends", "(II)Z"⟩
theorem dX1_ends_0 : decode cX1_ends 0 = .ok (.iload_n 1, 1) := by decide +kernel
theorem dX1_ends_1 : decode cX1_ends 1 = .ok (.invokestatic 110, 3) := by decide +kernel
theorem dX1_ends_4 : decode cX1_ends 4 = .ok (.ifCond .eq 5, 3) := by decide +kernel
theorem dX1_ends_7 : decode cX1_ends 7 = .ok (.iconst 0, 1) := by decide +kernel
theorem dX1_ends_8 : decode cX1_ends 8 = .ok (.ireturn, 1) := by decide +kernel
theorem dX1_ends_9 : decode cX1_ends 9 = .ok (.aload_n 0, 1) := by decide +kernel
theorem dX1_ends_10 : decode cX1_ends 10 = .ok (.iload_n 1, 1) := by decide +kernel
theorem dX1_ends_11 : decode cX1_ends 11 = .ok (.invokevirtual 119, 3) := by decide +kernel
theorem dX1_ends_14 : decode cX1_ends 14 = .ok (.istore_n 3, 1) := by decide +kernel
theorem dX1_ends_15 : decode cX1_ends 15 = .ok (.iload_n 2, 1) := by decide +kernel
theorem dX1_ends_16 : decode cX1_ends 16 = .ok (.ifCond .lt 24, 3) := by decide +kernel
theorem dX1_ends_19 : decode cX1_ends 19 = .ok (.iload_n 2, 1) := by decide +kernel
theorem dX1_ends_20 : decode cX1_ends 20 = .ok (.iload_n 3, 1) := by decide +kernel
theorem dX1_ends_21 : decode cX1_ends 21 = .ok (.if_icmp .ge 19, 3) := by decide +kernel
theorem dX1_ends_24 : decode cX1_ends 24 = .ok (.aload_n 0, 1) := by decide +kernel
theorem dX1_ends_25 : decode cX1_ends 25 = .ok (.iload_n 1, 1) := by decide +kernel
theorem dX1_ends_26 : decode cX1_ends 26 = .ok (.iload_n 2, 1) := by decide +kernel
theorem dX1_ends_27 : decode cX1_ends 27 = .ok (.invokevirtual 125, 3) := by decide +kernel
theorem dX1_ends_30 : decode cX1_ends 30 = .ok (.sipush 255, 3) := by decide +kernel
theorem dX1_ends_33 : decode cX1_ends 33 = .ok (.if_icmp .le 7, 3) := by decide +kernel
theorem dX1_ends_36 : decode cX1_ends 36 = .ok (.iconst 1, 1) := by decide +kernel
theorem dX1_ends_37 : decode cX1_ends 37 = .ok (.goto 4, 3) := by decide +kernel
theorem dX1_ends_40 : decode cX1_ends 40 = .ok (.iconst 0, 1) := by decide +kernel
theorem dX1_ends_41 : decode cX1_ends 41 = .ok (.ireturn, 1) := by decide +kernel
abbrev cX1_done : ByteArray := prog_1_method_35_code
def yX1_done : MethodName := ⟨RX1, "done", "(I)I"⟩
theorem dX1_done_0 : decode cX1_done 0 = .ok (.iload_n 1, 1) := by decide +kernel
theorem dX1_done_1 : decode cX1_done 1 = .ok (.invokestatic 110, 3) := by decide +kernel
theorem dX1_done_4 : decode cX1_done 4 = .ok (.ifCond .eq 7, 3) := by decide +kernel
theorem dX1_done_7 : decode cX1_done 7 = .ok (.iconst (-1), 1) := by decide +kernel
theorem dX1_done_8 : decode cX1_done 8 = .ok (.goto 9, 3) := by decide +kernel
theorem dX1_done_11 : decode cX1_done 11 = .ok (.aload_n 0, 1) := by decide +kernel
theorem dX1_done_12 : decode cX1_done 12 = .ok (.getfield 44, 3) := by decide +kernel
theorem dX1_done_15 : decode cX1_done 15 = .ok (.iload_n 1, 1) := by decide +kernel
theorem dX1_done_16 : decode cX1_done 16 = .ok (.iaload, 1) := by decide +kernel
theorem dX1_done_17 : decode cX1_done 17 = .ok (.ireturn, 1) := by decide +kernel
abbrev cX1_sum : ByteArray := prog_1_method_36_code
def yX1_sum : MethodName := ⟨RX1, "sum", "(I)I"⟩
theorem dX1_sum_0 : decode cX1_sum 0 = .ok (.iload_n 1, 1) := by decide +kernel
theorem dX1_sum_1 : decode cX1_sum 1 = .ok (.invokestatic 110, 3) := by decide +kernel
theorem dX1_sum_4 : decode cX1_sum 4 = .ok (.ifCond .eq 5, 3) := by decide +kernel
theorem dX1_sum_7 : decode cX1_sum 7 = .ok (.iconst (-1), 1) := by decide +kernel
theorem dX1_sum_8 : decode cX1_sum 8 = .ok (.ireturn, 1) := by decide +kernel
theorem dX1_sum_9 : decode cX1_sum 9 = .ok (.aload_n 0, 1) := by decide +kernel
theorem dX1_sum_10 : decode cX1_sum 10 = .ok (.iload_n 1, 1) := by decide +kernel
theorem dX1_sum_11 : decode cX1_sum 11 = .ok (.invokevirtual 119, 3) := by decide +kernel
theorem dX1_sum_14 : decode cX1_sum 14 = .ok (.istore_n 2, 1) := by decide +kernel
theorem dX1_sum_15 : decode cX1_sum 15 = .ok (.iconst 0, 1) := by decide +kernel
theorem dX1_sum_16 : decode cX1_sum 16 = .ok (.istore_n 3, 1) := by decide +kernel
theorem dX1_sum_17 : decode cX1_sum 17 = .ok (.iconst 0, 1) := by decide +kernel
theorem dX1_sum_18 : decode cX1_sum 18 = .ok (.istore 4, 2) := by decide +kernel
theorem dX1_sum_20 : decode cX1_sum 20 = .ok (.iload 4, 2) := by decide +kernel
theorem dX1_sum_22 : decode cX1_sum 22 = .ok (.iload_n 2, 1) := by decide +kernel
theorem dX1_sum_23 : decode cX1_sum 23 = .ok (.if_icmp .ge 23, 3) := by decide +kernel
theorem dX1_sum_26 : decode cX1_sum 26 = .ok (.iload_n 3, 1) := by decide +kernel
theorem dX1_sum_27 : decode cX1_sum 27 = .ok (.aload_n 0, 1) := by decide +kernel
theorem dX1_sum_28 : decode cX1_sum 28 = .ok (.iload_n 1, 1) := by decide +kernel
theorem dX1_sum_29 : decode cX1_sum 29 = .ok (.iload 4, 2) := by decide +kernel
theorem dX1_sum_31 : decode cX1_sum 31 = .ok (.invokevirtual 125, 3) := by decide +kernel
theorem dX1_sum_34 : decode cX1_sum 34 = .ok (.sipush 255, 3) := by decide +kernel
theorem dX1_sum_37 : decode cX1_sum 37 = .ok (.iand, 1) := by decide +kernel
theorem dX1_sum_38 : decode cX1_sum 38 = .ok (.iadd, 1) := by decide +kernel
theorem dX1_sum_39 : decode cX1_sum 39 = .ok (.istore_n 3, 1) := by decide +kernel
theorem dX1_sum_40 : decode cX1_sum 40 = .ok (.iinc 4 1, 3) := by decide +kernel
theorem dX1_sum_43 : decode cX1_sum 43 = .ok (.goto (-23), 3) := by decide +kernel
theorem dX1_sum_46 : decode cX1_sum 46 = .ok (.iload_n 3, 1) := by decide +kernel
theorem dX1_sum_47 : decode cX1_sum 47 = .ok (.ireturn, 1) := by decide +kernel
end
section
/-! LossyLinkModel -/
set_option maxRecDepth 100000
def RX2 : String := "LossyLinkModel"
def TX2 : u_T := fun k => match k with
  | 0 => ("LossyLinkModel", "bytes", "[I", true)
  | 1 => ("LossyLinkModel", "marked", "[Z", true)
  | 2 => ("LossyLinkModel", "counts", "[I", true)
  | _ => ("LossyLinkModel", "gone", "[I", true)
def tyX2 : Nat → FieldType := fun k => match k with
  | 0 => .array .int
  | 1 => .array .boolean
  | 2 => .array .int
  | _ => .array .int
abbrev wsX20 : List Cond := u_ws RX2 TX2 4
theorem nmX2 : ∀ a, a < 4 → ∀ b, b < 4 → a ≠ b → (TX2 a).2.1 ≠ (TX2 b).2.1 := by decide +kernel
theorem tyX2_ok : ∀ k, k < 4 → parseFieldDescriptor (TX2 k).2.2.1 = some (tyX2 k) := by decide +kernel
abbrev cX2_init : ByteArray := prog_3_method_1_code
def yX2_init : MethodName := ⟨RX2, "<init>", "(I)V"⟩
theorem dX2_init_0 : decode cX2_init 0 = .ok (.aload_n 0, 1) := by decide +kernel
theorem dX2_init_1 : decode cX2_init 1 = .ok (.invokespecial 1, 3) := by decide +kernel
theorem dX2_init_4 : decode cX2_init 4 = .ok (.aload_n 0, 1) := by decide +kernel
theorem dX2_init_5 : decode cX2_init 5 = .ok (.bipush 60, 2) := by decide +kernel
theorem dX2_init_7 : decode cX2_init 7 = .ok (.newarray .int, 2) := by decide +kernel
theorem dX2_init_9 : decode cX2_init 9 = .ok (.putfield 7, 3) := by decide +kernel
theorem dX2_init_12 : decode cX2_init 12 = .ok (.aload_n 0, 1) := by decide +kernel
theorem dX2_init_13 : decode cX2_init 13 = .ok (.bipush 60, 2) := by decide +kernel
theorem dX2_init_15 : decode cX2_init 15 = .ok (.newarray .boolean, 2) := by decide +kernel
theorem dX2_init_17 : decode cX2_init 17 = .ok (.putfield 13, 3) := by decide +kernel
theorem dX2_init_20 : decode cX2_init 20 = .ok (.aload_n 0, 1) := by decide +kernel
theorem dX2_init_21 : decode cX2_init 21 = .ok (.iconst 2, 1) := by decide +kernel
theorem dX2_init_22 : decode cX2_init 22 = .ok (.newarray .int, 2) := by decide +kernel
theorem dX2_init_24 : decode cX2_init 24 = .ok (.putfield 17, 3) := by decide +kernel
theorem dX2_init_27 : decode cX2_init 27 = .ok (.aload_n 0, 1) := by decide +kernel
theorem dX2_init_28 : decode cX2_init 28 = .ok (.iconst 2, 1) := by decide +kernel
theorem dX2_init_29 : decode cX2_init 29 = .ok (.newarray .int, 2) := by decide +kernel
theorem dX2_init_31 : decode cX2_init 31 = .ok (.putfield 20, 3) := by decide +kernel
theorem dX2_init_34 : decode cX2_init 34 = .ok (.return_, 1) := by decide +kernel
abbrev cX2_give : ByteArray := prog_3_method_3_code
def yX2_give : MethodName := ⟨RX2, "give", "(IIZ)I"⟩
theorem dX2_give_0 : decode cX2_give 0 = .ok (.aload_n 0, 1) := by decide +kernel
theorem dX2_give_1 : decode cX2_give 1 = .ok (.iload_n 1, 1) := by decide +kernel
theorem dX2_give_2 : decode cX2_give 2 = .ok (.invokevirtual 23, 3) := by decide +kernel
theorem dX2_give_5 : decode cX2_give 5 = .ok (.ifCond .eq 5, 3) := by decide +kernel
theorem dX2_give_8 : decode cX2_give 8 = .ok (.iconst (-1), 1) := by decide +kernel
theorem dX2_give_9 : decode cX2_give 9 = .ok (.ireturn, 1) := by decide +kernel
theorem dX2_give_10 : decode cX2_give 10 = .ok (.iload_n 2, 1) := by decide +kernel
theorem dX2_give_11 : decode cX2_give 11 = .ok (.ifCond .lt 10, 3) := by decide +kernel
theorem dX2_give_14 : decode cX2_give 14 = .ok (.iload_n 2, 1) := by decide +kernel
theorem dX2_give_15 : decode cX2_give 15 = .ok (.sipush 255, 3) := by decide +kernel
theorem dX2_give_18 : decode cX2_give 18 = .ok (.if_icmp .le 6, 3) := by decide +kernel
theorem dX2_give_21 : decode cX2_give 21 = .ok (.bipush (-4), 2) := by decide +kernel
theorem dX2_give_23 : decode cX2_give 23 = .ok (.ireturn, 1) := by decide +kernel
theorem dX2_give_24 : decode cX2_give 24 = .ok (.iconst 1, 1) := by decide +kernel
theorem dX2_give_25 : decode cX2_give 25 = .ok (.iload_n 1, 1) := by decide +kernel
theorem dX2_give_26 : decode cX2_give 26 = .ok (.isub, 1) := by decide +kernel
theorem dX2_give_27 : decode cX2_give 27 = .ok (.istore 4, 2) := by decide +kernel
theorem dX2_give_29 : decode cX2_give 29 = .ok (.aload_n 0, 1) := by decide +kernel
theorem dX2_give_30 : decode cX2_give 30 = .ok (.getfield 17, 3) := by decide +kernel
theorem dX2_give_33 : decode cX2_give 33 = .ok (.iload 4, 2) := by decide +kernel
theorem dX2_give_35 : decode cX2_give 35 = .ok (.iaload, 1) := by decide +kernel
theorem dX2_give_36 : decode cX2_give 36 = .ok (.bipush 30, 2) := by decide +kernel
theorem dX2_give_38 : decode cX2_give 38 = .ok (.if_icmp .ne 6, 3) := by decide +kernel
theorem dX2_give_41 : decode cX2_give 41 = .ok (.bipush (-2), 2) := by decide +kernel
theorem dX2_give_43 : decode cX2_give 43 = .ok (.ireturn, 1) := by decide +kernel
theorem dX2_give_44 : decode cX2_give 44 = .ok (.aload_n 0, 1) := by decide +kernel
theorem dX2_give_45 : decode cX2_give 45 = .ok (.getfield 7, 3) := by decide +kernel
theorem dX2_give_48 : decode cX2_give 48 = .ok (.iload 4, 2) := by decide +kernel
theorem dX2_give_50 : decode cX2_give 50 = .ok (.bipush 30, 2) := by decide +kernel
theorem dX2_give_52 : decode cX2_give 52 = .ok (.imul, 1) := by decide +kernel
theorem dX2_give_53 : decode cX2_give 53 = .ok (.aload_n 0, 1) := by decide +kernel
theorem dX2_give_54 : decode cX2_give 54 = .ok (.getfield 17, 3) := by decide +kernel
theorem dX2_give_57 : decode cX2_give 57 = .ok (.iload 4, 2) := by decide +kernel
theorem dX2_give_59 : decode cX2_give 59 = .ok (.iaload, 1) := by decide +kernel
theorem dX2_give_60 : decode cX2_give 60 = .ok (.iadd, 1) := by decide +kernel
theorem dX2_give_61 : decode cX2_give 61 = .ok (.iload_n 2, 1) := by decide +kernel
theorem dX2_give_62 : decode cX2_give 62 = .ok (.iastore, 1) := by decide +kernel
theorem dX2_give_63 : decode cX2_give 63 = .ok (.aload_n 0, 1) := by decide +kernel
theorem dX2_give_64 : decode cX2_give 64 = .ok (.getfield 13, 3) := by decide +kernel
theorem dX2_give_67 : decode cX2_give 67 = .ok (.iload 4, 2) := by decide +kernel
theorem dX2_give_69 : decode cX2_give 69 = .ok (.bipush 30, 2) := by decide +kernel
theorem dX2_give_71 : decode cX2_give 71 = .ok (.imul, 1) := by decide +kernel
theorem dX2_give_72 : decode cX2_give 72 = .ok (.aload_n 0, 1) := by decide +kernel
theorem dX2_give_73 : decode cX2_give 73 = .ok (.getfield 17, 3) := by decide +kernel
theorem dX2_give_76 : decode cX2_give 76 = .ok (.iload 4, 2) := by decide +kernel
theorem dX2_give_78 : decode cX2_give 78 = .ok (.iaload, 1) := by decide +kernel
theorem dX2_give_79 : decode cX2_give 79 = .ok (.iadd, 1) := by decide +kernel
theorem dX2_give_80 : decode cX2_give 80 = .ok (.iload_n 3, 1) := by decide +kernel
theorem dX2_give_81 : decode cX2_give 81 = .ok (.bastore, 1) := by decide +kernel
theorem dX2_give_82 : decode cX2_give 82 = .ok (.aload_n 0, 1) := by decide +kernel
theorem dX2_give_83 : decode cX2_give 83 = .ok (.getfield 17, 3) := by decide +kernel
theorem dX2_give_86 : decode cX2_give 86 = .ok (.iload 4, 2) := by decide +kernel
theorem dX2_give_88 : decode cX2_give 88 = .ok (.aload_n 0, 1) := by decide +kernel
theorem dX2_give_89 : decode cX2_give 89 = .ok (.getfield 17, 3) := by decide +kernel
theorem dX2_give_92 : decode cX2_give 92 = .ok (.iload 4, 2) := by decide +kernel
theorem dX2_give_94 : decode cX2_give 94 = .ok (.iaload, 1) := by decide +kernel
theorem dX2_give_95 : decode cX2_give 95 = .ok (.iconst 1, 1) := by decide +kernel
theorem dX2_give_96 : decode cX2_give 96 = .ok (.iadd, 1) := by decide +kernel
theorem dX2_give_97 : decode cX2_give 97 = .ok (.iastore, 1) := by decide +kernel
theorem dX2_give_98 : decode cX2_give 98 = .ok (.aload_n 0, 1) := by decide +kernel
theorem dX2_give_99 : decode cX2_give 99 = .ok (.getfield 17, 3) := by decide +kernel
theorem dX2_give_102 : decode cX2_give 102 = .ok (.iload 4, 2) := by decide +kernel
theorem dX2_give_104 : decode cX2_give 104 = .ok (.iaload, 1) := by decide +kernel
theorem dX2_give_105 : decode cX2_give 105 = .ok (.ireturn, 1) := by decide +kernel
abbrev cX2_bad : ByteArray := prog_3_method_2_code
def yX2_bad : MethodName := ⟨RX2, "bad", "(I)Z"⟩
theorem dX2_bad_0 : decode cX2_bad 0 = .ok (.iload_n 1, 1) := by decide +kernel
theorem dX2_bad_1 : decode cX2_bad 1 = .ok (.ifCond .lt 8, 3) := by decide +kernel
theorem dX2_bad_4 : decode cX2_bad 4 = .ok (.iload_n 1, 1) := by decide +kernel
theorem dX2_bad_5 : decode cX2_bad 5 = .ok (.iconst 1, 1) := by decide +kernel
theorem dX2_bad_6 : decode cX2_bad 6 = .ok (.if_icmp .le 7, 3) := by decide +kernel
theorem dX2_bad_9 : decode cX2_bad 9 = .ok (.iconst 1, 1) := by decide +kernel
theorem dX2_bad_10 : decode cX2_bad 10 = .ok (.goto 4, 3) := by decide +kernel
theorem dX2_bad_13 : decode cX2_bad 13 = .ok (.iconst 0, 1) := by decide +kernel
theorem dX2_bad_14 : decode cX2_bad 14 = .ok (.ireturn, 1) := by decide +kernel
abbrev cX2_take : ByteArray := prog_3_method_5_code
def yX2_take : MethodName := ⟨RX2, "take", "(I)I"⟩
theorem dX2_take_0 : decode cX2_take 0 = .ok (.aload_n 0, 1) := by decide +kernel
theorem dX2_take_1 : decode cX2_take 1 = .ok (.iload_n 1, 1) := by decide +kernel
theorem dX2_take_2 : decode cX2_take 2 = .ok (.invokevirtual 23, 3) := by decide +kernel
theorem dX2_take_5 : decode cX2_take 5 = .ok (.ifCond .eq 5, 3) := by decide +kernel
theorem dX2_take_8 : decode cX2_take 8 = .ok (.iconst (-1), 1) := by decide +kernel
theorem dX2_take_9 : decode cX2_take 9 = .ok (.ireturn, 1) := by decide +kernel
theorem dX2_take_10 : decode cX2_take 10 = .ok (.aload_n 0, 1) := by decide +kernel
theorem dX2_take_11 : decode cX2_take 11 = .ok (.getfield 17, 3) := by decide +kernel
theorem dX2_take_14 : decode cX2_take 14 = .ok (.iload_n 1, 1) := by decide +kernel
theorem dX2_take_15 : decode cX2_take 15 = .ok (.iaload, 1) := by decide +kernel
theorem dX2_take_16 : decode cX2_take 16 = .ok (.ifCond .ne 6, 3) := by decide +kernel
theorem dX2_take_19 : decode cX2_take 19 = .ok (.bipush (-3), 2) := by decide +kernel
theorem dX2_take_21 : decode cX2_take 21 = .ok (.ireturn, 1) := by decide +kernel
theorem dX2_take_22 : decode cX2_take 22 = .ok (.aload_n 0, 1) := by decide +kernel
theorem dX2_take_23 : decode cX2_take 23 = .ok (.getfield 7, 3) := by decide +kernel
theorem dX2_take_26 : decode cX2_take 26 = .ok (.iload_n 1, 1) := by decide +kernel
theorem dX2_take_27 : decode cX2_take 27 = .ok (.bipush 30, 2) := by decide +kernel
theorem dX2_take_29 : decode cX2_take 29 = .ok (.imul, 1) := by decide +kernel
theorem dX2_take_30 : decode cX2_take 30 = .ok (.iaload, 1) := by decide +kernel
theorem dX2_take_31 : decode cX2_take 31 = .ok (.istore_n 2, 1) := by decide +kernel
theorem dX2_take_32 : decode cX2_take 32 = .ok (.aload_n 0, 1) := by decide +kernel
theorem dX2_take_33 : decode cX2_take 33 = .ok (.iload_n 1, 1) := by decide +kernel
theorem dX2_take_34 : decode cX2_take 34 = .ok (.iconst 1, 1) := by decide +kernel
theorem dX2_take_35 : decode cX2_take 35 = .ok (.invokevirtual 27, 3) := by decide +kernel
theorem dX2_take_38 : decode cX2_take 38 = .ok (.iload_n 2, 1) := by decide +kernel
theorem dX2_take_39 : decode cX2_take 39 = .ok (.ireturn, 1) := by decide +kernel
abbrev cX2_off : ByteArray := prog_3_method_4_code
def yX2_off : MethodName := ⟨RX2, "off", "(II)V"⟩
theorem dX2_off_0 : decode cX2_off 0 = .ok (.iconst 0, 1) := by decide +kernel
theorem dX2_off_1 : decode cX2_off 1 = .ok (.istore_n 3, 1) := by decide +kernel
theorem dX2_off_2 : decode cX2_off 2 = .ok (.iload_n 3, 1) := by decide +kernel
theorem dX2_off_3 : decode cX2_off 3 = .ok (.iload_n 2, 1) := by decide +kernel
theorem dX2_off_4 : decode cX2_off 4 = .ok (.iadd, 1) := by decide +kernel
theorem dX2_off_5 : decode cX2_off 5 = .ok (.bipush 30, 2) := by decide +kernel
theorem dX2_off_7 : decode cX2_off 7 = .ok (.if_icmp .ge 57, 3) := by decide +kernel
theorem dX2_off_10 : decode cX2_off 10 = .ok (.aload_n 0, 1) := by decide +kernel
theorem dX2_off_11 : decode cX2_off 11 = .ok (.getfield 7, 3) := by decide +kernel
theorem dX2_off_14 : decode cX2_off 14 = .ok (.iload_n 1, 1) := by decide +kernel
theorem dX2_off_15 : decode cX2_off 15 = .ok (.bipush 30, 2) := by decide +kernel
theorem dX2_off_17 : decode cX2_off 17 = .ok (.imul, 1) := by decide +kernel
theorem dX2_off_18 : decode cX2_off 18 = .ok (.iload_n 3, 1) := by decide +kernel
theorem dX2_off_19 : decode cX2_off 19 = .ok (.iadd, 1) := by decide +kernel
theorem dX2_off_20 : decode cX2_off 20 = .ok (.aload_n 0, 1) := by decide +kernel
theorem dX2_off_21 : decode cX2_off 21 = .ok (.getfield 7, 3) := by decide +kernel
theorem dX2_off_24 : decode cX2_off 24 = .ok (.iload_n 1, 1) := by decide +kernel
theorem dX2_off_25 : decode cX2_off 25 = .ok (.bipush 30, 2) := by decide +kernel
theorem dX2_off_27 : decode cX2_off 27 = .ok (.imul, 1) := by decide +kernel
theorem dX2_off_28 : decode cX2_off 28 = .ok (.iload_n 3, 1) := by decide +kernel
theorem dX2_off_29 : decode cX2_off 29 = .ok (.iadd, 1) := by decide +kernel
theorem dX2_off_30 : decode cX2_off 30 = .ok (.iload_n 2, 1) := by decide +kernel
theorem dX2_off_31 : decode cX2_off 31 = .ok (.iadd, 1) := by decide +kernel
theorem dX2_off_32 : decode cX2_off 32 = .ok (.iaload, 1) := by decide +kernel
theorem dX2_off_33 : decode cX2_off 33 = .ok (.iastore, 1) := by decide +kernel
theorem dX2_off_34 : decode cX2_off 34 = .ok (.aload_n 0, 1) := by decide +kernel
theorem dX2_off_35 : decode cX2_off 35 = .ok (.getfield 13, 3) := by decide +kernel
theorem dX2_off_38 : decode cX2_off 38 = .ok (.iload_n 1, 1) := by decide +kernel
theorem dX2_off_39 : decode cX2_off 39 = .ok (.bipush 30, 2) := by decide +kernel
theorem dX2_off_41 : decode cX2_off 41 = .ok (.imul, 1) := by decide +kernel
theorem dX2_off_42 : decode cX2_off 42 = .ok (.iload_n 3, 1) := by decide +kernel
theorem dX2_off_43 : decode cX2_off 43 = .ok (.iadd, 1) := by decide +kernel
theorem dX2_off_44 : decode cX2_off 44 = .ok (.aload_n 0, 1) := by decide +kernel
theorem dX2_off_45 : decode cX2_off 45 = .ok (.getfield 13, 3) := by decide +kernel
theorem dX2_off_48 : decode cX2_off 48 = .ok (.iload_n 1, 1) := by decide +kernel
theorem dX2_off_49 : decode cX2_off 49 = .ok (.bipush 30, 2) := by decide +kernel
theorem dX2_off_51 : decode cX2_off 51 = .ok (.imul, 1) := by decide +kernel
theorem dX2_off_52 : decode cX2_off 52 = .ok (.iload_n 3, 1) := by decide +kernel
theorem dX2_off_53 : decode cX2_off 53 = .ok (.iadd, 1) := by decide +kernel
theorem dX2_off_54 : decode cX2_off 54 = .ok (.iload_n 2, 1) := by decide +kernel
theorem dX2_off_55 : decode cX2_off 55 = .ok (.iadd, 1) := by decide +kernel
theorem dX2_off_56 : decode cX2_off 56 = .ok (.baload, 1) := by decide +kernel
theorem dX2_off_57 : decode cX2_off 57 = .ok (.bastore, 1) := by decide +kernel
theorem dX2_off_58 : decode cX2_off 58 = .ok (.iinc 3 1, 3) := by decide +kernel
theorem dX2_off_61 : decode cX2_off 61 = .ok (.goto (-59), 3) := by decide +kernel
theorem dX2_off_64 : decode cX2_off 64 = .ok (.aload_n 0, 1) := by decide +kernel
theorem dX2_off_65 : decode cX2_off 65 = .ok (.getfield 17, 3) := by decide +kernel
theorem dX2_off_68 : decode cX2_off 68 = .ok (.iload_n 1, 1) := by decide +kernel
theorem dX2_off_69 : decode cX2_off 69 = .ok (.aload_n 0, 1) := by decide +kernel
theorem dX2_off_70 : decode cX2_off 70 = .ok (.getfield 17, 3) := by decide +kernel
theorem dX2_off_73 : decode cX2_off 73 = .ok (.iload_n 1, 1) := by decide +kernel
theorem dX2_off_74 : decode cX2_off 74 = .ok (.iaload, 1) := by decide +kernel
theorem dX2_off_75 : decode cX2_off 75 = .ok (.iload_n 2, 1) := by decide +kernel
theorem dX2_off_76 : decode cX2_off 76 = .ok (.isub, 1) := by decide +kernel
theorem dX2_off_77 : decode cX2_off 77 = .ok (.iastore, 1) := by decide +kernel
theorem dX2_off_78 : decode cX2_off 78 = .ok (.aload_n 0, 1) := by decide +kernel
theorem dX2_off_79 : decode cX2_off 79 = .ok (.getfield 20, 3) := by decide +kernel
theorem dX2_off_82 : decode cX2_off 82 = .ok (.iload_n 1, 1) := by decide +kernel
theorem dX2_off_83 : decode cX2_off 83 = .ok (.aload_n 0, 1) := by decide +kernel
theorem dX2_off_84 : decode cX2_off 84 = .ok (.getfield 20, 3) := by decide +kernel
theorem dX2_off_87 : decode cX2_off 87 = .ok (.iload_n 1, 1) := by decide +kernel
theorem dX2_off_88 : decode cX2_off 88 = .ok (.iaload, 1) := by decide +kernel
theorem dX2_off_89 : decode cX2_off 89 = .ok (.iload_n 2, 1) := by decide +kernel
theorem dX2_off_90 : decode cX2_off 90 = .ok (.iadd, 1) := by decide +kernel
theorem dX2_off_91 : decode cX2_off 91 = .ok (.iastore, 1) := by decide +kernel
theorem dX2_off_92 : decode cX2_off 92 = .ok (.return_, 1) := by decide +kernel
abbrev cX2_takeMessage : ByteArray := prog_3_method_6_code
def yX2_takeMessage : MethodName := ⟨RX2, "takeMessage", "(I)I"⟩
theorem dX2_takeMessage_0 : decode cX2_takeMessage 0 = .ok (.aload_n 0, 1) := by decide +kernel
theorem dX2_takeMessage_1 : decode cX2_takeMessage 1 = .ok (.iload_n 1, 1) := by decide +kernel
theorem dX2_takeMessage_2 : decode cX2_takeMessage 2 = .ok (.invokevirtual 23, 3) := by decide +kernel
theorem dX2_takeMessage_5 : decode cX2_takeMessage 5 = .ok (.ifCond .eq 5, 3) := by decide +kernel
theorem dX2_takeMessage_8 : decode cX2_takeMessage 8 = .ok (.iconst (-1), 1) := by decide +kernel
theorem dX2_takeMessage_9 : decode cX2_takeMessage 9 = .ok (.ireturn, 1) := by decide +kernel
theorem dX2_takeMessage_10 : decode cX2_takeMessage 10 = .ok (.iconst 0, 1) := by decide +kernel
theorem dX2_takeMessage_11 : decode cX2_takeMessage 11 = .ok (.istore_n 2, 1) := by decide +kernel
theorem dX2_takeMessage_12 : decode cX2_takeMessage 12 = .ok (.iload_n 2, 1) := by decide +kernel
theorem dX2_takeMessage_13 : decode cX2_takeMessage 13 = .ok (.aload_n 0, 1) := by decide +kernel
theorem dX2_takeMessage_14 : decode cX2_takeMessage 14 = .ok (.getfield 17, 3) := by decide +kernel
theorem dX2_takeMessage_17 : decode cX2_takeMessage 17 = .ok (.iload_n 1, 1) := by decide +kernel
theorem dX2_takeMessage_18 : decode cX2_takeMessage 18 = .ok (.iaload, 1) := by decide +kernel
theorem dX2_takeMessage_19 : decode cX2_takeMessage 19 = .ok (.if_icmp .ge 35, 3) := by decide +kernel
theorem dX2_takeMessage_22 : decode cX2_takeMessage 22 = .ok (.aload_n 0, 1) := by decide +kernel
theorem dX2_takeMessage_23 : decode cX2_takeMessage 23 = .ok (.getfield 13, 3) := by decide +kernel
theorem dX2_takeMessage_26 : decode cX2_takeMessage 26 = .ok (.iload_n 1, 1) := by decide +kernel
theorem dX2_takeMessage_27 : decode cX2_takeMessage 27 = .ok (.bipush 30, 2) := by decide +kernel
theorem dX2_takeMessage_29 : decode cX2_takeMessage 29 = .ok (.imul, 1) := by decide +kernel
theorem dX2_takeMessage_30 : decode cX2_takeMessage 30 = .ok (.iload_n 2, 1) := by decide +kernel
theorem dX2_takeMessage_31 : decode cX2_takeMessage 31 = .ok (.iadd, 1) := by decide +kernel
theorem dX2_takeMessage_32 : decode cX2_takeMessage 32 = .ok (.baload, 1) := by decide +kernel
theorem dX2_takeMessage_33 : decode cX2_takeMessage 33 = .ok (.ifCond .eq 15, 3) := by decide +kernel
theorem dX2_takeMessage_36 : decode cX2_takeMessage 36 = .ok (.aload_n 0, 1) := by decide +kernel
theorem dX2_takeMessage_37 : decode cX2_takeMessage 37 = .ok (.iload_n 1, 1) := by decide +kernel
theorem dX2_takeMessage_38 : decode cX2_takeMessage 38 = .ok (.iload_n 2, 1) := by decide +kernel
theorem dX2_takeMessage_39 : decode cX2_takeMessage 39 = .ok (.iconst 1, 1) := by decide +kernel
theorem dX2_takeMessage_40 : decode cX2_takeMessage 40 = .ok (.iadd, 1) := by decide +kernel
theorem dX2_takeMessage_41 : decode cX2_takeMessage 41 = .ok (.invokevirtual 27, 3) := by decide +kernel
theorem dX2_takeMessage_44 : decode cX2_takeMessage 44 = .ok (.iload_n 2, 1) := by decide +kernel
theorem dX2_takeMessage_45 : decode cX2_takeMessage 45 = .ok (.iconst 1, 1) := by decide +kernel
theorem dX2_takeMessage_46 : decode cX2_takeMessage 46 = .ok (.iadd, 1) := by decide +kernel
theorem dX2_takeMessage_47 : decode cX2_takeMessage 47 = .ok (.ireturn, 1) := by decide +kernel
theorem dX2_takeMessage_48 : decode cX2_takeMessage 48 = .ok (.iinc 2 1, 3) := by decide +kernel
theorem dX2_takeMessage_51 : decode cX2_takeMessage 51 = .ok (.goto (-39), 3) := by decide +kernel
theorem dX2_takeMessage_54 : decode cX2_takeMessage 54 = .ok (.bipush (-3), 2) := by decide +kernel
theorem dX2_takeMessage_56 : decode cX2_takeMessage 56 = .ok (.ireturn, 1) := by decide +kernel
abbrev cX2_skip : ByteArray := prog_3_method_7_code
def yX2_skip : MethodName := ⟨RX2, "skip", "(I)I"⟩
theorem dX2_skip_0 : decode cX2_skip 0 = .ok (.aload_n 0, 1) := by decide +kernel
theorem dX2_skip_1 : decode cX2_skip 1 = .ok (.iload_n 1, 1) := by decide +kernel
theorem dX2_skip_2 : decode cX2_skip 2 = .ok (.invokevirtual 23, 3) := by decide +kernel
theorem dX2_skip_5 : decode cX2_skip 5 = .ok (.ifCond .eq 5, 3) := by decide +kernel
theorem dX2_skip_8 : decode cX2_skip 8 = .ok (.iconst (-1), 1) := by decide +kernel
theorem dX2_skip_9 : decode cX2_skip 9 = .ok (.ireturn, 1) := by decide +kernel
theorem dX2_skip_10 : decode cX2_skip 10 = .ok (.aload_n 0, 1) := by decide +kernel
theorem dX2_skip_11 : decode cX2_skip 11 = .ok (.getfield 17, 3) := by decide +kernel
theorem dX2_skip_14 : decode cX2_skip 14 = .ok (.iload_n 1, 1) := by decide +kernel
theorem dX2_skip_15 : decode cX2_skip 15 = .ok (.iaload, 1) := by decide +kernel
theorem dX2_skip_16 : decode cX2_skip 16 = .ok (.istore_n 2, 1) := by decide +kernel
theorem dX2_skip_17 : decode cX2_skip 17 = .ok (.aload_n 0, 1) := by decide +kernel
theorem dX2_skip_18 : decode cX2_skip 18 = .ok (.iload_n 1, 1) := by decide +kernel
theorem dX2_skip_19 : decode cX2_skip 19 = .ok (.iload_n 2, 1) := by decide +kernel
theorem dX2_skip_20 : decode cX2_skip 20 = .ok (.invokevirtual 27, 3) := by decide +kernel
theorem dX2_skip_23 : decode cX2_skip 23 = .ok (.iload_n 2, 1) := by decide +kernel
theorem dX2_skip_24 : decode cX2_skip 24 = .ok (.ireturn, 1) := by decide +kernel
abbrev cX2_reset : ByteArray := prog_3_method_8_code
def yX2_reset : MethodName := ⟨RX2, "reset", "()V"⟩
theorem dX2_reset_0 : decode cX2_reset 0 = .ok (.aload_n 0, 1) := by decide +kernel
theorem dX2_reset_1 : decode cX2_reset 1 = .ok (.getfield 17, 3) := by decide +kernel
theorem dX2_reset_4 : decode cX2_reset 4 = .ok (.iconst 0, 1) := by decide +kernel
theorem dX2_reset_5 : decode cX2_reset 5 = .ok (.iconst 0, 1) := by decide +kernel
theorem dX2_reset_6 : decode cX2_reset 6 = .ok (.iastore, 1) := by decide +kernel
theorem dX2_reset_7 : decode cX2_reset 7 = .ok (.aload_n 0, 1) := by decide +kernel
theorem dX2_reset_8 : decode cX2_reset 8 = .ok (.getfield 17, 3) := by decide +kernel
theorem dX2_reset_11 : decode cX2_reset 11 = .ok (.iconst 1, 1) := by decide +kernel
theorem dX2_reset_12 : decode cX2_reset 12 = .ok (.iconst 0, 1) := by decide +kernel
theorem dX2_reset_13 : decode cX2_reset 13 = .ok (.iastore, 1) := by decide +kernel
theorem dX2_reset_14 : decode cX2_reset 14 = .ok (.aload_n 0, 1) := by decide +kernel
theorem dX2_reset_15 : decode cX2_reset 15 = .ok (.getfield 20, 3) := by decide +kernel
theorem dX2_reset_18 : decode cX2_reset 18 = .ok (.iconst 0, 1) := by decide +kernel
theorem dX2_reset_19 : decode cX2_reset 19 = .ok (.iconst 0, 1) := by decide +kernel
theorem dX2_reset_20 : decode cX2_reset 20 = .ok (.iastore, 1) := by decide +kernel
theorem dX2_reset_21 : decode cX2_reset 21 = .ok (.aload_n 0, 1) := by decide +kernel
theorem dX2_reset_22 : decode cX2_reset 22 = .ok (.getfield 20, 3) := by decide +kernel
theorem dX2_reset_25 : decode cX2_reset 25 = .ok (.iconst 1, 1) := by decide +kernel
theorem dX2_reset_26 : decode cX2_reset 26 = .ok (.iconst 0, 1) := by decide +kernel
theorem dX2_reset_27 : decode cX2_reset 27 = .ok (.iastore, 1) := by decide +kernel
theorem dX2_reset_28 : decode cX2_reset 28 = .ok (.return_, 1) := by decide +kernel
abbrev cX2_carry : ByteArray := prog_3_method_9_code
def yX2_carry : MethodName := ⟨RX2, "carry", "(III)I"⟩
theorem dX2_carry_0 : decode cX2_carry 0 = .ok (.aload_n 0, 1) := by decide +kernel
theorem dX2_carry_1 : decode cX2_carry 1 = .ok (.iload_n 1, 1) := by decide +kernel
theorem dX2_carry_2 : decode cX2_carry 2 = .ok (.invokevirtual 23, 3) := by decide +kernel
theorem dX2_carry_5 : decode cX2_carry 5 = .ok (.ifCond .eq 7, 3) := by decide +kernel
theorem dX2_carry_8 : decode cX2_carry 8 = .ok (.iconst (-1), 1) := by decide +kernel
theorem dX2_carry_9 : decode cX2_carry 9 = .ok (.goto 4, 3) := by decide +kernel
theorem dX2_carry_12 : decode cX2_carry 12 = .ok (.iconst 0, 1) := by decide +kernel
theorem dX2_carry_13 : decode cX2_carry 13 = .ok (.ireturn, 1) := by decide +kernel
abbrev cX2_fire : ByteArray := prog_3_method_10_code
def yX2_fire : MethodName := ⟨RX2, "fire", "(I)I"⟩
theorem dX2_fire_0 : decode cX2_fire 0 = .ok (.aload_n 0, 1) := by decide +kernel
theorem dX2_fire_1 : decode cX2_fire 1 = .ok (.iload_n 1, 1) := by decide +kernel
theorem dX2_fire_2 : decode cX2_fire 2 = .ok (.invokevirtual 23, 3) := by decide +kernel
theorem dX2_fire_5 : decode cX2_fire 5 = .ok (.ifCond .eq 7, 3) := by decide +kernel
theorem dX2_fire_8 : decode cX2_fire 8 = .ok (.iconst (-1), 1) := by decide +kernel
theorem dX2_fire_9 : decode cX2_fire 9 = .ok (.goto 4, 3) := by decide +kernel
theorem dX2_fire_12 : decode cX2_fire 12 = .ok (.iconst 0, 1) := by decide +kernel
theorem dX2_fire_13 : decode cX2_fire 13 = .ok (.ireturn, 1) := by decide +kernel
abbrev cX2_waiting : ByteArray := prog_3_method_11_code
def yX2_waiting : MethodName := ⟨RX2, "waiting", "(I)I"⟩
theorem dX2_waiting_0 : decode cX2_waiting 0 = .ok (.aload_n 0, 1) := by decide +kernel
theorem dX2_waiting_1 : decode cX2_waiting 1 = .ok (.iload_n 1, 1) := by decide +kernel
theorem dX2_waiting_2 : decode cX2_waiting 2 = .ok (.invokevirtual 23, 3) := by decide +kernel
theorem dX2_waiting_5 : decode cX2_waiting 5 = .ok (.ifCond .eq 7, 3) := by decide +kernel
theorem dX2_waiting_8 : decode cX2_waiting 8 = .ok (.iconst (-1), 1) := by decide +kernel
theorem dX2_waiting_9 : decode cX2_waiting 9 = .ok (.goto 9, 3) := by decide +kernel
theorem dX2_waiting_12 : decode cX2_waiting 12 = .ok (.aload_n 0, 1) := by decide +kernel
theorem dX2_waiting_13 : decode cX2_waiting 13 = .ok (.getfield 17, 3) := by decide +kernel
theorem dX2_waiting_16 : decode cX2_waiting 16 = .ok (.iload_n 1, 1) := by decide +kernel
theorem dX2_waiting_17 : decode cX2_waiting 17 = .ok (.iaload, 1) := by decide +kernel
theorem dX2_waiting_18 : decode cX2_waiting 18 = .ok (.ireturn, 1) := by decide +kernel
abbrev cX2_messages : ByteArray := prog_3_method_12_code
def yX2_messages : MethodName := ⟨RX2, "messages", "(I)I"⟩
theorem dX2_messages_0 : decode cX2_messages 0 = .ok (.aload_n 0, 1) := by decide +kernel
theorem dX2_messages_1 : decode cX2_messages 1 = .ok (.iload_n 1, 1) := by decide +kernel
theorem dX2_messages_2 : decode cX2_messages 2 = .ok (.invokevirtual 23, 3) := by decide +kernel
theorem dX2_messages_5 : decode cX2_messages 5 = .ok (.ifCond .eq 5, 3) := by decide +kernel
theorem dX2_messages_8 : decode cX2_messages 8 = .ok (.iconst (-1), 1) := by decide +kernel
theorem dX2_messages_9 : decode cX2_messages 9 = .ok (.ireturn, 1) := by decide +kernel
theorem dX2_messages_10 : decode cX2_messages 10 = .ok (.iconst 0, 1) := by decide +kernel
theorem dX2_messages_11 : decode cX2_messages 11 = .ok (.istore_n 2, 1) := by decide +kernel
theorem dX2_messages_12 : decode cX2_messages 12 = .ok (.iconst 0, 1) := by decide +kernel
theorem dX2_messages_13 : decode cX2_messages 13 = .ok (.istore_n 3, 1) := by decide +kernel
theorem dX2_messages_14 : decode cX2_messages 14 = .ok (.iload_n 3, 1) := by decide +kernel
theorem dX2_messages_15 : decode cX2_messages 15 = .ok (.aload_n 0, 1) := by decide +kernel
theorem dX2_messages_16 : decode cX2_messages 16 = .ok (.getfield 17, 3) := by decide +kernel
theorem dX2_messages_19 : decode cX2_messages 19 = .ok (.iload_n 1, 1) := by decide +kernel
theorem dX2_messages_20 : decode cX2_messages 20 = .ok (.iaload, 1) := by decide +kernel
theorem dX2_messages_21 : decode cX2_messages 21 = .ok (.if_icmp .ge 26, 3) := by decide +kernel
theorem dX2_messages_24 : decode cX2_messages 24 = .ok (.aload_n 0, 1) := by decide +kernel
theorem dX2_messages_25 : decode cX2_messages 25 = .ok (.getfield 13, 3) := by decide +kernel
theorem dX2_messages_28 : decode cX2_messages 28 = .ok (.iload_n 1, 1) := by decide +kernel
theorem dX2_messages_29 : decode cX2_messages 29 = .ok (.bipush 30, 2) := by decide +kernel
theorem dX2_messages_31 : decode cX2_messages 31 = .ok (.imul, 1) := by decide +kernel
theorem dX2_messages_32 : decode cX2_messages 32 = .ok (.iload_n 3, 1) := by decide +kernel
theorem dX2_messages_33 : decode cX2_messages 33 = .ok (.iadd, 1) := by decide +kernel
theorem dX2_messages_34 : decode cX2_messages 34 = .ok (.baload, 1) := by decide +kernel
theorem dX2_messages_35 : decode cX2_messages 35 = .ok (.ifCond .eq 6, 3) := by decide +kernel
theorem dX2_messages_38 : decode cX2_messages 38 = .ok (.iinc 2 1, 3) := by decide +kernel
theorem dX2_messages_41 : decode cX2_messages 41 = .ok (.iinc 3 1, 3) := by decide +kernel
theorem dX2_messages_44 : decode cX2_messages 44 = .ok (.goto (-30), 3) := by decide +kernel
theorem dX2_messages_47 : decode cX2_messages 47 = .ok (.iload_n 2, 1) := by decide +kernel
theorem dX2_messages_48 : decode cX2_messages 48 = .ok (.ireturn, 1) := by decide +kernel
abbrev cX2_peek : ByteArray := prog_3_method_13_code
def yX2_peek : MethodName := ⟨RX2, "peek", "(II)I"⟩
theorem dX2_peek_0 : decode cX2_peek 0 = .ok (.aload_n 0, 1) := by decide +kernel
theorem dX2_peek_1 : decode cX2_peek 1 = .ok (.iload_n 1, 1) := by decide +kernel
theorem dX2_peek_2 : decode cX2_peek 2 = .ok (.invokevirtual 23, 3) := by decide +kernel
theorem dX2_peek_5 : decode cX2_peek 5 = .ok (.ifCond .eq 5, 3) := by decide +kernel
theorem dX2_peek_8 : decode cX2_peek 8 = .ok (.iconst (-1), 1) := by decide +kernel
theorem dX2_peek_9 : decode cX2_peek 9 = .ok (.ireturn, 1) := by decide +kernel
theorem dX2_peek_10 : decode cX2_peek 10 = .ok (.iload_n 2, 1) := by decide +kernel
theorem dX2_peek_11 : decode cX2_peek 11 = .ok (.ifCond .lt 13, 3) := by decide +kernel
theorem dX2_peek_14 : decode cX2_peek 14 = .ok (.iload_n 2, 1) := by decide +kernel
theorem dX2_peek_15 : decode cX2_peek 15 = .ok (.aload_n 0, 1) := by decide +kernel
theorem dX2_peek_16 : decode cX2_peek 16 = .ok (.getfield 17, 3) := by decide +kernel
theorem dX2_peek_19 : decode cX2_peek 19 = .ok (.iload_n 1, 1) := by decide +kernel
theorem dX2_peek_20 : decode cX2_peek 20 = .ok (.iaload, 1) := by decide +kernel
theorem dX2_peek_21 : decode cX2_peek 21 = .ok (.if_icmp .lt 8, 3) := by decide +kernel
theorem dX2_peek_24 : decode cX2_peek 24 = .ok (.bipush (-3), 2) := by decide +kernel
theorem dX2_peek_26 : decode cX2_peek 26 = .ok (.goto 14, 3) := by decide +kernel
theorem dX2_peek_29 : decode cX2_peek 29 = .ok (.aload_n 0, 1) := by decide +kernel
theorem dX2_peek_30 : decode cX2_peek 30 = .ok (.getfield 7, 3) := by decide +kernel
theorem dX2_peek_33 : decode cX2_peek 33 = .ok (.iload_n 1, 1) := by decide +kernel
theorem dX2_peek_34 : decode cX2_peek 34 = .ok (.bipush 30, 2) := by decide +kernel
theorem dX2_peek_36 : decode cX2_peek 36 = .ok (.imul, 1) := by decide +kernel
theorem dX2_peek_37 : decode cX2_peek 37 = .ok (.iload_n 2, 1) := by decide +kernel
theorem dX2_peek_38 : decode cX2_peek 38 = .ok (.iadd, 1) := by decide +kernel
theorem dX2_peek_39 : decode cX2_peek 39 = .ok (.iaload, 1) := by decide +kernel
theorem dX2_peek_40 : decode cX2_peek 40 = .ok (.ireturn, 1) := by decide +kernel
abbrev cX2_ends : ByteArray := prog_3_method_14_code
def yX2_ends : MethodName := ⟨RX2, "ends", "(II)Z"⟩
theorem dX2_ends_0 : decode cX2_ends 0 = .ok (.aload_n 0, 1) := by decide +kernel
theorem dX2_ends_1 : decode cX2_ends 1 = .ok (.iload_n 1, 1) := by decide +kernel
theorem dX2_ends_2 : decode cX2_ends 2 = .ok (.invokevirtual 23, 3) := by decide +kernel
theorem dX2_ends_5 : decode cX2_ends 5 = .ok (.ifCond .ne 35, 3) := by decide +kernel
theorem dX2_ends_8 : decode cX2_ends 8 = .ok (.iload_n 2, 1) := by decide +kernel
theorem dX2_ends_9 : decode cX2_ends 9 = .ok (.ifCond .lt 31, 3) := by decide +kernel
theorem dX2_ends_12 : decode cX2_ends 12 = .ok (.iload_n 2, 1) := by decide +kernel
theorem dX2_ends_13 : decode cX2_ends 13 = .ok (.aload_n 0, 1) := by decide +kernel
theorem dX2_ends_14 : decode cX2_ends 14 = .ok (.getfield 17, 3) := by decide +kernel
theorem dX2_ends_17 : decode cX2_ends 17 = .ok (.iload_n 1, 1) := by decide +kernel
theorem dX2_ends_18 : decode cX2_ends 18 = .ok (.iaload, 1) := by decide +kernel
theorem dX2_ends_19 : decode cX2_ends 19 = .ok (.if_icmp .ge 21, 3) := by decide +kernel
theorem dX2_ends_22 : decode cX2_ends 22 = .ok (.aload_n 0, 1) := by decide +kernel
theorem dX2_ends_23 : decode cX2_ends 23 = .ok (.getfield 13, 3) := by decide +kernel
theorem dX2_ends_26 : decode cX2_ends 26 = .ok (.iload_n 1, 1) := by decide +kernel
theorem dX2_ends_27 : decode cX2_ends 27 = .ok (.bipush 30, 2) := by decide +kernel
theorem dX2_ends_29 : decode cX2_ends 29 = .ok (.imul, 1) := by decide +kernel
theorem dX2_ends_30 : decode cX2_ends 30 = .ok (.iload_n 2, 1) := by decide +kernel
theorem dX2_ends_31 : decode cX2_ends 31 = .ok (.iadd, 1) := by decide +kernel
theorem dX2_ends_32 : decode cX2_ends 32 = .ok (.baload, 1) := by decide +kernel
theorem dX2_ends_33 : decode cX2_ends 33 = .ok (.ifCond .eq 7, 3) := by decide +kernel
theorem dX2_ends_36 : decode cX2_ends 36 = .ok (.iconst 1, 1) := by decide +kernel
theorem dX2_ends_37 : decode cX2_ends 37 = .ok (.goto 4, 3) := by decide +kernel
theorem dX2_ends_40 : decode cX2_ends 40 = .ok (.iconst 0, 1) := by decide +kernel
theorem dX2_ends_41 : decode cX2_ends 41 = .ok (.ireturn, 1) := by decide +kernel
abbrev cX2_done : ByteArray := prog_3_method_15_code
def yX2_done : MethodName := ⟨RX2, "done", "(I)I"⟩
theorem dX2_done_0 : decode cX2_done 0 = .ok (.aload_n 0, 1) := by decide +kernel
theorem dX2_done_1 : decode cX2_done 1 = .ok (.iload_n 1, 1) := by decide +kernel
theorem dX2_done_2 : decode cX2_done 2 = .ok (.invokevirtual 23, 3) := by decide +kernel
theorem dX2_done_5 : decode cX2_done 5 = .ok (.ifCond .eq 7, 3) := by decide +kernel
theorem dX2_done_8 : decode cX2_done 8 = .ok (.iconst (-1), 1) := by decide +kernel
theorem dX2_done_9 : decode cX2_done 9 = .ok (.goto 9, 3) := by decide +kernel
theorem dX2_done_12 : decode cX2_done 12 = .ok (.aload_n 0, 1) := by decide +kernel
theorem dX2_done_13 : decode cX2_done 13 = .ok (.getfield 20, 3) := by decide +kernel
theorem dX2_done_16 : decode cX2_done 16 = .ok (.iload_n 1, 1) := by decide +kernel
theorem dX2_done_17 : decode cX2_done 17 = .ok (.iaload, 1) := by decide +kernel
theorem dX2_done_18 : decode cX2_done 18 = .ok (.ireturn, 1) := by decide +kernel
abbrev cX2_sum : ByteArray := prog_3_method_16_code
def yX2_sum : MethodName := ⟨RX2, "sum", "(I)I"⟩
theorem dX2_sum_0 : decode cX2_sum 0 = .ok (.aload_n 0, 1) := by decide +kernel
theorem dX2_sum_1 : decode cX2_sum 1 = .ok (.iload_n 1, 1) := by decide +kernel
theorem dX2_sum_2 : decode cX2_sum 2 = .ok (.invokevirtual 23, 3) := by decide +kernel
theorem dX2_sum_5 : decode cX2_sum 5 = .ok (.ifCond .eq 5, 3) := by decide +kernel
theorem dX2_sum_8 : decode cX2_sum 8 = .ok (.iconst (-1), 1) := by decide +kernel
theorem dX2_sum_9 : decode cX2_sum 9 = .ok (.ireturn, 1) := by decide +kernel
theorem dX2_sum_10 : decode cX2_sum 10 = .ok (.iconst 0, 1) := by decide +kernel
theorem dX2_sum_11 : decode cX2_sum 11 = .ok (.istore_n 2, 1) := by decide +kernel
theorem dX2_sum_12 : decode cX2_sum 12 = .ok (.iconst 0, 1) := by decide +kernel
theorem dX2_sum_13 : decode cX2_sum 13 = .ok (.istore_n 3, 1) := by decide +kernel
theorem dX2_sum_14 : decode cX2_sum 14 = .ok (.iload_n 3, 1) := by decide +kernel
theorem dX2_sum_15 : decode cX2_sum 15 = .ok (.aload_n 0, 1) := by decide +kernel
theorem dX2_sum_16 : decode cX2_sum 16 = .ok (.getfield 17, 3) := by decide +kernel
theorem dX2_sum_19 : decode cX2_sum 19 = .ok (.iload_n 1, 1) := by decide +kernel
theorem dX2_sum_20 : decode cX2_sum 20 = .ok (.iaload, 1) := by decide +kernel
theorem dX2_sum_21 : decode cX2_sum 21 = .ok (.if_icmp .ge 23, 3) := by decide +kernel
theorem dX2_sum_24 : decode cX2_sum 24 = .ok (.iload_n 2, 1) := by decide +kernel
theorem dX2_sum_25 : decode cX2_sum 25 = .ok (.aload_n 0, 1) := by decide +kernel
theorem dX2_sum_26 : decode cX2_sum 26 = .ok (.getfield 7, 3) := by decide +kernel
theorem dX2_sum_29 : decode cX2_sum 29 = .ok (.iload_n 1, 1) := by decide +kernel
theorem dX2_sum_30 : decode cX2_sum 30 = .ok (.bipush 30, 2) := by decide +kernel
theorem dX2_sum_32 : decode cX2_sum 32 = .ok (.imul, 1) := by decide +kernel
theorem dX2_sum_33 : decode cX2_sum 33 = .ok (.iload_n 3, 1) := by decide +kernel
theorem dX2_sum_34 : decode cX2_sum 34 = .ok (.iadd, 1) := by decide +kernel
theorem dX2_sum_35 : decode cX2_sum 35 = .ok (.iaload, 1) := by decide +kernel
theorem dX2_sum_36 : decode cX2_sum 36 = .ok (.iadd, 1) := by decide +kernel
theorem dX2_sum_37 : decode cX2_sum 37 = .ok (.istore_n 2, 1) := by decide +kernel
theorem dX2_sum_38 : decode cX2_sum 38 = .ok (.iinc 3 1, 3) := by decide +kernel
theorem dX2_sum_41 : decode cX2_sum 41 = .ok (.goto (-27), 3) := by decide +kernel
theorem dX2_sum_44 : decode cX2_sum 44 = .ok (.iload_n 2, 1) := by decide +kernel
theorem dX2_sum_45 : decode cX2_sum 45 = .ok (.ireturn, 1) := by decide +kernel
theorem q22 : (Jvm.Cond.initialized "LossyLinkModel") ∈ lw_all := lw_g (lw_at lw_m1 2 rfl) rfl
theorem q220 : (Jvm.Cond.instantiable "LossyLinkModel" (4 : Nat)) ∈ lw_all := lw_g (lw_at lw_m1 200 rfl) rfl
theorem q222 : (Jvm.Cond.instanceMethod ({ cls := "LossyLinkModel", name := "<init>", desc := "(I)V" } : Jvm.MethodName)) ∈ lw_all := lw_g (lw_at lw_m1 202 rfl) rfl
theorem q223 : (Jvm.Cond.code ({ cls := "LossyLinkModel", name := "<init>", desc := "(I)V" } : Jvm.MethodName) prog_3_method_1_code (2 : Nat) (Option.none : Option Jvm.ClassFile.FieldType)) ∈ lw_all := lw_g (lw_at lw_m1 203 rfl) rfl
theorem q224 : (Jvm.Cond.methodLink "LossyLinkModel" (1 : Nat) ({ cls := "java/lang/Object", name := "<init>", desc := "()V" } : Jvm.MethodName)) ∈ lw_all := lw_g (lw_at lw_m1 204 rfl) rfl
theorem q225 : (Jvm.Cond.fieldLink "LossyLinkModel" (7 : Nat) "LossyLinkModel" "bytes" "[I") ∈ lw_all := lw_g (lw_at lw_m1 205 rfl) rfl
theorem q226 : (Jvm.Cond.fieldLink "LossyLinkModel" (13 : Nat) "LossyLinkModel" "marked" "[Z") ∈ lw_all := lw_g (lw_at lw_m1 206 rfl) rfl
theorem q227 : (Jvm.Cond.fieldLink "LossyLinkModel" (17 : Nat) "LossyLinkModel" "counts" "[I") ∈ lw_all := lw_g (lw_at lw_m1 207 rfl) rfl
theorem q228 : (Jvm.Cond.fieldLink "LossyLinkModel" (20 : Nat) "LossyLinkModel" "gone" "[I") ∈ lw_all := lw_g (lw_at lw_m1 208 rfl) rfl
theorem q229 : (Jvm.Cond.laysFinal "LossyLinkModel" "LossyLinkModel" "bytes" "[I") ∈ lw_all := lw_g (lw_at lw_m1 209 rfl) rfl
theorem q230 : (Jvm.Cond.soleField "LossyLinkModel" "bytes") ∈ lw_all := lw_g (lw_at lw_m1 210 rfl) rfl
theorem q231 : (Jvm.Cond.laysFinal "LossyLinkModel" "LossyLinkModel" "marked" "[Z") ∈ lw_all := lw_g (lw_at lw_m1 211 rfl) rfl
theorem q232 : (Jvm.Cond.soleField "LossyLinkModel" "marked") ∈ lw_all := lw_g (lw_at lw_m1 212 rfl) rfl
theorem q233 : (Jvm.Cond.laysFinal "LossyLinkModel" "LossyLinkModel" "counts" "[I") ∈ lw_all := lw_g (lw_at lw_m1 213 rfl) rfl
theorem q234 : (Jvm.Cond.soleField "LossyLinkModel" "counts") ∈ lw_all := lw_g (lw_at lw_m1 214 rfl) rfl
theorem q235 : (Jvm.Cond.laysFinal "LossyLinkModel" "LossyLinkModel" "gone" "[I") ∈ lw_all := lw_g (lw_at lw_m1 215 rfl) rfl
theorem q236 : (Jvm.Cond.soleField "LossyLinkModel" "gone") ∈ lw_all := lw_g (lw_at lw_m1 216 rfl) rfl
theorem q237 : (Jvm.Cond.superclass "LossyLinkModel" "java/lang/Object") ∈ lw_all := lw_g (lw_at lw_m1 217 rfl) rfl
theorem q239 : (Jvm.Cond.instanceMethod ({ cls := "LossyLinkModel", name := "give", desc := "(IIZ)I" } : Jvm.MethodName)) ∈ lw_all := lw_g (lw_at lw_m1 219 rfl) rfl
theorem q240 : (Jvm.Cond.selects "LossyLinkModel" ({ cls := "LossyLinkModel", name := "give", desc := "(IIZ)I" } : Jvm.MethodName) ({ cls := "LossyLinkModel", name := "give", desc := "(IIZ)I" } : Jvm.MethodName)) ∈ lw_all := lw_g (lw_at lw_m1 220 rfl) rfl
theorem q241 : (Jvm.Cond.code ({ cls := "LossyLinkModel", name := "give", desc := "(IIZ)I" } : Jvm.MethodName) prog_3_method_3_code (5 : Nat) (Option.some Jvm.ClassFile.FieldType.int)) ∈ lw_all := lw_g (lw_at lw_m1 221 rfl) rfl
theorem q242 : (Jvm.Cond.methodLink "LossyLinkModel" (23 : Nat) ({ cls := "LossyLinkModel", name := "bad", desc := "(I)Z" } : Jvm.MethodName)) ∈ lw_all := lw_g (lw_at lw_m1 222 rfl) rfl
theorem q243 : (Jvm.Cond.privateMethod ({ cls := "LossyLinkModel", name := "bad", desc := "(I)Z" } : Jvm.MethodName)) ∈ lw_tbl := lw_at lw_m1 223 rfl
theorem q244 : (Jvm.Cond.instanceMethod ({ cls := "LossyLinkModel", name := "bad", desc := "(I)Z" } : Jvm.MethodName)) ∈ lw_all := lw_g (lw_at lw_m1 224 rfl) rfl
theorem q245 : (Jvm.Cond.code ({ cls := "LossyLinkModel", name := "bad", desc := "(I)Z" } : Jvm.MethodName) prog_3_method_2_code (2 : Nat) (Option.some Jvm.ClassFile.FieldType.boolean)) ∈ lw_all := lw_g (lw_at lw_m1 225 rfl) rfl
theorem q247 : (Jvm.Cond.instanceMethod ({ cls := "LossyLinkModel", name := "take", desc := "(I)I" } : Jvm.MethodName)) ∈ lw_all := lw_g (lw_at lw_m1 227 rfl) rfl
theorem q248 : (Jvm.Cond.selects "LossyLinkModel" ({ cls := "LossyLinkModel", name := "take", desc := "(I)I" } : Jvm.MethodName) ({ cls := "LossyLinkModel", name := "take", desc := "(I)I" } : Jvm.MethodName)) ∈ lw_all := lw_g (lw_at lw_m1 228 rfl) rfl
theorem q249 : (Jvm.Cond.code ({ cls := "LossyLinkModel", name := "take", desc := "(I)I" } : Jvm.MethodName) prog_3_method_5_code (3 : Nat) (Option.some Jvm.ClassFile.FieldType.int)) ∈ lw_all := lw_g (lw_at lw_m1 229 rfl) rfl
theorem q250 : (Jvm.Cond.methodLink "LossyLinkModel" (27 : Nat) ({ cls := "LossyLinkModel", name := "off", desc := "(II)V" } : Jvm.MethodName)) ∈ lw_all := lw_g (lw_at lw_m1 230 rfl) rfl
theorem q251 : (Jvm.Cond.privateMethod ({ cls := "LossyLinkModel", name := "off", desc := "(II)V" } : Jvm.MethodName)) ∈ lw_tbl := lw_at lw_m1 231 rfl
theorem q252 : (Jvm.Cond.instanceMethod ({ cls := "LossyLinkModel", name := "off", desc := "(II)V" } : Jvm.MethodName)) ∈ lw_all := lw_g (lw_at lw_m1 232 rfl) rfl
theorem q253 : (Jvm.Cond.code ({ cls := "LossyLinkModel", name := "off", desc := "(II)V" } : Jvm.MethodName) prog_3_method_4_code (4 : Nat) (Option.none : Option Jvm.ClassFile.FieldType)) ∈ lw_all := lw_g (lw_at lw_m1 233 rfl) rfl
theorem q255 : (Jvm.Cond.instanceMethod ({ cls := "LossyLinkModel", name := "takeMessage", desc := "(I)I" } : Jvm.MethodName)) ∈ lw_all := lw_g (lw_at lw_m1 235 rfl) rfl
theorem q256 : (Jvm.Cond.selects "LossyLinkModel" ({ cls := "LossyLinkModel", name := "takeMessage", desc := "(I)I" } : Jvm.MethodName) ({ cls := "LossyLinkModel", name := "takeMessage", desc := "(I)I" } : Jvm.MethodName)) ∈ lw_all := lw_g (lw_at lw_m1 236 rfl) rfl
theorem q257 : (Jvm.Cond.code ({ cls := "LossyLinkModel", name := "takeMessage", desc := "(I)I" } : Jvm.MethodName) prog_3_method_6_code (3 : Nat) (Option.some Jvm.ClassFile.FieldType.int)) ∈ lw_all := lw_g (lw_at lw_m1 237 rfl) rfl
theorem q259 : (Jvm.Cond.instanceMethod ({ cls := "LossyLinkModel", name := "skip", desc := "(I)I" } : Jvm.MethodName)) ∈ lw_all := lw_g (lw_at lw_m1 239 rfl) rfl
theorem q260 : (Jvm.Cond.selects "LossyLinkModel" ({ cls := "LossyLinkModel", name := "skip", desc := "(I)I" } : Jvm.MethodName) ({ cls := "LossyLinkModel", name := "skip", desc := "(I)I" } : Jvm.MethodName)) ∈ lw_all := lw_g (lw_at lw_m2 0 rfl) rfl
theorem q261 : (Jvm.Cond.code ({ cls := "LossyLinkModel", name := "skip", desc := "(I)I" } : Jvm.MethodName) prog_3_method_7_code (3 : Nat) (Option.some Jvm.ClassFile.FieldType.int)) ∈ lw_all := lw_g (lw_at lw_m2 1 rfl) rfl
theorem q263 : (Jvm.Cond.instanceMethod ({ cls := "LossyLinkModel", name := "reset", desc := "()V" } : Jvm.MethodName)) ∈ lw_all := lw_g (lw_at lw_m2 3 rfl) rfl
theorem q264 : (Jvm.Cond.selects "LossyLinkModel" ({ cls := "LossyLinkModel", name := "reset", desc := "()V" } : Jvm.MethodName) ({ cls := "LossyLinkModel", name := "reset", desc := "()V" } : Jvm.MethodName)) ∈ lw_all := lw_g (lw_at lw_m2 4 rfl) rfl
theorem q265 : (Jvm.Cond.code ({ cls := "LossyLinkModel", name := "reset", desc := "()V" } : Jvm.MethodName) prog_3_method_8_code (1 : Nat) (Option.none : Option Jvm.ClassFile.FieldType)) ∈ lw_all := lw_g (lw_at lw_m2 5 rfl) rfl
theorem q267 : (Jvm.Cond.instanceMethod ({ cls := "LossyLinkModel", name := "carry", desc := "(III)I" } : Jvm.MethodName)) ∈ lw_all := lw_g (lw_at lw_m2 7 rfl) rfl
theorem q268 : (Jvm.Cond.selects "LossyLinkModel" ({ cls := "LossyLinkModel", name := "carry", desc := "(III)I" } : Jvm.MethodName) ({ cls := "LossyLinkModel", name := "carry", desc := "(III)I" } : Jvm.MethodName)) ∈ lw_all := lw_g (lw_at lw_m2 8 rfl) rfl
theorem q269 : (Jvm.Cond.code ({ cls := "LossyLinkModel", name := "carry", desc := "(III)I" } : Jvm.MethodName) prog_3_method_9_code (4 : Nat) (Option.some Jvm.ClassFile.FieldType.int)) ∈ lw_all := lw_g (lw_at lw_m2 9 rfl) rfl
theorem q271 : (Jvm.Cond.instanceMethod ({ cls := "LossyLinkModel", name := "fire", desc := "(I)I" } : Jvm.MethodName)) ∈ lw_all := lw_g (lw_at lw_m2 11 rfl) rfl
theorem q272 : (Jvm.Cond.selects "LossyLinkModel" ({ cls := "LossyLinkModel", name := "fire", desc := "(I)I" } : Jvm.MethodName) ({ cls := "LossyLinkModel", name := "fire", desc := "(I)I" } : Jvm.MethodName)) ∈ lw_all := lw_g (lw_at lw_m2 12 rfl) rfl
theorem q273 : (Jvm.Cond.code ({ cls := "LossyLinkModel", name := "fire", desc := "(I)I" } : Jvm.MethodName) prog_3_method_10_code (2 : Nat) (Option.some Jvm.ClassFile.FieldType.int)) ∈ lw_all := lw_g (lw_at lw_m2 13 rfl) rfl
theorem q275 : (Jvm.Cond.instanceMethod ({ cls := "LossyLinkModel", name := "waiting", desc := "(I)I" } : Jvm.MethodName)) ∈ lw_all := lw_g (lw_at lw_m2 15 rfl) rfl
theorem q276 : (Jvm.Cond.selects "LossyLinkModel" ({ cls := "LossyLinkModel", name := "waiting", desc := "(I)I" } : Jvm.MethodName) ({ cls := "LossyLinkModel", name := "waiting", desc := "(I)I" } : Jvm.MethodName)) ∈ lw_all := lw_g (lw_at lw_m2 16 rfl) rfl
theorem q277 : (Jvm.Cond.code ({ cls := "LossyLinkModel", name := "waiting", desc := "(I)I" } : Jvm.MethodName) prog_3_method_11_code (2 : Nat) (Option.some Jvm.ClassFile.FieldType.int)) ∈ lw_all := lw_g (lw_at lw_m2 17 rfl) rfl
theorem q279 : (Jvm.Cond.instanceMethod ({ cls := "LossyLinkModel", name := "messages", desc := "(I)I" } : Jvm.MethodName)) ∈ lw_all := lw_g (lw_at lw_m2 19 rfl) rfl
theorem q280 : (Jvm.Cond.selects "LossyLinkModel" ({ cls := "LossyLinkModel", name := "messages", desc := "(I)I" } : Jvm.MethodName) ({ cls := "LossyLinkModel", name := "messages", desc := "(I)I" } : Jvm.MethodName)) ∈ lw_all := lw_g (lw_at lw_m2 20 rfl) rfl
theorem q281 : (Jvm.Cond.code ({ cls := "LossyLinkModel", name := "messages", desc := "(I)I" } : Jvm.MethodName) prog_3_method_12_code (4 : Nat) (Option.some Jvm.ClassFile.FieldType.int)) ∈ lw_all := lw_g (lw_at lw_m2 21 rfl) rfl
theorem q283 : (Jvm.Cond.instanceMethod ({ cls := "LossyLinkModel", name := "peek", desc := "(II)I" } : Jvm.MethodName)) ∈ lw_all := lw_g (lw_at lw_m2 23 rfl) rfl
theorem q284 : (Jvm.Cond.selects "LossyLinkModel" ({ cls := "LossyLinkModel", name := "peek", desc := "(II)I" } : Jvm.MethodName) ({ cls := "LossyLinkModel", name := "peek", desc := "(II)I" } : Jvm.MethodName)) ∈ lw_all := lw_g (lw_at lw_m2 24 rfl) rfl
theorem q285 : (Jvm.Cond.code ({ cls := "LossyLinkModel", name := "peek", desc := "(II)I" } : Jvm.MethodName) prog_3_method_13_code (3 : Nat) (Option.some Jvm.ClassFile.FieldType.int)) ∈ lw_all := lw_g (lw_at lw_m2 25 rfl) rfl
theorem q287 : (Jvm.Cond.instanceMethod ({ cls := "LossyLinkModel", name := "ends", desc := "(II)Z" } : Jvm.MethodName)) ∈ lw_all := lw_g (lw_at lw_m2 27 rfl) rfl
theorem q288 : (Jvm.Cond.selects "LossyLinkModel" ({ cls := "LossyLinkModel", name := "ends", desc := "(II)Z" } : Jvm.MethodName) ({ cls := "LossyLinkModel", name := "ends", desc := "(II)Z" } : Jvm.MethodName)) ∈ lw_all := lw_g (lw_at lw_m2 28 rfl) rfl
theorem q289 : (Jvm.Cond.code ({ cls := "LossyLinkModel", name := "ends", desc := "(II)Z" } : Jvm.MethodName) prog_3_method_14_code (3 : Nat) (Option.some Jvm.ClassFile.FieldType.boolean)) ∈ lw_all := lw_g (lw_at lw_m2 29 rfl) rfl
theorem q291 : (Jvm.Cond.instanceMethod ({ cls := "LossyLinkModel", name := "done", desc := "(I)I" } : Jvm.MethodName)) ∈ lw_all := lw_g (lw_at lw_m2 31 rfl) rfl
theorem q292 : (Jvm.Cond.selects "LossyLinkModel" ({ cls := "LossyLinkModel", name := "done", desc := "(I)I" } : Jvm.MethodName) ({ cls := "LossyLinkModel", name := "done", desc := "(I)I" } : Jvm.MethodName)) ∈ lw_all := lw_g (lw_at lw_m2 32 rfl) rfl
theorem q293 : (Jvm.Cond.code ({ cls := "LossyLinkModel", name := "done", desc := "(I)I" } : Jvm.MethodName) prog_3_method_15_code (2 : Nat) (Option.some Jvm.ClassFile.FieldType.int)) ∈ lw_all := lw_g (lw_at lw_m2 33 rfl) rfl
theorem q295 : (Jvm.Cond.instanceMethod ({ cls := "LossyLinkModel", name := "sum", desc := "(I)I" } : Jvm.MethodName)) ∈ lw_all := lw_g (lw_at lw_m2 35 rfl) rfl
theorem q296 : (Jvm.Cond.selects "LossyLinkModel" ({ cls := "LossyLinkModel", name := "sum", desc := "(I)I" } : Jvm.MethodName) ({ cls := "LossyLinkModel", name := "sum", desc := "(I)I" } : Jvm.MethodName)) ∈ lw_all := lw_g (lw_at lw_m2 36 rfl) rfl
theorem q297 : (Jvm.Cond.code ({ cls := "LossyLinkModel", name := "sum", desc := "(I)I" } : Jvm.MethodName) prog_3_method_16_code (4 : Nat) (Option.some Jvm.ClassFile.FieldType.int)) ∈ lw_all := lw_g (lw_at lw_m2 37 rfl) rfl
theorem in_X2 : ∀ w ∈ wsX20, w ∈ lw_all := lw_in wsX20 [229, 231, 233, 235] (by decide +kernel) (by decide +kernel)
end
section
/-! LossyLinkLaw -/
set_option maxRecDepth 100000
def RX0 : String := "LossyLinkLaw"
abbrev cX0_cell : ByteArray := method_2_code
def yX0_cell : MethodName := ⟨RX0, "cell", "([II)I"⟩
theorem dX0_cell_0 : decode cX0_cell 0 = .ok (.iload_n 1, 1) := by decide +kernel
theorem dX0_cell_1 : decode cX0_cell 1 = .ok (.aload_n 0, 1) := by decide +kernel
theorem dX0_cell_2 : decode cX0_cell 2 = .ok (.arraylength, 1) := by decide +kernel
theorem dX0_cell_3 : decode cX0_cell 3 = .ok (.if_icmp .ge 9, 3) := by decide +kernel
theorem dX0_cell_6 : decode cX0_cell 6 = .ok (.aload_n 0, 1) := by decide +kernel
theorem dX0_cell_7 : decode cX0_cell 7 = .ok (.iload_n 1, 1) := by decide +kernel
theorem dX0_cell_8 : decode cX0_cell 8 = .ok (.iaload, 1) := by decide +kernel
theorem dX0_cell_9 : decode cX0_cell 9 = .ok (.goto 4, 3) := by decide +kernel
theorem dX0_cell_12 : decode cX0_cell 12 = .ok (.iconst 0, 1) := by decide +kernel
theorem dX0_cell_13 : decode cX0_cell 13 = .ok (.ireturn, 1) := by decide +kernel
theorem q20 : (Jvm.Cond.initialized "LossyLinkLaw") ∈ lw_all := lw_g (lw_at lw_m1 0 rfl) rfl
theorem q23 : (Jvm.Cond.classLink "LossyLinkLaw" (7 : Nat) "LossyLink") ∈ lw_all := lw_g (lw_at lw_m1 3 rfl) rfl
theorem q25 : (Jvm.Cond.methodLink "LossyLinkLaw" (15 : Nat) ({ cls := "LossyLink", name := "<init>", desc := "(I)V" } : Jvm.MethodName)) ∈ lw_all := lw_g (lw_at lw_m1 5 rfl) rfl
theorem q79 : (Jvm.Cond.methodLink "LossyLinkLaw" (21 : Nat) ({ cls := "LossyLink", name := "give", desc := "(IIZ)I" } : Jvm.MethodName)) ∈ lw_all := lw_g (lw_at lw_m1 59 rfl) rfl
theorem q105 : (Jvm.Cond.methodLink "LossyLinkLaw" (26 : Nat) ({ cls := "LossyLink", name := "take", desc := "(I)I" } : Jvm.MethodName)) ∈ lw_all := lw_g (lw_at lw_m1 85 rfl) rfl
theorem q164 : (Jvm.Cond.methodLink "LossyLinkLaw" (31 : Nat) ({ cls := "LossyLink", name := "takeMessage", desc := "(I)I" } : Jvm.MethodName)) ∈ lw_all := lw_g (lw_at lw_m1 144 rfl) rfl
theorem q176 : (Jvm.Cond.methodLink "LossyLinkLaw" (35 : Nat) ({ cls := "LossyLink", name := "skip", desc := "(I)I" } : Jvm.MethodName)) ∈ lw_all := lw_g (lw_at lw_m1 156 rfl) rfl
theorem q180 : (Jvm.Cond.methodLink "LossyLinkLaw" (39 : Nat) ({ cls := "LossyLink", name := "reset", desc := "()V" } : Jvm.MethodName)) ∈ lw_all := lw_g (lw_at lw_m1 160 rfl) rfl
theorem q184 : (Jvm.Cond.methodLink "LossyLinkLaw" (43 : Nat) ({ cls := "LossyLink", name := "carry", desc := "(III)I" } : Jvm.MethodName)) ∈ lw_all := lw_g (lw_at lw_m1 164 rfl) rfl
theorem q188 : (Jvm.Cond.methodLink "LossyLinkLaw" (48 : Nat) ({ cls := "LossyLink", name := "fire", desc := "(I)I" } : Jvm.MethodName)) ∈ lw_all := lw_g (lw_at lw_m1 168 rfl) rfl
theorem q192 : (Jvm.Cond.methodLink "LossyLinkLaw" (52 : Nat) ({ cls := "LossyLink", name := "waiting", desc := "(I)I" } : Jvm.MethodName)) ∈ lw_all := lw_g (lw_at lw_m1 172 rfl) rfl
theorem q196 : (Jvm.Cond.methodLink "LossyLinkLaw" (56 : Nat) ({ cls := "LossyLink", name := "messages", desc := "(I)I" } : Jvm.MethodName)) ∈ lw_all := lw_g (lw_at lw_m1 176 rfl) rfl
theorem q200 : (Jvm.Cond.methodLink "LossyLinkLaw" (60 : Nat) ({ cls := "LossyLink", name := "peek", desc := "(II)I" } : Jvm.MethodName)) ∈ lw_all := lw_g (lw_at lw_m1 180 rfl) rfl
theorem q204 : (Jvm.Cond.methodLink "LossyLinkLaw" (65 : Nat) ({ cls := "LossyLink", name := "ends", desc := "(II)Z" } : Jvm.MethodName)) ∈ lw_all := lw_g (lw_at lw_m1 184 rfl) rfl
theorem q208 : (Jvm.Cond.methodLink "LossyLinkLaw" (70 : Nat) ({ cls := "LossyLink", name := "done", desc := "(I)I" } : Jvm.MethodName)) ∈ lw_all := lw_g (lw_at lw_m1 188 rfl) rfl
theorem q212 : (Jvm.Cond.methodLink "LossyLinkLaw" (74 : Nat) ({ cls := "LossyLink", name := "sum", desc := "(I)I" } : Jvm.MethodName)) ∈ lw_all := lw_g (lw_at lw_m1 192 rfl) rfl
theorem q216 : (Jvm.Cond.methodLink "LossyLinkLaw" (9 : Nat) ({ cls := "LossyLinkLaw", name := "cell", desc := "([II)I" } : Jvm.MethodName)) ∈ lw_all := lw_g (lw_at lw_m1 196 rfl) rfl
theorem q217 : (Jvm.Cond.static ({ cls := "LossyLinkLaw", name := "cell", desc := "([II)I" } : Jvm.MethodName)) ∈ lw_all := lw_g (lw_at lw_m1 197 rfl) rfl
theorem q218 : (Jvm.Cond.code ({ cls := "LossyLinkLaw", name := "cell", desc := "([II)I" } : Jvm.MethodName) method_2_code (2 : Nat) (Option.some Jvm.ClassFile.FieldType.int)) ∈ lw_all := lw_g (lw_at lw_m1 198 rfl) rfl
theorem q219 : (Jvm.Cond.classLink "LossyLinkLaw" (18 : Nat) "LossyLinkModel") ∈ lw_all := lw_g (lw_at lw_m1 199 rfl) rfl
theorem q221 : (Jvm.Cond.methodLink "LossyLinkLaw" (20 : Nat) ({ cls := "LossyLinkModel", name := "<init>", desc := "(I)V" } : Jvm.MethodName)) ∈ lw_all := lw_g (lw_at lw_m1 201 rfl) rfl
theorem q238 : (Jvm.Cond.methodLink "LossyLinkLaw" (25 : Nat) ({ cls := "LossyLinkModel", name := "give", desc := "(IIZ)I" } : Jvm.MethodName)) ∈ lw_all := lw_g (lw_at lw_m1 218 rfl) rfl
theorem q246 : (Jvm.Cond.methodLink "LossyLinkLaw" (30 : Nat) ({ cls := "LossyLinkModel", name := "take", desc := "(I)I" } : Jvm.MethodName)) ∈ lw_all := lw_g (lw_at lw_m1 226 rfl) rfl
theorem q254 : (Jvm.Cond.methodLink "LossyLinkLaw" (34 : Nat) ({ cls := "LossyLinkModel", name := "takeMessage", desc := "(I)I" } : Jvm.MethodName)) ∈ lw_all := lw_g (lw_at lw_m1 234 rfl) rfl
theorem q258 : (Jvm.Cond.methodLink "LossyLinkLaw" (38 : Nat) ({ cls := "LossyLinkModel", name := "skip", desc := "(I)I" } : Jvm.MethodName)) ∈ lw_all := lw_g (lw_at lw_m1 238 rfl) rfl
theorem q262 : (Jvm.Cond.methodLink "LossyLinkLaw" (42 : Nat) ({ cls := "LossyLinkModel", name := "reset", desc := "()V" } : Jvm.MethodName)) ∈ lw_all := lw_g (lw_at lw_m2 2 rfl) rfl
theorem q266 : (Jvm.Cond.methodLink "LossyLinkLaw" (47 : Nat) ({ cls := "LossyLinkModel", name := "carry", desc := "(III)I" } : Jvm.MethodName)) ∈ lw_all := lw_g (lw_at lw_m2 6 rfl) rfl
theorem q270 : (Jvm.Cond.methodLink "LossyLinkLaw" (51 : Nat) ({ cls := "LossyLinkModel", name := "fire", desc := "(I)I" } : Jvm.MethodName)) ∈ lw_all := lw_g (lw_at lw_m2 10 rfl) rfl
theorem q274 : (Jvm.Cond.methodLink "LossyLinkLaw" (55 : Nat) ({ cls := "LossyLinkModel", name := "waiting", desc := "(I)I" } : Jvm.MethodName)) ∈ lw_all := lw_g (lw_at lw_m2 14 rfl) rfl
theorem q278 : (Jvm.Cond.methodLink "LossyLinkLaw" (59 : Nat) ({ cls := "LossyLinkModel", name := "messages", desc := "(I)I" } : Jvm.MethodName)) ∈ lw_all := lw_g (lw_at lw_m2 18 rfl) rfl
theorem q282 : (Jvm.Cond.methodLink "LossyLinkLaw" (64 : Nat) ({ cls := "LossyLinkModel", name := "peek", desc := "(II)I" } : Jvm.MethodName)) ∈ lw_all := lw_g (lw_at lw_m2 22 rfl) rfl
theorem q286 : (Jvm.Cond.methodLink "LossyLinkLaw" (69 : Nat) ({ cls := "LossyLinkModel", name := "ends", desc := "(II)Z" } : Jvm.MethodName)) ∈ lw_all := lw_g (lw_at lw_m2 26 rfl) rfl
theorem q290 : (Jvm.Cond.methodLink "LossyLinkLaw" (73 : Nat) ({ cls := "LossyLinkModel", name := "done", desc := "(I)I" } : Jvm.MethodName)) ∈ lw_all := lw_g (lw_at lw_m2 30 rfl) rfl
theorem q294 : (Jvm.Cond.methodLink "LossyLinkLaw" (77 : Nat) ({ cls := "LossyLinkModel", name := "sum", desc := "(I)I" } : Jvm.MethodName)) ∈ lw_all := lw_g (lw_at lw_m2 34 rfl) rfl
end
section
/-! the law's own entry -/
set_option maxRecDepth 100000
abbrev cL_law : ByteArray := code
theorem dL_law_0 : decode cL_law 0 = .ok (.new 7, 3) := by decide +kernel
theorem dL_law_3 : decode cL_law 3 = .ok (.dup, 1) := by decide +kernel
theorem dL_law_4 : decode cL_law 4 = .ok (.aload_n 0, 1) := by decide +kernel
theorem dL_law_5 : decode cL_law 5 = .ok (.iconst 0, 1) := by decide +kernel
theorem dL_law_6 : decode cL_law 6 = .ok (.invokestatic 9, 3) := by decide +kernel
theorem dL_law_9 : decode cL_law 9 = .ok (.invokespecial 15, 3) := by decide +kernel
theorem dL_law_12 : decode cL_law 12 = .ok (.astore_n 1, 1) := by decide +kernel
theorem dL_law_13 : decode cL_law 13 = .ok (.new 18, 3) := by decide +kernel
theorem dL_law_16 : decode cL_law 16 = .ok (.dup, 1) := by decide +kernel
theorem dL_law_17 : decode cL_law 17 = .ok (.aload_n 0, 1) := by decide +kernel
theorem dL_law_18 : decode cL_law 18 = .ok (.iconst 0, 1) := by decide +kernel
theorem dL_law_19 : decode cL_law 19 = .ok (.invokestatic 9, 3) := by decide +kernel
theorem dL_law_22 : decode cL_law 22 = .ok (.invokespecial 20, 3) := by decide +kernel
theorem dL_law_25 : decode cL_law 25 = .ok (.astore_n 2, 1) := by decide +kernel
theorem dL_law_26 : decode cL_law 26 = .ok (.iconst 1, 1) := by decide +kernel
theorem dL_law_27 : decode cL_law 27 = .ok (.istore_n 3, 1) := by decide +kernel
theorem dL_law_28 : decode cL_law 28 = .ok (.iload_n 3, 1) := by decide +kernel
theorem dL_law_29 : decode cL_law 29 = .ok (.aload_n 0, 1) := by decide +kernel
theorem dL_law_30 : decode cL_law 30 = .ok (.arraylength, 1) := by decide +kernel
theorem dL_law_31 : decode cL_law 31 = .ok (.iconst 4, 1) := by decide +kernel
theorem dL_law_32 : decode cL_law 32 = .ok (.isub, 1) := by decide +kernel
theorem dL_law_33 : decode cL_law 33 = .ok (.if_icmp .gt 444, 3) := by decide +kernel
theorem dL_law_36 : decode cL_law 36 = .ok (.aload_n 0, 1) := by decide +kernel
theorem dL_law_37 : decode cL_law 37 = .ok (.iload_n 3, 1) := by decide +kernel
theorem dL_law_38 : decode cL_law 38 = .ok (.iaload, 1) := by decide +kernel
theorem dL_law_39 : decode cL_law 39 = .ok (.bipush 15, 2) := by decide +kernel
theorem dL_law_41 : decode cL_law 41 = .ok (.iand, 1) := by decide +kernel
theorem dL_law_42 : decode cL_law 42 = .ok (.tableswitch 429 0 12 #[66, 125, 148, 171, 194, 205, 248, 271, 294, 317, 350, 383, 406], 66) := by decide +kernel
theorem dL_law_108 : decode cL_law 108 = .ok (.aload_n 1, 1) := by decide +kernel
theorem dL_law_109 : decode cL_law 109 = .ok (.aload_n 0, 1) := by decide +kernel
theorem dL_law_110 : decode cL_law 110 = .ok (.iload_n 3, 1) := by decide +kernel
theorem dL_law_111 : decode cL_law 111 = .ok (.iconst 1, 1) := by decide +kernel
theorem dL_law_112 : decode cL_law 112 = .ok (.iadd, 1) := by decide +kernel
theorem dL_law_113 : decode cL_law 113 = .ok (.iaload, 1) := by decide +kernel
theorem dL_law_114 : decode cL_law 114 = .ok (.aload_n 0, 1) := by decide +kernel
theorem dL_law_115 : decode cL_law 115 = .ok (.iload_n 3, 1) := by decide +kernel
theorem dL_law_116 : decode cL_law 116 = .ok (.iconst 2, 1) := by decide +kernel
theorem dL_law_117 : decode cL_law 117 = .ok (.iadd, 1) := by decide +kernel
theorem dL_law_118 : decode cL_law 118 = .ok (.iaload, 1) := by decide +kernel
theorem dL_law_119 : decode cL_law 119 = .ok (.aload_n 0, 1) := by decide +kernel
theorem dL_law_120 : decode cL_law 120 = .ok (.iload_n 3, 1) := by decide +kernel
theorem dL_law_121 : decode cL_law 121 = .ok (.iconst 3, 1) := by decide +kernel
theorem dL_law_122 : decode cL_law 122 = .ok (.iadd, 1) := by decide +kernel
theorem dL_law_123 : decode cL_law 123 = .ok (.iaload, 1) := by decide +kernel
theorem dL_law_124 : decode cL_law 124 = .ok (.ifCond .eq 7, 3) := by decide +kernel
theorem dL_law_127 : decode cL_law 127 = .ok (.iconst 1, 1) := by decide +kernel
theorem dL_law_128 : decode cL_law 128 = .ok (.goto 4, 3) := by decide +kernel
theorem dL_law_131 : decode cL_law 131 = .ok (.iconst 0, 1) := by decide +kernel
theorem dL_law_132 : decode cL_law 132 = .ok (.invokevirtual 21, 3) := by decide +kernel
theorem dL_law_135 : decode cL_law 135 = .ok (.aload_n 2, 1) := by decide +kernel
theorem dL_law_136 : decode cL_law 136 = .ok (.aload_n 0, 1) := by decide +kernel
theorem dL_law_137 : decode cL_law 137 = .ok (.iload_n 3, 1) := by decide +kernel
theorem dL_law_138 : decode cL_law 138 = .ok (.iconst 1, 1) := by decide +kernel
theorem dL_law_139 : decode cL_law 139 = .ok (.iadd, 1) := by decide +kernel
theorem dL_law_140 : decode cL_law 140 = .ok (.iaload, 1) := by decide +kernel
theorem dL_law_141 : decode cL_law 141 = .ok (.aload_n 0, 1) := by decide +kernel
theorem dL_law_142 : decode cL_law 142 = .ok (.iload_n 3, 1) := by decide +kernel
theorem dL_law_143 : decode cL_law 143 = .ok (.iconst 2, 1) := by decide +kernel
theorem dL_law_144 : decode cL_law 144 = .ok (.iadd, 1) := by decide +kernel
theorem dL_law_145 : decode cL_law 145 = .ok (.iaload, 1) := by decide +kernel
theorem dL_law_146 : decode cL_law 146 = .ok (.aload_n 0, 1) := by decide +kernel
theorem dL_law_147 : decode cL_law 147 = .ok (.iload_n 3, 1) := by decide +kernel
theorem dL_law_148 : decode cL_law 148 = .ok (.iconst 3, 1) := by decide +kernel
theorem dL_law_149 : decode cL_law 149 = .ok (.iadd, 1) := by decide +kernel
theorem dL_law_150 : decode cL_law 150 = .ok (.iaload, 1) := by decide +kernel
theorem dL_law_151 : decode cL_law 151 = .ok (.ifCond .eq 7, 3) := by decide +kernel
theorem dL_law_154 : decode cL_law 154 = .ok (.iconst 1, 1) := by decide +kernel
theorem dL_law_155 : decode cL_law 155 = .ok (.goto 4, 3) := by decide +kernel
theorem dL_law_158 : decode cL_law 158 = .ok (.iconst 0, 1) := by decide +kernel
theorem dL_law_159 : decode cL_law 159 = .ok (.invokevirtual 25, 3) := by decide +kernel
theorem dL_law_162 : decode cL_law 162 = .ok (.if_icmp .eq 309, 3) := by decide +kernel
theorem dL_law_165 : decode cL_law 165 = .ok (.iconst 0, 1) := by decide +kernel
theorem dL_law_166 : decode cL_law 166 = .ok (.ireturn, 1) := by decide +kernel
theorem dL_law_167 : decode cL_law 167 = .ok (.aload_n 1, 1) := by decide +kernel
theorem dL_law_168 : decode cL_law 168 = .ok (.aload_n 0, 1) := by decide +kernel
theorem dL_law_169 : decode cL_law 169 = .ok (.iload_n 3, 1) := by decide +kernel
theorem dL_law_170 : decode cL_law 170 = .ok (.iconst 1, 1) := by decide +kernel
theorem dL_law_171 : decode cL_law 171 = .ok (.iadd, 1) := by decide +kernel
theorem dL_law_172 : decode cL_law 172 = .ok (.iaload, 1) := by decide +kernel
theorem dL_law_173 : decode cL_law 173 = .ok (.invokevirtual 26, 3) := by decide +kernel
theorem dL_law_176 : decode cL_law 176 = .ok (.aload_n 2, 1) := by decide +kernel
theorem dL_law_177 : decode cL_law 177 = .ok (.aload_n 0, 1) := by decide +kernel
theorem dL_law_178 : decode cL_law 178 = .ok (.iload_n 3, 1) := by decide +kernel
theorem dL_law_179 : decode cL_law 179 = .ok (.iconst 1, 1) := by decide +kernel
theorem dL_law_180 : decode cL_law 180 = .ok (.iadd, 1) := by decide +kernel
theorem dL_law_181 : decode cL_law 181 = .ok (.iaload, 1) := by decide +kernel
theorem dL_law_182 : decode cL_law 182 = .ok (.invokevirtual 30, 3) := by decide +kernel
theorem dL_law_185 : decode cL_law 185 = .ok (.if_icmp .eq 286, 3) := by decide +kernel
theorem dL_law_188 : decode cL_law 188 = .ok (.iconst 0, 1) := by decide +kernel
theorem dL_law_189 : decode cL_law 189 = .ok (.ireturn, 1) := by decide +kernel
theorem dL_law_190 : decode cL_law 190 = .ok (.aload_n 1, 1) := by decide +kernel
theorem dL_law_191 : decode cL_law 191 = .ok (.aload_n 0, 1) := by decide +kernel
theorem dL_law_192 : decode cL_law 192 = .ok (.iload_n 3, 1) := by decide +kernel
theorem dL_law_193 : decode cL_law 193 = .ok (.iconst 1, 1) := by decide +kernel
theorem dL_law_194 : decode cL_law 194 = .ok (.iadd, 1) := by decide +kernel
theorem dL_law_195 : decode cL_law 195 = .ok (.iaload, 1) := by decide +kernel
theorem dL_law_196 : decode cL_law 196 = .ok (.invokevirtual 31, 3) := by decide +kernel
theorem dL_law_199 : decode cL_law 199 = .ok (.aload_n 2, 1) := by decide +kernel
theorem dL_law_200 : decode cL_law 200 = .ok (.aload_n 0, 1) := by decide +kernel
theorem dL_law_201 : decode cL_law 201 = .ok (.iload_n 3, 1) := by decide +kernel
theorem dL_law_202 : decode cL_law 202 = .ok (.iconst 1, 1) := by decide +kernel
theorem dL_law_203 : decode cL_law 203 = .ok (.iadd, 1) := by decide +kernel
theorem dL_law_204 : decode cL_law 204 = .ok (.iaload, 1) := by decide +kernel
theorem dL_law_205 : decode cL_law 205 = .ok (.invokevirtual 34, 3) := by decide +kernel
theorem dL_law_208 : decode cL_law 208 = .ok (.if_icmp .eq 263, 3) := by decide +kernel
theorem dL_law_211 : decode cL_law 211 = .ok (.iconst 0, 1) := by decide +kernel
theorem dL_law_212 : decode cL_law 212 = .ok (.ireturn, 1) := by decide +kernel
theorem dL_law_213 : decode cL_law 213 = .ok (.aload_n 1, 1) := by decide +kernel
theorem dL_law_214 : decode cL_law 214 = .ok (.aload_n 0, 1) := by decide +kernel
theorem dL_law_215 : decode cL_law 215 = .ok (.iload_n 3, 1) := by decide +kernel
theorem dL_law_216 : decode cL_law 216 = .ok (.iconst 1, 1) := by decide +kernel
theorem dL_law_217 : decode cL_law 217 = .ok (.iadd, 1) := by decide +kernel
theorem dL_law_218 : decode cL_law 218 = .ok (.iaload, 1) := by decide +kernel
theorem dL_law_219 : decode cL_law 219 = .ok (.invokevirtual 35, 3) := by decide +kernel
theorem dL_law_222 : decode cL_law 222 = .ok (.aload_n 2, 1) := by decide +kernel
theorem dL_law_223 : decode cL_law 223 = .ok (.aload_n 0, 1) := by decide +kernel
theorem dL_law_224 : decode cL_law 224 = .ok (.iload_n 3, 1) := by decide +kernel
theorem dL_law_225 : decode cL_law 225 = .ok (.iconst 1, 1) := by decide +kernel
theorem dL_law_226 : decode cL_law 226 = .ok (.iadd, 1) := by decide +kernel
theorem dL_law_227 : decode cL_law 227 = .ok (.iaload, 1) := by decide +kernel
theorem dL_law_228 : decode cL_law 228 = .ok (.invokevirtual 38, 3) := by decide +kernel
theorem dL_law_231 : decode cL_law 231 = .ok (.if_icmp .eq 240, 3) := by decide +kernel
theorem dL_law_234 : decode cL_law 234 = .ok (.iconst 0, 1) := by decide +kernel
theorem dL_law_235 : decode cL_law 235 = .ok (.ireturn, 1) := by decide +kernel
theorem dL_law_236 : decode cL_law 236 = .ok (.aload_n 1, 1) := by decide +kernel
theorem dL_law_237 : decode cL_law 237 = .ok (.invokevirtual 39, 3) := by decide +kernel
theorem dL_law_240 : decode cL_law 240 = .ok (.aload_n 2, 1) := by decide +kernel
theorem dL_law_241 : decode cL_law 241 = .ok (.invokevirtual 42, 3) := by decide +kernel
theorem dL_law_244 : decode cL_law 244 = .ok (.goto 227, 3) := by decide +kernel
theorem dL_law_247 : decode cL_law 247 = .ok (.aload_n 1, 1) := by decide +kernel
theorem dL_law_248 : decode cL_law 248 = .ok (.aload_n 0, 1) := by decide +kernel
theorem dL_law_249 : decode cL_law 249 = .ok (.iload_n 3, 1) := by decide +kernel
theorem dL_law_250 : decode cL_law 250 = .ok (.iconst 1, 1) := by decide +kernel
theorem dL_law_251 : decode cL_law 251 = .ok (.iadd, 1) := by decide +kernel
theorem dL_law_252 : decode cL_law 252 = .ok (.iaload, 1) := by decide +kernel
theorem dL_law_253 : decode cL_law 253 = .ok (.aload_n 0, 1) := by decide +kernel
theorem dL_law_254 : decode cL_law 254 = .ok (.iload_n 3, 1) := by decide +kernel
theorem dL_law_255 : decode cL_law 255 = .ok (.iconst 2, 1) := by decide +kernel
theorem dL_law_256 : decode cL_law 256 = .ok (.iadd, 1) := by decide +kernel
theorem dL_law_257 : decode cL_law 257 = .ok (.iaload, 1) := by decide +kernel
theorem dL_law_258 : decode cL_law 258 = .ok (.aload_n 0, 1) := by decide +kernel
theorem dL_law_259 : decode cL_law 259 = .ok (.iload_n 3, 1) := by decide +kernel
theorem dL_law_260 : decode cL_law 260 = .ok (.iconst 3, 1) := by decide +kernel
theorem dL_law_261 : decode cL_law 261 = .ok (.iadd, 1) := by decide +kernel
theorem dL_law_262 : decode cL_law 262 = .ok (.iaload, 1) := by decide +kernel
theorem dL_law_263 : decode cL_law 263 = .ok (.invokevirtual 43, 3) := by decide +kernel
theorem dL_law_266 : decode cL_law 266 = .ok (.aload_n 2, 1) := by decide +kernel
theorem dL_law_267 : decode cL_law 267 = .ok (.aload_n 0, 1) := by decide +kernel
theorem dL_law_268 : decode cL_law 268 = .ok (.iload_n 3, 1) := by decide +kernel
theorem dL_law_269 : decode cL_law 269 = .ok (.iconst 1, 1) := by decide +kernel
theorem dL_law_270 : decode cL_law 270 = .ok (.iadd, 1) := by decide +kernel
theorem dL_law_271 : decode cL_law 271 = .ok (.iaload, 1) := by decide +kernel
theorem dL_law_272 : decode cL_law 272 = .ok (.aload_n 0, 1) := by decide +kernel
theorem dL_law_273 : decode cL_law 273 = .ok (.iload_n 3, 1) := by decide +kernel
theorem dL_law_274 : decode cL_law 274 = .ok (.iconst 2, 1) := by decide +kernel
theorem dL_law_275 : decode cL_law 275 = .ok (.iadd, 1) := by decide +kernel
theorem dL_law_276 : decode cL_law 276 = .ok (.iaload, 1) := by decide +kernel
theorem dL_law_277 : decode cL_law 277 = .ok (.aload_n 0, 1) := by decide +kernel
theorem dL_law_278 : decode cL_law 278 = .ok (.iload_n 3, 1) := by decide +kernel
theorem dL_law_279 : decode cL_law 279 = .ok (.iconst 3, 1) := by decide +kernel
theorem dL_law_280 : decode cL_law 280 = .ok (.iadd, 1) := by decide +kernel
theorem dL_law_281 : decode cL_law 281 = .ok (.iaload, 1) := by decide +kernel
theorem dL_law_282 : decode cL_law 282 = .ok (.invokevirtual 47, 3) := by decide +kernel
theorem dL_law_285 : decode cL_law 285 = .ok (.if_icmp .eq 186, 3) := by decide +kernel
theorem dL_law_288 : decode cL_law 288 = .ok (.iconst 0, 1) := by decide +kernel
theorem dL_law_289 : decode cL_law 289 = .ok (.ireturn, 1) := by decide +kernel
theorem dL_law_290 : decode cL_law 290 = .ok (.aload_n 1, 1) := by decide +kernel
theorem dL_law_291 : decode cL_law 291 = .ok (.aload_n 0, 1) := by decide +kernel
theorem dL_law_292 : decode cL_law 292 = .ok (.iload_n 3, 1) := by decide +kernel
theorem dL_law_293 : decode cL_law 293 = .ok (.iconst 1, 1) := by decide +kernel
theorem dL_law_294 : decode cL_law 294 = .ok (.iadd, 1) := by decide +kernel
theorem dL_law_295 : decode cL_law 295 = .ok (.iaload, 1) := by decide +kernel
theorem dL_law_296 : decode cL_law 296 = .ok (.invokevirtual 48, 3) := by decide +kernel
theorem dL_law_299 : decode cL_law 299 = .ok (.aload_n 2, 1) := by decide +kernel
theorem dL_law_300 : decode cL_law 300 = .ok (.aload_n 0, 1) := by decide +kernel
theorem dL_law_301 : decode cL_law 301 = .ok (.iload_n 3, 1) := by decide +kernel
theorem dL_law_302 : decode cL_law 302 = .ok (.iconst 1, 1) := by decide +kernel
theorem dL_law_303 : decode cL_law 303 = .ok (.iadd, 1) := by decide +kernel
theorem dL_law_304 : decode cL_law 304 = .ok (.iaload, 1) := by decide +kernel
theorem dL_law_305 : decode cL_law 305 = .ok (.invokevirtual 51, 3) := by decide +kernel
theorem dL_law_308 : decode cL_law 308 = .ok (.if_icmp .eq 163, 3) := by decide +kernel
theorem dL_law_311 : decode cL_law 311 = .ok (.iconst 0, 1) := by decide +kernel
theorem dL_law_312 : decode cL_law 312 = .ok (.ireturn, 1) := by decide +kernel
theorem dL_law_313 : decode cL_law 313 = .ok (.aload_n 1, 1) := by decide +kernel
theorem dL_law_314 : decode cL_law 314 = .ok (.aload_n 0, 1) := by decide +kernel
theorem dL_law_315 : decode cL_law 315 = .ok (.iload_n 3, 1) := by decide +kernel
theorem dL_law_316 : decode cL_law 316 = .ok (.iconst 1, 1) := by decide +kernel
theorem dL_law_317 : decode cL_law 317 = .ok (.iadd, 1) := by decide +kernel
theorem dL_law_318 : decode cL_law 318 = .ok (.iaload, 1) := by decide +kernel
theorem dL_law_319 : decode cL_law 319 = .ok (.invokevirtual 52, 3) := by decide +kernel
theorem dL_law_322 : decode cL_law 322 = .ok (.aload_n 2, 1) := by decide +kernel
theorem dL_law_323 : decode cL_law 323 = .ok (.aload_n 0, 1) := by decide +kernel
theorem dL_law_324 : decode cL_law 324 = .ok (.iload_n 3, 1) := by decide +kernel
theorem dL_law_325 : decode cL_law 325 = .ok (.iconst 1, 1) := by decide +kernel
theorem dL_law_326 : decode cL_law 326 = .ok (.iadd, 1) := by decide +kernel
theorem dL_law_327 : decode cL_law 327 = .ok (.iaload, 1) := by decide +kernel
theorem dL_law_328 : decode cL_law 328 = .ok (.invokevirtual 55, 3) := by decide +kernel
theorem dL_law_331 : decode cL_law 331 = .ok (.if_icmp .eq 140, 3) := by decide +kernel
theorem dL_law_334 : decode cL_law 334 = .ok (.iconst 0, 1) := by decide +kernel
theorem dL_law_335 : decode cL_law 335 = .ok (.ireturn, 1) := by decide +kernel
theorem dL_law_336 : decode cL_law 336 = .ok (.aload_n 1, 1) := by decide +kernel
theorem dL_law_337 : decode cL_law 337 = .ok (.aload_n 0, 1) := by decide +kernel
theorem dL_law_338 : decode cL_law 338 = .ok (.iload_n 3, 1) := by decide +kernel
theorem dL_law_339 : decode cL_law 339 = .ok (.iconst 1, 1) := by decide +kernel
theorem dL_law_340 : decode cL_law 340 = .ok (.iadd, 1) := by decide +kernel
theorem dL_law_341 : decode cL_law 341 = .ok (.iaload, 1) := by decide +kernel
theorem dL_law_342 : decode cL_law 342 = .ok (.invokevirtual 56, 3) := by decide +kernel
theorem dL_law_345 : decode cL_law 345 = .ok (.aload_n 2, 1) := by decide +kernel
theorem dL_law_346 : decode cL_law 346 = .ok (.aload_n 0, 1) := by decide +kernel
theorem dL_law_347 : decode cL_law 347 = .ok (.iload_n 3, 1) := by decide +kernel
theorem dL_law_348 : decode cL_law 348 = .ok (.iconst 1, 1) := by decide +kernel
theorem dL_law_349 : decode cL_law 349 = .ok (.iadd, 1) := by decide +kernel
theorem dL_law_350 : decode cL_law 350 = .ok (.iaload, 1) := by decide +kernel
theorem dL_law_351 : decode cL_law 351 = .ok (.invokevirtual 59, 3) := by decide +kernel
theorem dL_law_354 : decode cL_law 354 = .ok (.if_icmp .eq 117, 3) := by decide +kernel
theorem dL_law_357 : decode cL_law 357 = .ok (.iconst 0, 1) := by decide +kernel
theorem dL_law_358 : decode cL_law 358 = .ok (.ireturn, 1) := by decide +kernel
theorem dL_law_359 : decode cL_law 359 = .ok (.aload_n 1, 1) := by decide +kernel
theorem dL_law_360 : decode cL_law 360 = .ok (.aload_n 0, 1) := by decide +kernel
theorem dL_law_361 : decode cL_law 361 = .ok (.iload_n 3, 1) := by decide +kernel
theorem dL_law_362 : decode cL_law 362 = .ok (.iconst 1, 1) := by decide +kernel
theorem dL_law_363 : decode cL_law 363 = .ok (.iadd, 1) := by decide +kernel
theorem dL_law_364 : decode cL_law 364 = .ok (.iaload, 1) := by decide +kernel
theorem dL_law_365 : decode cL_law 365 = .ok (.aload_n 0, 1) := by decide +kernel
theorem dL_law_366 : decode cL_law 366 = .ok (.iload_n 3, 1) := by decide +kernel
theorem dL_law_367 : decode cL_law 367 = .ok (.iconst 2, 1) := by decide +kernel
theorem dL_law_368 : decode cL_law 368 = .ok (.iadd, 1) := by decide +kernel
theorem dL_law_369 : decode cL_law 369 = .ok (.iaload, 1) := by decide +kernel
theorem dL_law_370 : decode cL_law 370 = .ok (.invokevirtual 60, 3) := by decide +kernel
theorem dL_law_373 : decode cL_law 373 = .ok (.aload_n 2, 1) := by decide +kernel
theorem dL_law_374 : decode cL_law 374 = .ok (.aload_n 0, 1) := by decide +kernel
theorem dL_law_375 : decode cL_law 375 = .ok (.iload_n 3, 1) := by decide +kernel
theorem dL_law_376 : decode cL_law 376 = .ok (.iconst 1, 1) := by decide +kernel
theorem dL_law_377 : decode cL_law 377 = .ok (.iadd, 1) := by decide +kernel
theorem dL_law_378 : decode cL_law 378 = .ok (.iaload, 1) := by decide +kernel
theorem dL_law_379 : decode cL_law 379 = .ok (.aload_n 0, 1) := by decide +kernel
theorem dL_law_380 : decode cL_law 380 = .ok (.iload_n 3, 1) := by decide +kernel
theorem dL_law_381 : decode cL_law 381 = .ok (.iconst 2, 1) := by decide +kernel
theorem dL_law_382 : decode cL_law 382 = .ok (.iadd, 1) := by decide +kernel
theorem dL_law_383 : decode cL_law 383 = .ok (.iaload, 1) := by decide +kernel
theorem dL_law_384 : decode cL_law 384 = .ok (.invokevirtual 64, 3) := by decide +kernel
theorem dL_law_387 : decode cL_law 387 = .ok (.if_icmp .eq 84, 3) := by decide +kernel
theorem dL_law_390 : decode cL_law 390 = .ok (.iconst 0, 1) := by decide +kernel
theorem dL_law_391 : decode cL_law 391 = .ok (.ireturn, 1) := by decide +kernel
theorem dL_law_392 : decode cL_law 392 = .ok (.aload_n 1, 1) := by decide +kernel
theorem dL_law_393 : decode cL_law 393 = .ok (.aload_n 0, 1) := by decide +kernel
theorem dL_law_394 : decode cL_law 394 = .ok (.iload_n 3, 1) := by decide +kernel
theorem dL_law_395 : decode cL_law 395 = .ok (.iconst 1, 1) := by decide +kernel
theorem dL_law_396 : decode cL_law 396 = .ok (.iadd, 1) := by decide +kernel
theorem dL_law_397 : decode cL_law 397 = .ok (.iaload, 1) := by decide +kernel
theorem dL_law_398 : decode cL_law 398 = .ok (.aload_n 0, 1) := by decide +kernel
theorem dL_law_399 : decode cL_law 399 = .ok (.iload_n 3, 1) := by decide +kernel
theorem dL_law_400 : decode cL_law 400 = .ok (.iconst 2, 1) := by decide +kernel
theorem dL_law_401 : decode cL_law 401 = .ok (.iadd, 1) := by decide +kernel
theorem dL_law_402 : decode cL_law 402 = .ok (.iaload, 1) := by decide +kernel
theorem dL_law_403 : decode cL_law 403 = .ok (.invokevirtual 65, 3) := by decide +kernel
theorem dL_law_406 : decode cL_law 406 = .ok (.aload_n 2, 1) := by decide +kernel
theorem dL_law_407 : decode cL_law 407 = .ok (.aload_n 0, 1) := by decide +kernel
theorem dL_law_408 : decode cL_law 408 = .ok (.iload_n 3, 1) := by decide +kernel
theorem dL_law_409 : decode cL_law 409 = .ok (.iconst 1, 1) := by decide +kernel
theorem dL_law_410 : decode cL_law 410 = .ok (.iadd, 1) := by decide +kernel
theorem dL_law_411 : decode cL_law 411 = .ok (.iaload, 1) := by decide +kernel
theorem dL_law_412 : decode cL_law 412 = .ok (.aload_n 0, 1) := by decide +kernel
theorem dL_law_413 : decode cL_law 413 = .ok (.iload_n 3, 1) := by decide +kernel
theorem dL_law_414 : decode cL_law 414 = .ok (.iconst 2, 1) := by decide +kernel
theorem dL_law_415 : decode cL_law 415 = .ok (.iadd, 1) := by decide +kernel
theorem dL_law_416 : decode cL_law 416 = .ok (.iaload, 1) := by decide +kernel
theorem dL_law_417 : decode cL_law 417 = .ok (.invokevirtual 69, 3) := by decide +kernel
theorem dL_law_420 : decode cL_law 420 = .ok (.if_icmp .eq 51, 3) := by decide +kernel
theorem dL_law_423 : decode cL_law 423 = .ok (.iconst 0, 1) := by decide +kernel
theorem dL_law_424 : decode cL_law 424 = .ok (.ireturn, 1) := by decide +kernel
theorem dL_law_425 : decode cL_law 425 = .ok (.aload_n 1, 1) := by decide +kernel
theorem dL_law_426 : decode cL_law 426 = .ok (.aload_n 0, 1) := by decide +kernel
theorem dL_law_427 : decode cL_law 427 = .ok (.iload_n 3, 1) := by decide +kernel
theorem dL_law_428 : decode cL_law 428 = .ok (.iconst 1, 1) := by decide +kernel
theorem dL_law_429 : decode cL_law 429 = .ok (.iadd, 1) := by decide +kernel
theorem dL_law_430 : decode cL_law 430 = .ok (.iaload, 1) := by decide +kernel
theorem dL_law_431 : decode cL_law 431 = .ok (.invokevirtual 70, 3) := by decide +kernel
theorem dL_law_434 : decode cL_law 434 = .ok (.aload_n 2, 1) := by decide +kernel
theorem dL_law_435 : decode cL_law 435 = .ok (.aload_n 0, 1) := by decide +kernel
theorem dL_law_436 : decode cL_law 436 = .ok (.iload_n 3, 1) := by decide +kernel
theorem dL_law_437 : decode cL_law 437 = .ok (.iconst 1, 1) := by decide +kernel
theorem dL_law_438 : decode cL_law 438 = .ok (.iadd, 1) := by decide +kernel
theorem dL_law_439 : decode cL_law 439 = .ok (.iaload, 1) := by decide +kernel
theorem dL_law_440 : decode cL_law 440 = .ok (.invokevirtual 73, 3) := by decide +kernel
theorem dL_law_443 : decode cL_law 443 = .ok (.if_icmp .eq 28, 3) := by decide +kernel
theorem dL_law_446 : decode cL_law 446 = .ok (.iconst 0, 1) := by decide +kernel
theorem dL_law_447 : decode cL_law 447 = .ok (.ireturn, 1) := by decide +kernel
theorem dL_law_448 : decode cL_law 448 = .ok (.aload_n 1, 1) := by decide +kernel
theorem dL_law_449 : decode cL_law 449 = .ok (.aload_n 0, 1) := by decide +kernel
theorem dL_law_450 : decode cL_law 450 = .ok (.iload_n 3, 1) := by decide +kernel
theorem dL_law_451 : decode cL_law 451 = .ok (.iconst 1, 1) := by decide +kernel
theorem dL_law_452 : decode cL_law 452 = .ok (.iadd, 1) := by decide +kernel
theorem dL_law_453 : decode cL_law 453 = .ok (.iaload, 1) := by decide +kernel
theorem dL_law_454 : decode cL_law 454 = .ok (.invokevirtual 74, 3) := by decide +kernel
theorem dL_law_457 : decode cL_law 457 = .ok (.aload_n 2, 1) := by decide +kernel
theorem dL_law_458 : decode cL_law 458 = .ok (.aload_n 0, 1) := by decide +kernel
theorem dL_law_459 : decode cL_law 459 = .ok (.iload_n 3, 1) := by decide +kernel
theorem dL_law_460 : decode cL_law 460 = .ok (.iconst 1, 1) := by decide +kernel
theorem dL_law_461 : decode cL_law 461 = .ok (.iadd, 1) := by decide +kernel
theorem dL_law_462 : decode cL_law 462 = .ok (.iaload, 1) := by decide +kernel
theorem dL_law_463 : decode cL_law 463 = .ok (.invokevirtual 77, 3) := by decide +kernel
theorem dL_law_466 : decode cL_law 466 = .ok (.if_icmp .eq 5, 3) := by decide +kernel
theorem dL_law_469 : decode cL_law 469 = .ok (.iconst 0, 1) := by decide +kernel
theorem dL_law_470 : decode cL_law 470 = .ok (.ireturn, 1) := by decide +kernel
theorem dL_law_471 : decode cL_law 471 = .ok (.iinc 3 4, 3) := by decide +kernel
theorem dL_law_474 : decode cL_law 474 = .ok (.goto (-446), 3) := by decide +kernel
theorem dL_law_477 : decode cL_law 477 = .ok (.iconst 1, 1) := by decide +kernel
theorem dL_law_478 : decode cL_law 478 = .ok (.ireturn, 1) := by decide +kernel
end
section
/-! THE PLAIN LAW, layer 1: two stations with absolute numbers. A frame: (kind, number, number expected back, byte). A station: (first not confirmed, bytes not confirmed, expected, asked, bytes got, frames on the line from it) -/
abbrev pm_F : Type := Nat × Nat × Nat × Nat
abbrev pm_S : Type := Nat × List Nat × Nat × Nat × List Nat × List pm_F
abbrev pm_na (S : pm_S) : Nat := S.1
abbrev pm_sq (S : pm_S) : List Nat := S.2.1
abbrev pm_nr (S : pm_S) : Nat := S.2.2.1
abbrev pm_ak (S : pm_S) : Nat := S.2.2.2.1
abbrev pm_gq (S : pm_S) : List Nat := S.2.2.2.2.1
abbrev pm_ln (S : pm_S) : List pm_F := S.2.2.2.2.2
/-- what may be under way -/
abbrev pm_K (w : Nat) (S : pm_S) : Nat := min w (pm_sq S).length
def pm_setln (S : pm_S) (l : List pm_F) : pm_S := (pm_na S, pm_sq S, pm_nr S, pm_ak S, pm_gq S, l)
def pm_push (S : pm_S) (o : List pm_F) : pm_S := (pm_na S, pm_sq S, pm_nr S, pm_ak S, pm_gq S, (pm_ln S ++ o).take 16)
def pm_burst (S : pm_S) (i j : Nat) : List pm_F := (List.range' i (j - i)).map (fun o => (0, pm_na S + o, pm_nr S, (pm_sq S).getD o 0))
abbrev pm_acc (S : pm_S) (f : pm_F) : Prop := f.1 = 0 ∧ f.2.1 = pm_nr S
abbrev pm_gb (S : pm_S) (f : pm_F) : Prop := f.1 = 0 ∧ pm_nr S < f.2.1 ∧ pm_ak S = 0
/-- a frame's effect at the station that it comes to, but for what is sent -/
def pm_core (S : pm_S) (f : pm_F) : pm_S := (f.2.2.1, (pm_sq S).drop (f.2.2.1 - pm_na S), (if pm_acc S f then pm_nr S + 1 else pm_nr S), (if pm_acc S f then 0 else if pm_gb S f then 1 else pm_ak S), (if pm_acc S f then pm_gq S ++ [f.2.2.2] else pm_gq S), pm_ln S)
/-- the first byte not under way, behind a confirmation -/
abbrev pm_U (w : Nat) (S : pm_S) (f : pm_F) : Nat := pm_K w S - (f.2.2.1 - pm_na S)
def pm_out (w : Nat) (S : pm_S) (f : pm_F) : List pm_F :=
  (if pm_gb S f then [(2, 0, pm_nr S, 0)] else []) ++ ((if f.1 = 2 then pm_burst (pm_core S f) 0 (pm_K w (pm_core S f)) else pm_burst (pm_core S f) (pm_U w S f) (pm_K w (pm_core S f))) ++
  (if f.1 = 0 ∧ ¬ pm_gb S f ∧ ¬ pm_U w S f < pm_K w (pm_core S f) then [(1, 0, pm_nr (pm_core S f), 0)] else []))
def pm_recv (w : Nat) (S : pm_S) (f : pm_F) : pm_S := pm_push (pm_core S f) (pm_out w S f)
/-- the invariant of the bytes from S to T -/
def pm_J (w : Nat) (S T : pm_S) : Prop :=
  (pm_na S ≤ pm_nr T ∧ pm_nr T ≤ pm_na S + pm_K w S) ∧
  (∀ f ∈ pm_ln S, f.1 = 0 → f.2.1 < pm_na S + pm_K w S ∧ pm_nr T ≤ f.2.1 + 4 ∧ (pm_na S ≤ f.2.1 → f.2.2.2 = (pm_sq S).getD (f.2.1 - pm_na S) 0)) ∧
  (pm_ln S).Pairwise (fun f g => f.1 = 0 → g.1 = 0 → f.2.1 < g.2.1 + 4) ∧
  (∀ g ∈ pm_ln T, pm_na S ≤ g.2.2.1 ∧ g.2.2.1 ≤ pm_nr T) ∧
  (pm_ln T).Pairwise (fun f g => f.2.2.1 ≤ g.2.2.1) ∧
  pm_nr T - pm_na S ≤ (pm_gq T).length
/-- a frame that S may send now -/
def pm_nf (w : Nat) (S : pm_S) (g : pm_F) : Prop := g.2.2.1 = pm_nr S ∧ (g.1 = 0 → pm_na S ≤ g.2.1 ∧ g.2.1 < pm_na S + pm_K w S ∧ g.2.2.2 = (pm_sq S).getD (g.2.1 - pm_na S) 0)
/-- what waits for T, as the plain queue has it -/
def pm_qv (S T : pm_S) : List Nat := pm_gq T ++ (pm_sq S).drop (pm_nr T - pm_na S)
theorem pm_pw {α : Type} {r : α → α → Prop} : ∀ {l : List α}, (∀ a ∈ l, ∀ b ∈ l, r a b) → l.Pairwise r
  | [], _ => List.Pairwise.nil
  | x :: l, h => List.Pairwise.cons (fun b hb => h x List.mem_cons_self b (List.mem_cons_of_mem _ hb)) (pm_pw (fun a ha b hb => h a (List.mem_cons_of_mem _ ha) b (List.mem_cons_of_mem _ hb)))
theorem pm_push_J {w : Nat} {S T : pm_S} {o : List pm_F} (hw : w ≤ 4) (ho : ∀ g ∈ o, pm_nf w S g) (h1 : pm_J w S T) (h2 : pm_J w T S) : pm_J w (pm_push S o) T ∧ pm_J w T (pm_push S o) := by
  obtain ⟨a1, a2, a3, a4, a5, a6⟩ := h1
  obtain ⟨b1, b2, b3, b4, b5, b6⟩ := h2
  have hK : pm_K w S ≤ 4 := Nat.le_trans (Nat.min_le_left _ _) hw
  have hm : ∀ g ∈ pm_ln (pm_push S o), g ∈ pm_ln S ∨ g ∈ o := fun g hg => List.mem_append.mp (List.mem_of_mem_take hg)
  refine ⟨⟨a1, ?_, ?_, a4, a5, a6⟩, ⟨b1, b2, b3, ?_, ?_, b6⟩⟩
  · intro f hf h0
    rcases hm f hf with q | q
    · exact a2 f q h0
    · obtain ⟨c1, c2⟩ := ho f q
      obtain ⟨d1, d2, d3⟩ := c2 h0
      exact ⟨d2, by have := a1.2; omega, fun _ => d3⟩
  · refine List.Pairwise.sublist (List.take_sublist 16 _) (List.pairwise_append.mpr ⟨a3, pm_pw ?_, ?_⟩)
    · intro f hf g hg h0 h1
      have d := (ho f hf).2 h0
      have d' := (ho g hg).2 h1
      omega
    · intro f hf g hg h0 h1
      have d := a2 f hf h0
      have d' := (ho g hg).2 h1
      omega
  · intro g hg
    rcases hm g hg with q | q
    · exact b4 g q
    · have c1 := (ho g q).1
      rw [c1]
      exact ⟨b1.1, Nat.le_refl _⟩
  · refine List.Pairwise.sublist (List.take_sublist 16 _) (List.pairwise_append.mpr ⟨b5, pm_pw ?_, ?_⟩)
    · intro f hf g hg
      rw [(ho f hf).1, (ho g hg).1]
      exact Nat.le_refl _
    · intro f hf g hg
      rw [(ho g hg).1]
      exact (b4 f hf).2
theorem pm_burst_mem {S : pm_S} {i j : Nat} {g : pm_F} (h : g ∈ pm_burst S i j) : ∃ o, i ≤ o ∧ o < j ∧ g = (0, pm_na S + o, pm_nr S, (pm_sq S).getD o 0) := by
  obtain ⟨o, ho, rfl⟩ := List.mem_map.mp h
  have := List.mem_range'_1.mp ho
  exact ⟨o, this.1, by omega, rfl⟩
theorem pm_burst_nf {w : Nat} {S : pm_S} {i j : Nat} (hj : j ≤ pm_K w S) : ∀ g ∈ pm_burst S i j, pm_nf w S g := by
  intro g hg
  obtain ⟨o, h1, h2, rfl⟩ := pm_burst_mem hg
  refine ⟨rfl, fun _ => ⟨Nat.le_add_right _ _, ?_, ?_⟩⟩
  · show pm_na S + o < pm_na S + pm_K w S
    omega
  · show (pm_sq S).getD o 0 = (pm_sq S).getD (pm_na S + o - pm_na S) 0
    rw [Nat.add_sub_cancel_left]
theorem pm_out_nf {w : Nat} {S : pm_S} {f : pm_F} : ∀ g ∈ pm_out w S f, pm_nf w (pm_core S f) g := by
  intro g hg
  rcases List.mem_append.mp hg with h | h
  · by_cases hb : pm_gb S f
    · rw [if_pos hb] at h
      have hna : ¬ pm_acc S f := fun q => by have := hb.2.1; have := q.2; omega
      rw [List.mem_singleton.mp h]
      refine ⟨?_, fun q => by cases q⟩
      show pm_nr S = if pm_acc S f then pm_nr S + 1 else pm_nr S
      rw [if_neg hna]
    · rw [if_neg hb] at h
      cases h
  · rcases List.mem_append.mp h with h | h
    · by_cases h2 : f.1 = 2
      · rw [if_pos h2] at h
        exact pm_burst_nf (Nat.le_refl _) g h
      · rw [if_neg h2] at h
        exact pm_burst_nf (Nat.le_refl _) g h
    · by_cases h2 : f.1 = 0 ∧ ¬ pm_gb S f ∧ ¬ pm_U w S f < pm_K w (pm_core S f)
      · rw [if_pos h2] at h
        rw [List.mem_singleton.mp h]
        exact ⟨rfl, fun q => by cases q⟩
      · rw [if_neg h2] at h
        cases h
theorem pm_getD_drop (l : List Nat) (n i : Nat) : (l.drop n).getD i 0 = l.getD (n + i) 0 := by
  simp [List.getD_eq_getElem?_getD, List.getElem?_drop]
/-- a frame f at the head of the line from S comes to T: the invariants hold with the frame still on the line -/
theorem pm_core_J {w : Nat} {S T : pm_S} {f : pm_F} {rest : List pm_F} (hl : pm_ln S = f :: rest) (h1 : pm_J w S T) (h2 : pm_J w T S) : pm_J w S (pm_core T f) ∧ pm_J w (pm_core T f) S := by
  obtain ⟨a1, a2, a3, a4, a5, a6⟩ := h1
  obtain ⟨b1, b2, b3, b4, b5, b6⟩ := h2
  have hf : f ∈ pm_ln S := by rw [hl]; exact List.mem_cons_self
  have hr := b4 f hf
  have hfa := a2 f hf
  have h3 := a3
  rw [hl] at h3
  have h3 := (List.pairwise_cons.mp h3).1
  have h5 := b5
  rw [hl] at h5
  have h5 := (List.pairwise_cons.mp h5).1
  have hlen : ((pm_sq T).drop (f.2.2.1 - pm_na T)).length = (pm_sq T).length - (f.2.2.1 - pm_na T) := List.length_drop
  have hkm : pm_na T + pm_K w T ≤ f.2.2.1 + pm_K w (pm_core T f) := by
    show pm_na T + min w (pm_sq T).length ≤ f.2.2.1 + min w ((pm_sq T).drop (f.2.2.1 - pm_na T)).length
    rw [hlen]
    have := b1.2
    have hb : pm_K w T = min w (pm_sq T).length := rfl
    omega
  have hnr : pm_nr (pm_core T f) = if pm_acc T f then pm_nr T + 1 else pm_nr T := rfl
  have hnr1 : pm_nr T ≤ pm_nr (pm_core T f) := by rw [hnr]; split <;> omega
  have hgq : pm_gq (pm_core T f) = if pm_acc T f then pm_gq T ++ [f.2.2.2] else pm_gq T := rfl
  refine ⟨⟨⟨Nat.le_trans a1.1 hnr1, ?_⟩, ?_, a3, ?_, a5, ?_⟩, ⟨⟨hr.2, Nat.le_trans b1.2 hkm⟩, ?_, b3, ?_, b5, ?_⟩⟩
  · rw [hnr]
    by_cases hc : pm_acc T f
    · rw [if_pos hc]
      have := hfa hc.1
      have := hc.2
      omega
    · rw [if_neg hc]
      exact a1.2
  · intro g hg h0
    obtain ⟨c1, c2, c3⟩ := a2 g hg h0
    refine ⟨c1, ?_, c3⟩
    rw [hnr]
    by_cases hc : pm_acc T f
    · rw [if_pos hc]
      rw [hl] at hg
      have e := hc.2
      rcases List.mem_cons.mp hg with q | q
      · rw [q]; omega
      · have := h3 g q hc.1 h0
        omega
    · rw [if_neg hc]
      exact c2
  · intro g hg
    have := a4 g hg
    exact ⟨this.1, Nat.le_trans this.2 hnr1⟩
  · rw [hnr, hgq]
    by_cases hc : pm_acc T f
    · rw [if_pos hc, if_pos hc, List.length_append]
      have := a6
      have := a1.1
      simp only [List.length_cons, List.length_nil]
      omega
    · rw [if_neg hc, if_neg hc]
      exact a6
  · intro g hg h0
    obtain ⟨c1, c2, c3⟩ := b2 g hg h0
    refine ⟨Nat.lt_of_lt_of_le c1 hkm, c2, fun q => ?_⟩
    have q : f.2.2.1 ≤ g.2.1 := q
    rw [c3 (Nat.le_trans hr.1 q)]
    show (pm_sq T).getD (g.2.1 - pm_na T) 0 = ((pm_sq T).drop (f.2.2.1 - pm_na T)).getD (g.2.1 - f.2.2.1) 0
    rw [pm_getD_drop]
    congr 1
    have := hr.1
    omega
  · intro g hg
    refine ⟨?_, (b4 g hg).2⟩
    rw [hl] at hg
    rcases List.mem_cons.mp hg with q | q
    · rw [q]; exact Nat.le_refl _
    · exact h5 g q
  · show pm_nr S - f.2.2.1 ≤ (pm_gq S).length
    have := b6
    have := hr.1
    omega
theorem pm_core_qv {w : Nat} {S T : pm_S} {f : pm_F} (hf : f ∈ pm_ln S) (h1 : pm_J w S T) (h2 : pm_J w T S) : pm_qv S (pm_core T f) = pm_qv S T ∧ pm_qv (pm_core T f) S = pm_qv T S := by
  obtain ⟨a1, a2, a3, a4, a5, a6⟩ := h1
  obtain ⟨b1, b2, b3, b4, b5, b6⟩ := h2
  have hr := b4 f hf
  have hfa := a2 f hf
  have hnr : pm_nr (pm_core T f) = if pm_acc T f then pm_nr T + 1 else pm_nr T := rfl
  have hgq : pm_gq (pm_core T f) = if pm_acc T f then pm_gq T ++ [f.2.2.2] else pm_gq T := rfl
  constructor
  · unfold pm_qv
    rw [hnr, hgq]
    by_cases hc : pm_acc T f
    · rw [if_pos hc, if_pos hc]
      obtain ⟨c1, c2, c3⟩ := hfa hc.1
      have e := hc.2
      have hK : pm_K w S ≤ (pm_sq S).length := Nat.min_le_right _ _
      have hd : pm_nr T - pm_na S < (pm_sq S).length := by omega
      have hd1 : pm_nr T + 1 - pm_na S = pm_nr T - pm_na S + 1 := by have := a1.1; omega
      rw [List.drop_eq_getElem_cons hd, hd1, List.append_assoc]
      have hb := c3 (by rw [e]; exact a1.1)
      have hg : (pm_sq S)[pm_nr T - pm_na S] = f.2.2.2 := by
        rw [hb, e, List.getD_eq_getElem?_getD, List.getElem?_eq_getElem hd]
        rfl
      rw [hg]
      rfl
    · rw [if_neg hc, if_neg hc]
  · unfold pm_qv
    show pm_gq S ++ ((pm_sq T).drop (f.2.2.1 - pm_na T)).drop (pm_nr S - f.2.2.1) = _
    rw [List.drop_drop]
    congr 2
    omega
theorem pm_setln_J {w : Nat} {S T : pm_S} {l : List pm_F} (hl : l.Sublist (pm_ln S)) (h1 : pm_J w S T) (h2 : pm_J w T S) : pm_J w (pm_setln S l) T ∧ pm_J w T (pm_setln S l) := by
  obtain ⟨a1, a2, a3, a4, a5, a6⟩ := h1
  obtain ⟨b1, b2, b3, b4, b5, b6⟩ := h2
  exact ⟨⟨a1, fun f hf => a2 f (hl.subset hf), a3.sublist hl, a4, a5, a6⟩, ⟨b1, b2, b3, fun g hg => b4 g (hl.subset hg), b5.sublist hl, b6⟩⟩
/-- a frame is brought and stays on the line -/
theorem pm_dup_J {w : Nat} (hw : w ≤ 4) {S T : pm_S} {f : pm_F} {rest : List pm_F} (hl : pm_ln S = f :: rest) (h1 : pm_J w S T) (h2 : pm_J w T S) : (pm_J w S (pm_recv w T f) ∧ pm_J w (pm_recv w T f) S) ∧ pm_qv S (pm_recv w T f) = pm_qv S T ∧ pm_qv (pm_recv w T f) S = pm_qv T S := by
  obtain ⟨c1, c2⟩ := pm_core_J hl h1 h2
  obtain ⟨d1, d2⟩ := pm_push_J hw pm_out_nf c2 c1
  refine ⟨⟨d2, d1⟩, ?_⟩
  exact pm_core_qv (w := w) (by rw [hl]; exact List.mem_cons_self) h1 h2
/-- a frame is brought -/
theorem pm_carry_J {w : Nat} (hw : w ≤ 4) {S T : pm_S} {f : pm_F} {rest : List pm_F} (hl : pm_ln S = f :: rest) (h1 : pm_J w S T) (h2 : pm_J w T S) : (pm_J w (pm_setln S rest) (pm_recv w T f) ∧ pm_J w (pm_recv w T f) (pm_setln S rest)) ∧ pm_qv (pm_setln S rest) (pm_recv w T f) = pm_qv S T ∧ pm_qv (pm_recv w T f) (pm_setln S rest) = pm_qv T S := by
  obtain ⟨⟨c1, c2⟩, c3, c4⟩ := pm_dup_J hw hl h1 h2
  exact ⟨pm_setln_J (by rw [hl]; exact List.sublist_cons_self f rest) c1 c2, c3, c4⟩
/-- the whole line is brought -/
theorem pm_drain_J {w : Nat} (hw : w ≤ 4) : ∀ (X : List pm_F) (S T : pm_S), pm_ln S = X → pm_J w S T → pm_J w T S → (pm_J w (pm_setln S []) (X.foldl (pm_recv w) T) ∧ pm_J w (X.foldl (pm_recv w) T) (pm_setln S [])) ∧ pm_qv (pm_setln S []) (X.foldl (pm_recv w) T) = pm_qv S T ∧ pm_qv (X.foldl (pm_recv w) T) (pm_setln S []) = pm_qv T S := by
  intro X
  induction X with
  | nil =>
    intro S T hl h1 h2
    have hs := pm_setln_J (l := []) (List.nil_sublist _) h1 h2
    exact ⟨hs, rfl, rfl⟩
  | cons f rest ih =>
    intro S T hl h1 h2
    obtain ⟨⟨c1, c2⟩, c3, c4⟩ := pm_carry_J hw hl h1 h2
    obtain ⟨d1, d3, d4⟩ := ih (pm_setln S rest) (pm_recv w T f) rfl c1 c2
    exact ⟨d1, d3.trans c3, d4.trans c4⟩
end
section
/-! layer 2: the line works until all is over -/
/-- what a half round brings: the line's frames and, as far as there is room, all that may be under way -/
def pm_X (w : Nat) (S : pm_S) : List pm_F := (pm_ln S ++ pm_burst S 0 (pm_K w S)).take 16
def pm_dl (w : Nat) (T : pm_S) (X : List pm_F) : pm_S := X.foldl (pm_recv w) T
def pm_round (w : Nat) (P : pm_S × pm_S) : pm_S × pm_S :=
  (pm_dl w (pm_setln P.1 []) (pm_X w (pm_dl w P.2 (pm_X w P.1))), pm_setln (pm_dl w P.2 (pm_X w P.1)) [])
def pm_settle (w : Nat) : Nat → pm_S × pm_S → pm_S × pm_S
  | 0, P => P
  | n + 1, P => if 0 < (pm_sq P.1).length + (pm_sq P.2).length then pm_settle w n (pm_round w P) else P
theorem pm_drain_na {w : Nat} (hw : w ≤ 4) : ∀ (X : List pm_F) (S T : pm_S), pm_ln S = X → pm_J w S T → pm_J w T S → pm_na T ≤ pm_na (pm_dl w T X) ∧ pm_na (pm_dl w T X) + (pm_sq (pm_dl w T X)).length = pm_na T + (pm_sq T).length ∧ ∀ f ∈ X, pm_na T ≤ f.2.2.1 ∧ f.2.2.1 ≤ pm_na (pm_dl w T X) := by
  intro X
  induction X with
  | nil =>
    intro S T hl h1 h2
    exact ⟨Nat.le_refl _, rfl, fun f hf => by cases hf⟩
  | cons f rest ih =>
    intro S T hl h1 h2
    obtain ⟨⟨c1, c2⟩, c3, c4⟩ := pm_carry_J hw hl h1 h2
    obtain ⟨d1, d2, d3⟩ := ih (pm_setln S rest) (pm_recv w T f) rfl c1 c2
    have hr := h2.2.2.2.1 f (by rw [hl]; exact List.mem_cons_self)
    have hb := h2.1.2
    have e1 : pm_na (pm_recv w T f) = f.2.2.1 := rfl
    have e2 : (pm_sq (pm_recv w T f)).length = (pm_sq T).length - (f.2.2.1 - pm_na T) := List.length_drop
    have hK : pm_K w T ≤ (pm_sq T).length := Nat.min_le_right _ _
    have e3 : pm_dl w T (f :: rest) = pm_dl w (pm_recv w T f) rest := rfl
    rw [e3]
    rw [e1] at d1 d2 d3
    rw [e2] at d2
    refine ⟨by omega, by omega, ?_⟩
    intro g hg
    rcases List.mem_cons.mp hg with q | q
    · rw [q]
      exact ⟨hr.1, d1⟩
    · have := d3 g q
      exact ⟨by omega, this.2⟩
theorem pm_half_J {w : Nat} (hw : w ≤ 4) {S T : pm_S} (h1 : pm_J w S T) (h2 : pm_J w T S) : (pm_J w (pm_setln S []) (pm_dl w T (pm_X w S)) ∧ pm_J w (pm_dl w T (pm_X w S)) (pm_setln S [])) ∧ (pm_qv (pm_setln S []) (pm_dl w T (pm_X w S)) = pm_qv S T ∧ pm_qv (pm_dl w T (pm_X w S)) (pm_setln S []) = pm_qv T S) ∧ pm_na T ≤ pm_na (pm_dl w T (pm_X w S)) ∧ pm_na (pm_dl w T (pm_X w S)) + (pm_sq (pm_dl w T (pm_X w S))).length = pm_na T + (pm_sq T).length ∧ ∀ f ∈ pm_X w S, pm_na T ≤ f.2.2.1 ∧ f.2.2.1 ≤ pm_na (pm_dl w T (pm_X w S)) := by
  obtain ⟨c1, c2⟩ := pm_push_J (o := pm_burst S 0 (pm_K w S)) hw (pm_burst_nf (Nat.le_refl _)) h1 h2
  obtain ⟨d1, d3, d4⟩ := pm_drain_J hw (pm_X w S) (pm_push S (pm_burst S 0 (pm_K w S))) T rfl c1 c2
  exact ⟨d1, ⟨d3, d4⟩, pm_drain_na hw (pm_X w S) (pm_push S (pm_burst S 0 (pm_K w S))) T rfl c1 c2⟩
-- ===== frames that confirm nothing =====
def pm_fd (N : Nat) : List pm_F → Prop
  | [] => True
  | f :: X => if f.1 = 0 then f.2.1 = N else pm_fd N X
theorem pm_fd_app {N : Nat} : ∀ {X Y : List pm_F}, pm_fd N X → pm_fd N Y → pm_fd N (X ++ Y)
  | [], _, _, h => h
  | f :: X, Y, h1, h2 => by
    show if f.1 = 0 then f.2.1 = N else pm_fd N (X ++ Y)
    by_cases h0 : f.1 = 0
    · rw [if_pos h0]
      have h1 : if f.1 = 0 then f.2.1 = N else pm_fd N X := h1
      rw [if_pos h0] at h1
      exact h1
    · rw [if_neg h0]
      have h1 : if f.1 = 0 then f.2.1 = N else pm_fd N X := h1
      rw [if_neg h0] at h1
      exact pm_fd_app h1 h2
theorem pm_fd_take {N : Nat} : ∀ {X : List pm_F} (n : Nat), pm_fd N X → pm_fd N (X.take n)
  | _, 0, _ => by rw [List.take_zero]; exact True.intro
  | [], n + 1, _ => by rw [List.take_nil]; exact True.intro
  | f :: X, n + 1, h1 => by
    rw [List.take_succ_cons]
    show if f.1 = 0 then f.2.1 = N else pm_fd N (X.take n)
    have h1 : if f.1 = 0 then f.2.1 = N else pm_fd N X := h1
    by_cases h0 : f.1 = 0
    · rw [if_pos h0] at h1 ⊢
      exact h1
    · rw [if_neg h0] at h1 ⊢
      exact pm_fd_take n h1
theorem pm_burst_cons {S : pm_S} {j : Nat} (h : 0 < j) : ∃ l, pm_burst S 0 j = (0, pm_na S, pm_nr S, (pm_sq S).getD 0 0) :: l := by
  obtain ⟨k, rfl⟩ : ∃ k, j = k + 1 := ⟨j - 1, by omega⟩
  exact ⟨_, rfl⟩
theorem pm_burst_fd (S : pm_S) (j : Nat) : pm_fd (pm_na S) (pm_burst S 0 j) := by
  rcases Nat.eq_zero_or_pos j with h | h
  · rw [h]; exact True.intro
  · obtain ⟨l, hl⟩ := pm_burst_cons (S := S) h
    rw [hl]
    show if (0 : Nat) = 0 then pm_na S = pm_na S else _
    rw [if_pos rfl]
theorem pm_burst_z (S : pm_S) (i : Nat) {j : Nat} (h : j ≤ i) : pm_burst S i j = [] := by
  unfold pm_burst
  rw [Nat.sub_eq_zero_of_le h]
  rfl
/-- what a frame that confirms nothing makes a station send -/
def pm_o (w : Nat) (T : pm_S) (f : pm_F) : List pm_F := if f.1 = 0 then [((if pm_gb T f then 2 else 1), 0, pm_nr (pm_core T f), 0)] else if f.1 = 2 then pm_burst T 0 (pm_K w T) else []
theorem pm_nc {w : Nat} {T : pm_S} {f : pm_F} (h : f.2.2.1 = pm_na T) : pm_na (pm_recv w T f) = pm_na T ∧ pm_sq (pm_recv w T f) = pm_sq T ∧ pm_nr (pm_recv w T f) = pm_nr (pm_core T f) ∧ pm_ln (pm_recv w T f) = (pm_ln T ++ pm_o w T f).take 16 := by
  have hd : (pm_sq T).drop (f.2.2.1 - pm_na T) = pm_sq T := by rw [h, Nat.sub_self]; rfl
  refine ⟨h, hd, rfl, ?_⟩
  show (pm_ln T ++ pm_out w T f).take 16 = (pm_ln T ++ pm_o w T f).take 16
  have hK : pm_K w (pm_core T f) = pm_K w T := by
    show min w ((pm_sq T).drop (f.2.2.1 - pm_na T)).length = _
    rw [hd]
  have hU : pm_U w T f = pm_K w T := by
    show pm_K w T - (f.2.2.1 - pm_na T) = _
    rw [h, Nat.sub_self]; rfl
  congr 2
  unfold pm_out pm_o
  rw [hK, hU]
  by_cases h0 : f.1 = 0
  · have h2 : ¬ f.1 = 2 := by omega
    rw [if_neg h2, if_pos h0, pm_burst_z _ _ (Nat.le_refl _)]
    by_cases hg : pm_gb T f
    · have hna : ¬ pm_acc T f := fun q => by have := hg.2.1; have := q.2; omega
      have e : pm_nr (pm_core T f) = pm_nr T := by
        show (if pm_acc T f then pm_nr T + 1 else pm_nr T) = _
        rw [if_neg hna]
      rw [if_pos hg, if_pos hg, if_neg (fun q => q.2.1 hg), e]
      rfl
    · rw [if_neg hg, if_neg hg, if_pos ⟨h0, hg, Nat.lt_irrefl _⟩]
      rfl
  · have hg : ¬ pm_gb T f := fun q => h0 q.1
    have hz : ¬ (f.1 = 0 ∧ ¬ pm_gb T f ∧ ¬ pm_K w T < pm_K w T) := fun q => h0 q.1
    rw [if_neg hg, if_neg hz, if_neg h0, List.append_nil, List.nil_append]
    by_cases h2 : f.1 = 2
    · rw [if_pos h2, if_pos h2]
      have hna : ¬ pm_acc T f := fun q => h0 q.1
      have e : pm_nr (pm_core T f) = pm_nr T := by
        show (if pm_acc T f then pm_nr T + 1 else pm_nr T) = _
        rw [if_neg hna]
      unfold pm_burst
      have e1 : pm_na (pm_core T f) = pm_na T := h
      have e2 : pm_sq (pm_core T f) = pm_sq T := hd
      rw [e, e1, e2]
    · rw [if_neg h2, if_neg h2]
      exact pm_burst_z _ _ (Nat.le_refl _)
theorem pm_nr_mono1 (w : Nat) (T : pm_S) (f : pm_F) : pm_nr T ≤ pm_nr (pm_recv w T f) := by
  show pm_nr T ≤ if pm_acc T f then pm_nr T + 1 else pm_nr T
  split <;> omega
theorem pm_nr_mono (w : Nat) : ∀ (X : List pm_F) (T : pm_S), pm_nr T ≤ pm_nr (pm_dl w T X)
  | [], _ => Nat.le_refl _
  | f :: X, T => Nat.le_trans (pm_nr_mono1 w T f) (pm_nr_mono w X (pm_recv w T f))
theorem pm_l_const {w : Nat} : ∀ {X : List pm_F} {T : pm_S}, (∀ f ∈ X, f.2.2.1 = pm_na T) → pm_na (pm_dl w T X) = pm_na T ∧ pm_sq (pm_dl w T X) = pm_sq T
  | [], _, _ => ⟨rfl, rfl⟩
  | f :: X, T, h => by
    obtain ⟨e1, e2, -, -⟩ := pm_nc (w := w) (h f List.mem_cons_self)
    obtain ⟨d1, d2⟩ := pm_l_const (w := w) (X := X) (T := pm_recv w T f) (fun g hg => by rw [e1]; exact h g (List.mem_cons_of_mem _ hg))
    exact ⟨d1.trans e1, d2.trans e2⟩
theorem pm_o_r {w : Nat} {T : pm_S} {f : pm_F} : ∀ g ∈ pm_o w T f, pm_nr T ≤ g.2.2.1 := by
  intro g hg
  unfold pm_o at hg
  by_cases h0 : f.1 = 0
  · rw [if_pos h0] at hg
    rw [List.mem_singleton.mp hg]
    exact pm_nr_mono1 w T f
  · rw [if_neg h0] at hg
    by_cases h2 : f.1 = 2
    · rw [if_pos h2] at hg
      obtain ⟨o, -, -, rfl⟩ := pm_burst_mem hg
      exact Nat.le_refl _
    · rw [if_neg h2] at hg
      cases hg
theorem pm_l_ack {w : Nat} : ∀ {X : List pm_F} {T : pm_S}, (∀ f ∈ X, f.2.2.1 = pm_na T) → ∀ g ∈ pm_ln (pm_dl w T X), g ∈ pm_ln T ∨ pm_nr T ≤ g.2.2.1
  | [], _, _, g, hg => Or.inl hg
  | f :: X, T, h, g, hg => by
    obtain ⟨e1, e2, e3, e4⟩ := pm_nc (w := w) (h f List.mem_cons_self)
    rcases pm_l_ack (w := w) (X := X) (T := pm_recv w T f) (fun g hg => by rw [e1]; exact h g (List.mem_cons_of_mem _ hg)) g hg with q | q
    · rw [e4] at q
      rcases List.mem_append.mp (List.mem_of_mem_take q) with q | q
      · exact Or.inl q
      · exact Or.inr (pm_o_r g q)
    · exact Or.inr (Nat.le_trans (pm_nr_mono1 w T f) q)
theorem pm_o_fd {w : Nat} {T : pm_S} {f : pm_F} : pm_fd (pm_na T) (pm_o w T f) := by
  unfold pm_o
  by_cases h0 : f.1 = 0
  · rw [if_pos h0]
    show if (if pm_gb T f then 2 else 1) = 0 then _ else True
    rw [if_neg (by split <;> omega)]
    exact True.intro
  · rw [if_neg h0]
    by_cases h2 : f.1 = 2
    · rw [if_pos h2]
      exact pm_burst_fd T _
    · rw [if_neg h2]
      exact True.intro
theorem pm_l_fd {w : Nat} : ∀ {X : List pm_F} {T : pm_S}, (∀ f ∈ X, f.2.2.1 = pm_na T) → pm_fd (pm_na T) (pm_ln T) → pm_fd (pm_na T) (pm_ln (pm_dl w T X))
  | [], _, _, h => h
  | f :: X, T, h, hl => by
    obtain ⟨e1, e2, e3, e4⟩ := pm_nc (w := w) (h f List.mem_cons_self)
    have := pm_l_fd (w := w) (X := X) (T := pm_recv w T f) (fun g hg => by rw [e1]; exact h g (List.mem_cons_of_mem _ hg)) (by rw [e1, e4]; exact pm_fd_take 16 (pm_fd_app hl pm_o_fd))
    rw [e1] at this
    exact this
theorem pm_l_noD {w : Nat} : ∀ {X : List pm_F} {T : pm_S}, (∀ f ∈ X, f.2.2.1 = pm_na T) → pm_K w T = 0 → (∀ g ∈ pm_ln T, g.1 ≠ 0) → ∀ g ∈ pm_ln (pm_dl w T X), g.1 ≠ 0
  | [], _, _, _, hl => hl
  | f :: X, T, h, hK, hl => by
    obtain ⟨e1, e2, e3, e4⟩ := pm_nc (w := w) (h f List.mem_cons_self)
    refine pm_l_noD (w := w) (X := X) (T := pm_recv w T f) (fun g hg => by rw [e1]; exact h g (List.mem_cons_of_mem _ hg)) (by show min w (pm_sq (pm_recv w T f)).length = 0; rw [e2]; exact hK) ?_
    intro g hg
    rw [e4] at hg
    rcases List.mem_append.mp (List.mem_of_mem_take hg) with q | q
    · exact hl g q
    · unfold pm_o at q
      by_cases h0 : f.1 = 0
      · rw [if_pos h0] at q
        rw [List.mem_singleton.mp q]
        show (if pm_gb T f then 2 else 1) ≠ 0
        split <;> omega
      · rw [if_neg h0] at q
        by_cases h2 : f.1 = 2
        · rw [if_pos h2, hK, pm_burst_z _ _ (Nat.le_refl _)] at q
          cases q
        · rw [if_neg h2] at q
          cases q
theorem pm_l_onlyD {w : Nat} : ∀ {X : List pm_F} {T : pm_S}, (∀ f ∈ X, f.2.2.1 = pm_na T) → (∀ f ∈ X, f.1 ≠ 0) → ∀ g ∈ pm_ln (pm_dl w T X), g ∈ pm_ln T ∨ g.1 = 0
  | [], _, _, _, g, hg => Or.inl hg
  | f :: X, T, h, hX, g, hg => by
    obtain ⟨e1, e2, e3, e4⟩ := pm_nc (w := w) (h f List.mem_cons_self)
    rcases pm_l_onlyD (w := w) (X := X) (T := pm_recv w T f) (fun g hg => by rw [e1]; exact h g (List.mem_cons_of_mem _ hg)) (fun g hg => hX g (List.mem_cons_of_mem _ hg)) g hg with q | q
    · rw [e4] at q
      rcases List.mem_append.mp (List.mem_of_mem_take q) with q | q
      · exact Or.inl q
      · right
        unfold pm_o at q
        rw [if_neg (hX f List.mem_cons_self)] at q
        by_cases h2 : f.1 = 2
        · rw [if_pos h2] at q
          obtain ⟨o, -, -, rfl⟩ := pm_burst_mem q
          rfl
        · rw [if_neg h2] at q
          cases q
    · exact Or.inr q
theorem pm_take_ne {α : Type} {l : List α} (h : l ≠ []) : l.take 16 ≠ [] := by
  cases l with
  | nil => exact absurd rfl h
  | cons a l => simp
theorem pm_l_ne {w : Nat} : ∀ {X : List pm_F} {T : pm_S}, (∀ f ∈ X, f.2.2.1 = pm_na T) → (pm_ln T ≠ [] ∨ ∃ f ∈ X, f.1 = 0) → pm_ln (pm_dl w T X) ≠ []
  | [], _, _, hl => by
    rcases hl with h | ⟨f, hf, -⟩
    · exact h
    · cases hf
  | f :: X, T, h, hl => by
    obtain ⟨e1, e2, e3, e4⟩ := pm_nc (w := w) (h f List.mem_cons_self)
    refine pm_l_ne (w := w) (X := X) (T := pm_recv w T f) (fun g hg => by rw [e1]; exact h g (List.mem_cons_of_mem _ hg)) ?_
    rw [e4]
    by_cases h0 : f.1 = 0
    · left
      refine pm_take_ne ?_
      unfold pm_o
      rw [if_pos h0]
      simp
    · rcases hl with q | ⟨g, hg, q⟩
      · left
        refine pm_take_ne ?_
        simp [q]
      · right
        rcases List.mem_cons.mp hg with z | z
        · rw [z] at q
          exact absurd q h0
        · exact ⟨g, z, q⟩
theorem pm_l_acc {w N : Nat} : ∀ {X : List pm_F} {T : pm_S}, pm_fd N X → (∃ f ∈ X, f.1 = 0) → N ≤ pm_nr T → N < pm_nr (pm_dl w T X)
  | [], _, _, hd, _ => by obtain ⟨f, hf, -⟩ := hd; cases hf
  | f :: X, T, hf, hd, hN => by
    have hf : if f.1 = 0 then f.2.1 = N else pm_fd N X := hf
    have hm := pm_nr_mono w X (pm_recv w T f)
    by_cases h0 : f.1 = 0
    · rw [if_pos h0] at hf
      have e : pm_nr (pm_recv w T f) = if pm_acc T f then pm_nr T + 1 else pm_nr T := rfl
      have : N < pm_nr (pm_recv w T f) := by
        rw [e]
        by_cases hc : pm_acc T f
        · rw [if_pos hc]; omega
        · rw [if_neg hc]
          have : ¬ f.2.1 = pm_nr T := fun q => hc ⟨h0, q⟩
          omega
      exact Nat.lt_of_lt_of_le this hm
    · rw [if_neg h0] at hf
      refine pm_l_acc (w := w) (X := X) (T := pm_recv w T f) hf ?_ (Nat.le_trans hN (pm_nr_mono1 w T f))
      obtain ⟨g, hg, q⟩ := hd
      rcases List.mem_cons.mp hg with z | z
      · rw [z] at q
        exact absurd q h0
      · exact ⟨g, z, q⟩
theorem pm_l_7 {w N : Nat} {f : pm_F} {X : List pm_F} {T : pm_S} (h : ∀ g ∈ f :: X, g.2.2.1 = pm_na T) (h0 : f.1 = 0) (ha : f.2.1 = N) (hN : N ≤ pm_nr T) (hl : pm_ln T = []) : pm_ln (pm_dl w T (f :: X)) ≠ [] ∧ ∀ g ∈ pm_ln (pm_dl w T (f :: X)), N < g.2.2.1 := by
  refine ⟨pm_l_ne h (Or.inr ⟨f, List.mem_cons_self, h0⟩), ?_⟩
  obtain ⟨e1, e2, e3, e4⟩ := pm_nc (w := w) (h f List.mem_cons_self)
  have hlt : N < pm_nr (pm_recv w T f) := by
    have e : pm_nr (pm_recv w T f) = if pm_acc T f then pm_nr T + 1 else pm_nr T := rfl
    rw [e]
    by_cases hc : pm_acc T f
    · rw [if_pos hc]; omega
    · rw [if_neg hc]
      have : ¬ f.2.1 = pm_nr T := fun q => hc ⟨h0, q⟩
      omega
  intro g hg
  rcases pm_l_ack (w := w) (X := X) (T := pm_recv w T f) (fun g hg => by rw [e1]; exact h g (List.mem_cons_of_mem _ hg)) g hg with q | q
  · rw [e4, hl, List.nil_append] at q
    have q := List.mem_of_mem_take q
    unfold pm_o at q
    rw [if_pos h0] at q
    rw [List.mem_singleton.mp q]
    rw [e3] at hlt
    exact hlt
  · exact Nat.lt_of_lt_of_le hlt q
end
section
theorem pm_X_fd {w : Nat} {S : pm_S} (h : pm_fd (pm_na S) (pm_ln S)) : pm_fd (pm_na S) (pm_X w S) := pm_fd_take 16 (pm_fd_app h (pm_burst_fd S _))
theorem pm_X_noD {w : Nat} {S : pm_S} (hK : pm_K w S = 0) (h : ∀ g ∈ pm_ln S, g.1 ≠ 0) : ∀ g ∈ pm_X w S, g.1 ≠ 0 := by
  intro g hg
  unfold pm_X at hg
  rw [hK, pm_burst_z _ _ (Nat.le_refl _), List.append_nil] at hg
  exact h g (List.mem_of_mem_take hg)
theorem pm_X_full {w : Nat} {S : pm_S} (hK : 0 < pm_K w S) (h : ∀ g ∈ pm_X w S, g.1 ≠ 0) : ∃ g ∈ pm_ln S, g.1 ≠ 0 := by
  cases hl : pm_ln S with
  | nil =>
    obtain ⟨l, hb⟩ := pm_burst_cons (S := S) hK
    refine absurd rfl (h (0, pm_na S, pm_nr S, (pm_sq S).getD 0 0) ?_)
    unfold pm_X
    rw [hl, hb]
    exact List.mem_cons_self
  | cons a l =>
    refine ⟨a, List.mem_cons_self, h a ?_⟩
    unfold pm_X
    rw [hl]
    exact List.mem_cons_self
theorem pm_half_J' {w : Nat} (hw : w ≤ 4) {S T T' : pm_S} (e : T' = pm_dl w T (pm_X w S)) (h1 : pm_J w S T) (h2 : pm_J w T S) : (pm_J w (pm_setln S []) T' ∧ pm_J w T' (pm_setln S [])) ∧ pm_na T ≤ pm_na T' ∧ pm_na T' + (pm_sq T').length = pm_na T + (pm_sq T).length ∧ ∀ f ∈ pm_X w S, pm_na T ≤ f.2.2.1 ∧ f.2.2.1 ≤ pm_na T' := by
  subst e
  obtain ⟨a, -, b, c, d⟩ := pm_half_J hw h1 h2
  exact ⟨a, b, c, d⟩
theorem pm_l3 {w : Nat} {Y Z Z1 Y2 : pm_S} (e1 : Z1 = pm_dl w Z (pm_X w Y)) (e2 : Y2 = pm_dl w (pm_setln Y []) (pm_X w Z1)) (hZ : pm_ln Z = []) (hKZ : 0 < pm_K w Z) (hD : pm_K w Y = 0 → ∀ g ∈ pm_X w Y, g.1 ≠ 0) (n1 : ∀ f ∈ pm_X w Y, f.2.2.1 = pm_na Z) (n2 : ∀ f ∈ pm_X w Z1, f.2.2.1 = pm_na Y) (n3 : ∀ f ∈ pm_X w Y2, f.2.2.1 = pm_na Z) : ¬ pm_na Z < pm_nr Y := by
  intro hR
  have n2' : ∀ f ∈ pm_X w Z1, f.2.2.1 = pm_na (pm_setln Y []) := n2
  have c1 := pm_l_const (w := w) n1
  have c2 := pm_l_const (w := w) n2'
  rw [← e1] at c1
  rw [← e2] at c2
  have hm := pm_nr_mono w (pm_X w Z1) (pm_setln Y [])
  rw [← e2] at hm
  have hm : pm_nr Y ≤ pm_nr Y2 := hm
  have hX : pm_X w Y2 = [] := by
    cases he : pm_X w Y2 with
    | nil => rfl
    | cons g l =>
      exfalso
      have hg : g ∈ pm_X w Y2 := by rw [he]; exact List.mem_cons_self
      have e := n3 g hg
      rcases List.mem_append.mp (List.mem_of_mem_take hg) with q | q
      · rw [e2] at q
        rcases pm_l_ack (w := w) n2' g q with z | z
        · cases z
        · have z : pm_nr Y ≤ g.2.2.1 := z
          omega
      · obtain ⟨o, -, -, rfl⟩ := pm_burst_mem q
        have e : pm_nr Y2 = pm_na Z := e
        omega
  have hl2 : pm_ln Y2 = [] := by
    cases he : pm_ln Y2 with
    | nil => rfl
    | cons a l =>
      exact absurd hX (pm_take_ne (by rw [he]; simp))
  have hb2 : pm_K w Y2 = 0 := by
    rcases Nat.eq_zero_or_pos (pm_K w Y2) with h | h
    · exact h
    · obtain ⟨l, hb⟩ := pm_burst_cons (S := Y2) h
      exact absurd hX (pm_take_ne (by rw [hb]; simp))
  have hKY : pm_K w Y = 0 := by
    have : pm_K w Y2 = pm_K w Y := by
      show min w (pm_sq Y2).length = _
      rw [c2.2]
      rfl
    omega
  have hnoD : ∀ f ∈ pm_X w Z1, f.1 ≠ 0 := fun f hf h0 => by
    have := pm_l_ne (w := w) n2' (Or.inr ⟨f, hf, h0⟩)
    rw [← e2] at this
    exact this hl2
  have hKZ1 : 0 < pm_K w Z1 := by
    have : pm_K w Z1 = pm_K w Z := by
      show min w (pm_sq Z1).length = _
      rw [c1.2]
    omega
  obtain ⟨g, hg, h0⟩ := pm_X_full hKZ1 hnoD
  rw [e1] at hg
  rcases pm_l_onlyD (w := w) n1 (hD hKY) g hg with q | q
  · rw [hZ] at q
    cases q
  · exact h0 q
theorem pm_three {w : Nat} (hw1 : 1 ≤ w) (hw : w ≤ 4) {S0 S1 : pm_S} (h1 : pm_J w S0 S1) (h2 : pm_J w S1 S0) (hl : pm_ln S1 = []) (hb : 0 < (pm_sq S0).length + (pm_sq S1).length) : (pm_sq (pm_round w (pm_round w (pm_round w (S0, S1)))).1).length + (pm_sq (pm_round w (pm_round w (pm_round w (S0, S1)))).2).length < (pm_sq S0).length + (pm_sq S1).length := by
  obtain ⟨A1, eA⟩ : ∃ z, z = pm_dl w S1 (pm_X w S0) := ⟨_, rfl⟩
  obtain ⟨B0, eB⟩ : ∃ z, z = pm_dl w (pm_setln S0 []) (pm_X w A1) := ⟨_, rfl⟩
  obtain ⟨C1, eC⟩ : ∃ z, z = pm_dl w (pm_setln A1 []) (pm_X w B0) := ⟨_, rfl⟩
  obtain ⟨D0, eD⟩ : ∃ z, z = pm_dl w (pm_setln B0 []) (pm_X w C1) := ⟨_, rfl⟩
  obtain ⟨E1, eE⟩ : ∃ z, z = pm_dl w (pm_setln C1 []) (pm_X w D0) := ⟨_, rfl⟩
  obtain ⟨F0, eF⟩ : ∃ z, z = pm_dl w (pm_setln D0 []) (pm_X w E1) := ⟨_, rfl⟩
  have hP : pm_round w (pm_round w (pm_round w (S0, S1))) = (F0, pm_setln E1 []) := by
    rw [eF, eE, eD, eC, eB, eA]
    rfl
  rw [hP]
  show (pm_sq F0).length + (pm_sq E1).length < (pm_sq S0).length + (pm_sq S1).length
  obtain ⟨⟨jA1, jA2⟩, mA, cA, rA⟩ := pm_half_J' hw eA h1 h2
  obtain ⟨⟨jB1, jB2⟩, mB, cB, rB⟩ := pm_half_J' hw eB jA2 jA1
  obtain ⟨⟨jC1, jC2⟩, mC, cC, rC⟩ := pm_half_J' hw eC jB2 jB1
  obtain ⟨⟨jD1, jD2⟩, mD, cD, rD⟩ := pm_half_J' hw eD jC2 jC1
  obtain ⟨⟨jE1, jE2⟩, mE, cE, rE⟩ := pm_half_J' hw eE jD2 jD1
  obtain ⟨⟨jF1, jF2⟩, mF, cF, rF⟩ := pm_half_J' hw eF jE2 jE1
  have mB : pm_na S0 ≤ pm_na B0 := mB
  have mC : pm_na A1 ≤ pm_na C1 := mC
  have mD : pm_na B0 ≤ pm_na D0 := mD
  have mE : pm_na C1 ≤ pm_na E1 := mE
  have mF : pm_na D0 ≤ pm_na F0 := mF
  have cB : pm_na B0 + (pm_sq B0).length = pm_na S0 + (pm_sq S0).length := cB
  have cC : pm_na C1 + (pm_sq C1).length = pm_na A1 + (pm_sq A1).length := cC
  have cD : pm_na D0 + (pm_sq D0).length = pm_na B0 + (pm_sq B0).length := cD
  have cE : pm_na E1 + (pm_sq E1).length = pm_na C1 + (pm_sq C1).length := cE
  have cF : pm_na F0 + (pm_sq F0).length = pm_na D0 + (pm_sq D0).length := cF
  have rB : ∀ f ∈ pm_X w A1, pm_na S0 ≤ f.2.2.1 ∧ f.2.2.1 ≤ pm_na B0 := rB
  have rC : ∀ f ∈ pm_X w B0, pm_na A1 ≤ f.2.2.1 ∧ f.2.2.1 ≤ pm_na C1 := rC
  have rD : ∀ f ∈ pm_X w C1, pm_na B0 ≤ f.2.2.1 ∧ f.2.2.1 ≤ pm_na D0 := rD
  have rE : ∀ f ∈ pm_X w D0, pm_na C1 ≤ f.2.2.1 ∧ f.2.2.1 ≤ pm_na E1 := rE
  have rF : ∀ f ∈ pm_X w E1, pm_na D0 ≤ f.2.2.1 ∧ f.2.2.1 ≤ pm_na F0 := rF
  refine Nat.lt_of_not_le fun hge => ?_
  have nA : pm_na A1 = pm_na S1 := by omega
  have nC : pm_na C1 = pm_na A1 := by omega
  have nE : pm_na E1 = pm_na C1 := by omega
  have nB : pm_na B0 = pm_na S0 := by omega
  have nD : pm_na D0 = pm_na B0 := by omega
  have nF : pm_na F0 = pm_na D0 := by omega
  have x1 : ∀ f ∈ pm_X w S0, f.2.2.1 = pm_na S1 := fun f hf => by have := rA f hf; omega
  have x2 : ∀ f ∈ pm_X w A1, f.2.2.1 = pm_na (pm_setln S0 []) := fun f hf => by have := rB f hf; show f.2.2.1 = pm_na S0; omega
  have x3 : ∀ f ∈ pm_X w B0, f.2.2.1 = pm_na (pm_setln A1 []) := fun f hf => by have := rC f hf; show f.2.2.1 = pm_na A1; omega
  have x4 : ∀ f ∈ pm_X w C1, f.2.2.1 = pm_na (pm_setln B0 []) := fun f hf => by have := rD f hf; show f.2.2.1 = pm_na B0; omega
  have x5 : ∀ f ∈ pm_X w D0, f.2.2.1 = pm_na (pm_setln C1 []) := fun f hf => by have := rE f hf; show f.2.2.1 = pm_na C1; omega
  have x6 : ∀ f ∈ pm_X w E1, f.2.2.1 = pm_na (pm_setln D0 []) := fun f hf => by have := rF f hf; show f.2.2.1 = pm_na D0; omega
  have qA : pm_sq A1 = pm_sq S1 := by rw [eA]; exact (pm_l_const x1).2
  have qB : pm_sq B0 = pm_sq S0 := by rw [eB]; exact (pm_l_const x2).2
  have qC : pm_sq C1 = pm_sq A1 := by rw [eC]; exact (pm_l_const x3).2
  have qD : pm_sq D0 = pm_sq B0 := by rw [eD]; exact (pm_l_const x4).2
  have kA : pm_K w A1 = pm_K w S1 := by show min w (pm_sq A1).length = _; rw [qA]
  have kB : pm_K w B0 = pm_K w S0 := by show min w (pm_sq B0).length = _; rw [qB]
  have kC : pm_K w C1 = pm_K w S1 := by show min w (pm_sq C1).length = _; rw [qC, qA]
  have kD : pm_K w D0 = pm_K w S0 := by show min w (pm_sq D0).length = _; rw [qD, qB]
  have nil_noD : ∀ g ∈ ([] : List pm_F), g.1 ≠ 0 := fun g hg => by cases hg
  -- the bursts of the stations, of which nothing is confirmed, begin with the first byte
  have dA : pm_K w S1 = 0 → ∀ g ∈ pm_X w A1, g.1 ≠ 0 := fun h => pm_X_noD (by rw [kA]; exact h) (by rw [eA]; exact pm_l_noD x1 h (by rw [hl]; exact nil_noD))
  have dB : pm_K w S0 = 0 → ∀ g ∈ pm_ln B0, g.1 ≠ 0 := fun h => by rw [eB]; exact pm_l_noD x2 h nil_noD
  have dC : pm_K w S1 = 0 → ∀ g ∈ pm_X w C1, g.1 ≠ 0 := fun h => pm_X_noD (by rw [kC]; exact h) (by rw [eC]; exact pm_l_noD x3 (by show min w (pm_sq A1).length = 0; rw [qA]; exact h) nil_noD)
  have fA : pm_fd (pm_na A1) (pm_X w A1) := pm_X_fd (by rw [nA, eA]; exact pm_l_fd x1 (by rw [hl]; exact True.intro))
  have fB : pm_fd (pm_na B0) (pm_X w B0) := pm_X_fd (by rw [nB, eB]; exact pm_l_fd x2 True.intro)
  have l3 : 0 < pm_K w S0 → ¬ pm_na S0 < pm_nr A1 := fun hk => pm_l3 (Y := A1) (Z := pm_setln S0 []) eB eC rfl hk (fun h => dA (by rw [← kA]; exact h)) x2 (fun f hf => by have := rC f hf; omega) (fun f hf => by have := rD f hf; show f.2.2.1 = pm_na S0; omega)
  have l4 : 0 < pm_K w S1 → ¬ pm_na A1 < pm_nr B0 := fun hk => pm_l3 (Y := B0) (Z := pm_setln A1 []) eC eD rfl (by show 0 < pm_K w A1; rw [kA]; exact hk) (fun h => pm_X_noD h (dB (by rw [← kB]; exact h))) x3 (fun f hf => by have := rD f hf; omega) (fun f hf => by have := rE f hf; show f.2.2.1 = pm_na A1; omega)
  have l5 : 0 < pm_K w S0 → ¬ pm_na B0 < pm_nr C1 := fun hk => pm_l3 (Y := C1) (Z := pm_setln B0 []) eD eE rfl (by show 0 < pm_K w B0; rw [kB]; exact hk) (fun h => dC (by rw [← kC]; exact h)) x4 (fun f hf => by have := rE f hf; omega) (fun f hf => by have := rF f hf; show f.2.2.1 = pm_na B0; omega)
  have uA : pm_na A1 ≤ pm_nr (pm_setln S0 []) := jA2.1.1
  rcases Nat.eq_zero_or_pos (pm_K w S0) with k0 | k0
  · have hk : 0 < pm_K w S1 := by
      have a0 : pm_K w S0 = min w (pm_sq S0).length := rfl
      have a1 : pm_K w S1 = min w (pm_sq S1).length := rfl
      omega
    have noA : ∀ g ∈ pm_X w A1, g.1 ≠ 0 := fun g hg h0 => by
      have := pm_l_acc (w := w) (T := pm_setln S0 []) fA ⟨g, hg, h0⟩ uA
      rw [← eB] at this
      exact l4 hk this
    have hlB : pm_ln B0 = [] := by
      cases he : pm_ln B0 with
      | nil => rfl
      | cons g l =>
        have hg : g ∈ pm_ln B0 := by rw [he]; exact List.mem_cons_self
        have hg' := hg
        rw [eB] at hg'
        rcases pm_l_onlyD (w := w) x2 noA g hg' with q | q
        · cases q
        · exact absurd q (dB k0 g hg)
    have hX3 : pm_X w B0 = [] := by
      unfold pm_X
      rw [hlB, kB, k0, pm_burst_z _ _ (Nat.le_refl _)]
      rfl
    have hC : C1 = pm_setln A1 [] := by rw [eC, hX3]; rfl
    have hlC : pm_ln C1 = [] := by rw [hC]; rfl
    obtain ⟨l, hbl⟩ := pm_burst_cons (S := C1) (j := pm_K w C1) (by rw [kC]; exact hk)
    have hX4 : pm_X w C1 = (0, pm_na C1, pm_nr C1, (pm_sq C1).getD 0 0) :: l.take 15 := by
      unfold pm_X
      rw [hlC, hbl]
      rfl
    have u4 : pm_na C1 ≤ pm_nr (pm_setln B0 []) := jC2.1.1
    rw [hX4] at x4
    obtain ⟨y1, y2⟩ := pm_l_7 (w := w) x4 rfl rfl u4 rfl
    rw [← hX4, ← eD] at y1 y2
    cases he : pm_ln D0 with
    | nil => exact y1 he
    | cons g l =>
      have hg : g ∈ pm_ln D0 := by rw [he]; exact List.mem_cons_self
      have hg5 : g ∈ pm_X w D0 := by
        unfold pm_X
        rw [he]
        exact List.mem_cons_self
      have z1 : pm_na C1 < g.2.2.1 := y2 g hg
      have z2 := rE g hg5
      omega
  · have u3 : pm_na B0 ≤ pm_nr (pm_setln A1 []) := jB2.1.1
    have noB : ∀ g ∈ pm_X w B0, g.1 ≠ 0 := fun g hg h0 => by
      have := pm_l_acc (w := w) (T := pm_setln A1 []) fB ⟨g, hg, h0⟩ u3
      rw [← eC] at this
      exact l5 k0 this
    obtain ⟨g, hg, h0⟩ := pm_X_full (by rw [kB]; exact k0) noB
    have hex : ∃ f ∈ pm_X w A1, f.1 = 0 := by
      refine Classical.byContradiction fun hno => ?_
      rw [eB] at hg
      rcases pm_l_onlyD (w := w) x2 (fun f hf h => hno ⟨f, hf, h⟩) g hg with q | q
      · cases q
      · exact h0 q
    have hk : 0 < pm_K w S1 := by
      rcases Nat.eq_zero_or_pos (pm_K w S1) with h | h
      · obtain ⟨f, hf, hf0⟩ := hex
        exact absurd hf0 (dA h f hf)
      · exact h
    have := pm_l_acc (w := w) (T := pm_setln S0 []) fA hex uA
    rw [← eB] at this
    exact l4 hk this
theorem pm_round_J {w : Nat} (hw : w ≤ 4) {P : pm_S × pm_S} (h1 : pm_J w P.1 P.2) (h2 : pm_J w P.2 P.1) : (pm_J w (pm_round w P).1 (pm_round w P).2 ∧ pm_J w (pm_round w P).2 (pm_round w P).1) ∧ (pm_qv (pm_round w P).1 (pm_round w P).2 = pm_qv P.1 P.2 ∧ pm_qv (pm_round w P).2 (pm_round w P).1 = pm_qv P.2 P.1) ∧ (pm_sq (pm_round w P).1).length + (pm_sq (pm_round w P).2).length ≤ (pm_sq P.1).length + (pm_sq P.2).length := by
  obtain ⟨⟨a1, a2⟩, ⟨a3, a4⟩, a5, a6, -⟩ := pm_half_J hw h1 h2
  obtain ⟨⟨b1, b2⟩, ⟨b3, b4⟩, b5, b6, -⟩ := pm_half_J hw a2 a1
  refine ⟨⟨b2, b1⟩, ⟨b4.trans a3, b3.trans a4⟩, ?_⟩
  have e1 : pm_na (pm_setln P.1 []) = pm_na P.1 := rfl
  have e2 : (pm_sq (pm_setln P.1 [])).length = (pm_sq P.1).length := rfl
  rw [e1] at b5
  rw [e1, e2] at b6
  show (pm_sq (pm_dl w (pm_setln P.1 []) (pm_X w (pm_dl w P.2 (pm_X w P.1))))).length + (pm_sq (pm_dl w P.2 (pm_X w P.1))).length ≤ _
  omega
theorem pm_settle_J {w : Nat} (hw : w ≤ 4) : ∀ (n : Nat) (P : pm_S × pm_S), pm_J w P.1 P.2 → pm_J w P.2 P.1 → (pm_J w (pm_settle w n P).1 (pm_settle w n P).2 ∧ pm_J w (pm_settle w n P).2 (pm_settle w n P).1) ∧ pm_qv (pm_settle w n P).1 (pm_settle w n P).2 = pm_qv P.1 P.2 ∧ pm_qv (pm_settle w n P).2 (pm_settle w n P).1 = pm_qv P.2 P.1
  | 0, P, h1, h2 => ⟨⟨h1, h2⟩, rfl, rfl⟩
  | n + 1, P, h1, h2 => by
    show (pm_J w (if 0 < (pm_sq P.1).length + (pm_sq P.2).length then pm_settle w n (pm_round w P) else P).1 (if 0 < (pm_sq P.1).length + (pm_sq P.2).length then pm_settle w n (pm_round w P) else P).2 ∧ pm_J w (if 0 < (pm_sq P.1).length + (pm_sq P.2).length then pm_settle w n (pm_round w P) else P).2 (if 0 < (pm_sq P.1).length + (pm_sq P.2).length then pm_settle w n (pm_round w P) else P).1) ∧ pm_qv (if 0 < (pm_sq P.1).length + (pm_sq P.2).length then pm_settle w n (pm_round w P) else P).1 (if 0 < (pm_sq P.1).length + (pm_sq P.2).length then pm_settle w n (pm_round w P) else P).2 = _ ∧ pm_qv (if 0 < (pm_sq P.1).length + (pm_sq P.2).length then pm_settle w n (pm_round w P) else P).2 (if 0 < (pm_sq P.1).length + (pm_sq P.2).length then pm_settle w n (pm_round w P) else P).1 = _
    by_cases hb : 0 < (pm_sq P.1).length + (pm_sq P.2).length
    · rw [if_pos hb]
      obtain ⟨⟨a1, a2⟩, ⟨a3, a4⟩, -⟩ := pm_round_J hw h1 h2
      obtain ⟨b1, b2, b3⟩ := pm_settle_J hw n (pm_round w P) a1 a2
      exact ⟨b1, b2.trans a3, b3.trans a4⟩
    · rw [if_neg hb]
      exact ⟨⟨h1, h2⟩, rfl, rfl⟩
theorem pm_settle_stop {w : Nat} (n : Nat) {P : pm_S × pm_S} (h : ¬ 0 < (pm_sq P.1).length + (pm_sq P.2).length) : pm_settle w n P = P := by
  cases n with
  | zero => rfl
  | succ n =>
    show (if 0 < (pm_sq P.1).length + (pm_sq P.2).length then pm_settle w n (pm_round w P) else P) = P
    rw [if_neg h]
theorem pm_settle_go {w : Nat} (n : Nat) {P : pm_S × pm_S} (h : 0 < (pm_sq P.1).length + (pm_sq P.2).length) : pm_settle w (n + 1) P = pm_settle w n (pm_round w P) := by
  show (if 0 < (pm_sq P.1).length + (pm_sq P.2).length then pm_settle w n (pm_round w P) else P) = _
  rw [if_pos h]
theorem pm_settle_end {w : Nat} (hw1 : 1 ≤ w) (hw : w ≤ 4) : ∀ (m n : Nat) (P : pm_S × pm_S), pm_J w P.1 P.2 → pm_J w P.2 P.1 → pm_ln P.2 = [] → (pm_sq P.1).length + (pm_sq P.2).length ≤ m → 3 * m ≤ n → (pm_sq (pm_settle w n P).1).length + (pm_sq (pm_settle w n P).2).length = 0 := by
  intro m
  induction m with
  | zero =>
    intro n P h1 h2 hl hs hn
    rw [pm_settle_stop n (by omega)]
    omega
  | succ m ih =>
    intro n P h1 h2 hl hs hn
    by_cases hb : 0 < (pm_sq P.1).length + (pm_sq P.2).length
    · obtain ⟨k, rfl⟩ : ∃ k, n = k + 3 := ⟨n - 3, by omega⟩
      rw [pm_settle_go (k + 2) hb]
      have h3 := pm_three (S0 := P.1) (S1 := P.2) hw1 hw h1 h2 hl hb
      have hPe : (P.1, P.2) = P := rfl
      rw [hPe] at h3
      obtain ⟨⟨a1, a2⟩, -, -⟩ := pm_round_J hw h1 h2
      obtain ⟨P1, e1⟩ : ∃ z, z = pm_round w P := ⟨_, rfl⟩
      rw [← e1] at h3 a1 a2 ⊢
      by_cases hb1 : 0 < (pm_sq P1.1).length + (pm_sq P1.2).length
      · rw [pm_settle_go (k + 1) hb1]
        obtain ⟨⟨b1, b2⟩, -, -⟩ := pm_round_J hw a1 a2
        obtain ⟨P2, e2⟩ : ∃ z, z = pm_round w P1 := ⟨_, rfl⟩
        rw [← e2] at h3 b1 b2 ⊢
        by_cases hb2 : 0 < (pm_sq P2.1).length + (pm_sq P2.2).length
        · rw [pm_settle_go k hb2]
          obtain ⟨⟨c1, c2⟩, -, -⟩ := pm_round_J hw b1 b2
          have c3 : pm_ln (pm_round w P2).2 = [] := rfl
          obtain ⟨P3, e3⟩ : ∃ z, z = pm_round w P2 := ⟨_, rfl⟩
          rw [← e3] at h3 c1 c2 c3 ⊢
          exact ih k P3 c1 c2 c3 (by omega) (by omega)
        · rw [pm_settle_stop _ hb2]
          omega
      · rw [pm_settle_stop _ hb1]
        omega
    · rw [pm_settle_stop n hb]
      omega
/-- 200 rounds are enough for 60 bytes -/
theorem pm_settle_200 {w : Nat} (hw1 : 1 ≤ w) (hw : w ≤ 4) {P : pm_S × pm_S} (h1 : pm_J w P.1 P.2) (h2 : pm_J w P.2 P.1) (hs : (pm_sq P.1).length + (pm_sq P.2).length ≤ 60) : pm_sq (pm_settle w 200 P).1 = [] ∧ pm_sq (pm_settle w 200 P).2 = [] := by
  have h0 : (pm_sq (pm_settle w 200 P).1).length + (pm_sq (pm_settle w 200 P).2).length = 0 := by
    by_cases hb : 0 < (pm_sq P.1).length + (pm_sq P.2).length
    · rw [pm_settle_go 199 hb]
      obtain ⟨⟨a1, a2⟩, -, a3⟩ := pm_round_J hw h1 h2
      exact pm_settle_end hw1 hw 60 199 _ a1 a2 rfl (by omega) (by omega)
    · rw [pm_settle_stop _ hb]
      omega
  exact ⟨List.eq_nil_of_length_eq_zero (by omega), List.eq_nil_of_length_eq_zero (by omega)⟩
end
section
/-! rows over numbers: every int that stands on the stack is nI of a Nat -/
theorem nw_tn (n : Nat) : (nI n).toBitVec.toNat = n % 2 ^ 32 := by
  show (BitVec.ofNat 32 n).toNat = _
  rw [BitVec.toNat_ofNat]
theorem nw_ext {x y : Int32} (h : x.toBitVec.toNat = y.toBitVec.toNat) : x = y := Int32.toBitVec_inj.mp (BitVec.eq_of_toNat_eq h)
theorem nw_or (a b : Nat) : nI a ||| nI b = nI (a ||| b) := by
  apply nw_ext
  rw [Int32.toBitVec_or, BitVec.toNat_or, nw_tn, nw_tn, nw_tn, Nat.or_mod_two_pow]
theorem nw_xor (a b : Nat) : nI a ^^^ nI b = nI (a ^^^ b) := by
  apply nw_ext
  rw [Int32.toBitVec_xor, BitVec.toNat_xor, nw_tn, nw_tn, nw_tn, Nat.xor_mod_two_pow]
theorem nw_mask (a : Nat) {m M : Nat} (k : Nat) (hm : m + 1 = M) (hM : M = 2 ^ k) (hk : k ≤ 31) : nI a &&& nI m = nI (a % M) := by
  subst hM
  have hp : 0 < 2 ^ k := Nat.two_pow_pos k
  have hlt : 2 ^ k ≤ 2 ^ 31 := Nat.pow_le_pow_right (by omega) hk
  have e : (nI m).toBitVec.toNat = 2 ^ k - 1 := by
    rw [nw_tn, Nat.mod_eq_of_lt (by omega)]
    omega
  rw [pk_and _ k e, nw_tn]
  have hd : (2 : Nat) ^ k ∣ 2 ^ 32 := Nat.pow_dvd_pow 2 (by omega)
  rw [Nat.mod_mod_of_dvd _ hd]
theorem nw_wrap (a : Nat) : nI (a + 4294967296) = nI a := by
  apply nw_ext
  rw [nw_tn, nw_tn]
  omega
theorem nw_subw (a b : Nat) (h : b ≤ 4294967296) : nI a - nI b = nI (a + 4294967296 - b) := by
  rw [← pk_sub (a := a + 4294967296) (b := b) (by omega), nw_wrap]
theorem nw_sub8 (a b : Nat) (h : b ≤ 8) : (nI a - nI b) &&& nI 7 = nI ((a + 8 - b) % 8) := by
  rw [nw_subw a b (by omega), nw_mask _ 3 rfl rfl (by omega)]
  congr 1
  omega
theorem nw_sh : ∀ j, j < 32 → ((nI j &&& 31).toBitVec.smod 32).toNat = j := by decide +kernel
theorem nw_shl (a j : Nat) (hj : j < 32) : nI a <<< (nI j &&& 31) = nI (a * 2 ^ j) := by
  apply nw_ext
  rw [pk_shl _ _ j (nw_sh j hj), nw_tn, nw_tn]
  rw [Nat.mod_mul_mod]
theorem nw_shr (a j : Nat) (ha : a < 2 ^ 31) (hj : j < 32) : nI a >>> (nI j &&& 31) = nI (a / 2 ^ j) := pk_shrN ha _ j (nw_sh j hj)
section NW
variable {p : Program} {l : Launch} {e : Env} {R : Room} {s : State} {m : MethodId} {args : Array Value} {below : List Frame} {meth : Method} {c : Code} {H : Heap} {locs : List Loc} {cells slots : Nat} {Q : State → Prop} {cc : ByteArray} {pc : Nat} {ls : Array Slot} {rest : List Value}
theorem nw_as {a : Nat} (b : Nat) (h : a = b) (k : W p l e R s m args below meth c H locs cells slots Q (F0 m pc ls (.int (nI b) :: rest))) : W p l e R s m args below meth c H locs cells slots Q (F0 m pc ls (.int (nI a) :: rest)) := by rw [h]; exact k
theorem nw_asx {x : Int32} (b : Int32) (h : x = b) (k : W p l e R s m args below meth c H locs cells slots Q (F0 m pc ls (.int b :: rest))) : W p l e R s m args below meth c H locs cells slots Q (F0 m pc ls (.int x :: rest)) := by rw [h]; exact k
theorem nw_iadd (hx : p.tables.exec = Jvm.exec) (hb : c.code = cc) {a b : Nat} (hdg : decode cc pc = .ok (.iadd, 1)) (k : W p l e R s m args below meth c H locs cells slots Q (F0 m (pc + 1) ls (.int (nI (a + b)) :: rest))) : W p l e R s m args below meth c H locs cells slots Q (F0 m pc ls (.int (nI b) :: .int (nI a) :: rest)) := lv_iadd hx hb hdg (by rw [nI_add]; exact k)
theorem nw_isub (hx : p.tables.exec = Jvm.exec) (hb : c.code = cc) {a b : Nat} (h : b ≤ a) (hdg : decode cc pc = .ok (.isub, 1)) (k : W p l e R s m args below meth c H locs cells slots Q (F0 m (pc + 1) ls (.int (nI (a - b)) :: rest))) : W p l e R s m args below meth c H locs cells slots Q (F0 m pc ls (.int (nI b) :: .int (nI a) :: rest)) := lv_isub hx hb hdg (by rw [pk_sub h]; exact k)
theorem nw_imul (hx : p.tables.exec = Jvm.exec) (hb : c.code = cc) {a b : Nat} (hdg : decode cc pc = .ok (.imul, 1)) (k : W p l e R s m args below meth c H locs cells slots Q (F0 m (pc + 1) ls (.int (nI (a * b)) :: rest))) : W p l e R s m args below meth c H locs cells slots Q (F0 m pc ls (.int (nI b) :: .int (nI a) :: rest)) := lv_imul hx hb hdg (by rw [pk_mul]; exact k)
theorem nw_iand (hx : p.tables.exec = Jvm.exec) (hb : c.code = cc) {a b : Nat} (M k' : Nat) (hm : b + 1 = M) (hM : M = 2 ^ k') (hk : k' ≤ 31) (hdg : decode cc pc = .ok (.iand, 1)) (k : W p l e R s m args below meth c H locs cells slots Q (F0 m (pc + 1) ls (.int (nI (a % M)) :: rest))) : W p l e R s m args below meth c H locs cells slots Q (F0 m pc ls (.int (nI b) :: .int (nI a) :: rest)) := lv_iand hx hb hdg (by rw [nw_mask a k' hm hM hk]; exact k)
theorem nw_iand8 (hx : p.tables.exec = Jvm.exec) (hb : c.code = cc) {a b : Nat} (h : b ≤ 8) (hdg : decode cc pc = .ok (.iand, 1)) (k : W p l e R s m args below meth c H locs cells slots Q (F0 m (pc + 1) ls (.int (nI ((a + 8 - b) % 8)) :: rest))) : W p l e R s m args below meth c H locs cells slots Q (F0 m pc ls (.int (nI 7) :: .int (nI a - nI b) :: rest)) := lv_iand hx hb hdg (by rw [nw_sub8 a b h]; exact k)
theorem nw_ior (hx : p.tables.exec = Jvm.exec) (hb : c.code = cc) {a b : Nat} (hdg : decode cc pc = .ok (.ior, 1)) (k : W p l e R s m args below meth c H locs cells slots Q (F0 m (pc + 1) ls (.int (nI (a ||| b)) :: rest))) : W p l e R s m args below meth c H locs cells slots Q (F0 m pc ls (.int (nI b) :: .int (nI a) :: rest)) := lv_ior hx hb hdg (by rw [nw_or]; exact k)
theorem nw_ixor (hx : p.tables.exec = Jvm.exec) (hb : c.code = cc) {a b : Nat} (hdg : decode cc pc = .ok (.ixor, 1)) (k : W p l e R s m args below meth c H locs cells slots Q (F0 m (pc + 1) ls (.int (nI (a ^^^ b)) :: rest))) : W p l e R s m args below meth c H locs cells slots Q (F0 m pc ls (.int (nI b) :: .int (nI a) :: rest)) := lv_ixor hx hb hdg (by rw [nw_xor]; exact k)
theorem nw_ishl (hx : p.tables.exec = Jvm.exec) (hb : c.code = cc) {a b : Nat} (hj : b < 32) (hdg : decode cc pc = .ok (.ishl, 1)) (k : W p l e R s m args below meth c H locs cells slots Q (F0 m (pc + 1) ls (.int (nI (a * 2 ^ b)) :: rest))) : W p l e R s m args below meth c H locs cells slots Q (F0 m pc ls (.int (nI b) :: .int (nI a) :: rest)) := lv_ishl hx hb hdg (by rw [nw_shl a b hj]; exact k)
theorem nw_ishr (hx : p.tables.exec = Jvm.exec) (hb : c.code = cc) {a b : Nat} (ha : a < 2 ^ 31) (hj : b < 32) (hdg : decode cc pc = .ok (.ishr, 1)) (k : W p l e R s m args below meth c H locs cells slots Q (F0 m (pc + 1) ls (.int (nI (a / 2 ^ b)) :: rest))) : W p l e R s m args below meth c H locs cells slots Q (F0 m pc ls (.int (nI b) :: .int (nI a) :: rest)) := lv_ishr hx hb hdg (by rw [nw_shr a b ha hj]; exact k)
theorem nw_iconst (hx : p.tables.exec = Jvm.exec) (hb : c.code = cc) {n : Int} (v : Nat) (hdg : decode cc pc = .ok (.iconst n, 1)) (hv : Int32.ofInt n = nI v) (k : W p l e R s m args below meth c H locs cells slots Q (F0 m (pc + 1) ls (.int (nI v) :: rest))) : W p l e R s m args below meth c H locs cells slots Q (F0 m pc ls rest) := lv_iconst hx hb hdg hv k
theorem nw_bipush (hx : p.tables.exec = Jvm.exec) (hb : c.code = cc) {n : Int} (v : Nat) (hdg : decode cc pc = .ok (.bipush n, 2)) (hv : (Int8.ofInt n).toInt32 = nI v) (k : W p l e R s m args below meth c H locs cells slots Q (F0 m (pc + 2) ls (.int (nI v) :: rest))) : W p l e R s m args below meth c H locs cells slots Q (F0 m pc ls rest) := lv_bipush hx hb hdg hv k
theorem nw_sipush (hx : p.tables.exec = Jvm.exec) (hb : c.code = cc) {n : Int} (v : Nat) (hdg : decode cc pc = .ok (.sipush n, 3)) (hv : (Int16.ofInt n).toInt32 = nI v) (k : W p l e R s m args below meth c H locs cells slots Q (F0 m (pc + 3) ls (.int (nI v) :: rest))) : W p l e R s m args below meth c H locs cells slots Q (F0 m pc ls rest) := lv_sipush hx hb hdg hv k
theorem nw_icmp_lt (hx : p.tables.exec = Jvm.exec) (hb : c.code = cc) {a b : Nat} (ha : a < 2 ^ 31) (hbb : b < 2 ^ 31) {off : Int} {tgt : Nat} (hdg : decode cc pc = .ok (.if_icmp .lt off, 3)) (ht : (pc : Int) + off = (tgt : Int)) (kt : a < b → W p l e R s m args below meth c H locs cells slots Q (F0 m tgt ls rest)) (kf : ¬ a < b → W p l e R s m args below meth c H locs cells slots Q (F0 m (pc + 3) ls rest)) : W p l e R s m args below meth c H locs cells slots Q (F0 m pc ls (.int (nI b) :: .int (nI a) :: rest)) := lv_icmp_lt hx hb hdg ht (fun q => kt ((nI_ltI ha hbb).mp q)) (fun q => kf (fun z => q ((nI_ltI ha hbb).mpr z)))
theorem nw_icmp_ge (hx : p.tables.exec = Jvm.exec) (hb : c.code = cc) {a b : Nat} (ha : a < 2 ^ 31) (hbb : b < 2 ^ 31) {off : Int} {tgt : Nat} (hdg : decode cc pc = .ok (.if_icmp .ge off, 3)) (ht : (pc : Int) + off = (tgt : Int)) (kt : b ≤ a → W p l e R s m args below meth c H locs cells slots Q (F0 m tgt ls rest)) (kf : ¬ b ≤ a → W p l e R s m args below meth c H locs cells slots Q (F0 m (pc + 3) ls rest)) : W p l e R s m args below meth c H locs cells slots Q (F0 m pc ls (.int (nI b) :: .int (nI a) :: rest)) := lv_icmp_ge hx hb hdg ht (fun q => kt ((nI_leI hbb ha).mp q)) (fun q => kf (fun z => q ((nI_leI hbb ha).mpr z)))
theorem nw_icmp_gt (hx : p.tables.exec = Jvm.exec) (hb : c.code = cc) {a b : Nat} (ha : a < 2 ^ 31) (hbb : b < 2 ^ 31) {off : Int} {tgt : Nat} (hdg : decode cc pc = .ok (.if_icmp .gt off, 3)) (ht : (pc : Int) + off = (tgt : Int)) (kt : b < a → W p l e R s m args below meth c H locs cells slots Q (F0 m tgt ls rest)) (kf : ¬ b < a → W p l e R s m args below meth c H locs cells slots Q (F0 m (pc + 3) ls rest)) : W p l e R s m args below meth c H locs cells slots Q (F0 m pc ls (.int (nI b) :: .int (nI a) :: rest)) := lv_icmp_gt hx hb hdg ht (fun q => kt ((nI_ltI hbb ha).mp q)) (fun q => kf (fun z => q ((nI_ltI hbb ha).mpr z)))
theorem nw_icmp_le (hx : p.tables.exec = Jvm.exec) (hb : c.code = cc) {a b : Nat} (ha : a < 2 ^ 31) (hbb : b < 2 ^ 31) {off : Int} {tgt : Nat} (hdg : decode cc pc = .ok (.if_icmp .le off, 3)) (ht : (pc : Int) + off = (tgt : Int)) (kt : a ≤ b → W p l e R s m args below meth c H locs cells slots Q (F0 m tgt ls rest)) (kf : ¬ a ≤ b → W p l e R s m args below meth c H locs cells slots Q (F0 m (pc + 3) ls rest)) : W p l e R s m args below meth c H locs cells slots Q (F0 m pc ls (.int (nI b) :: .int (nI a) :: rest)) := lv_icmp_le hx hb hdg ht (fun q => kt ((nI_leI ha hbb).mp q)) (fun q => kf (fun z => q ((nI_leI ha hbb).mpr z)))
theorem nw_icmp_eq (hx : p.tables.exec = Jvm.exec) (hb : c.code = cc) {a b : Nat} (ha : a < 2 ^ 31) (hbb : b < 2 ^ 31) {off : Int} {tgt : Nat} (hdg : decode cc pc = .ok (.if_icmp .eq off, 3)) (ht : (pc : Int) + off = (tgt : Int)) (kt : a = b → W p l e R s m args below meth c H locs cells slots Q (F0 m tgt ls rest)) (kf : ¬ a = b → W p l e R s m args below meth c H locs cells slots Q (F0 m (pc + 3) ls rest)) : W p l e R s m args below meth c H locs cells slots Q (F0 m pc ls (.int (nI b) :: .int (nI a) :: rest)) := lv_icmp_eq hx hb hdg ht (fun q => kt ((nI_eq ha hbb).mp q)) (fun q => kf (fun z => q ((nI_eq ha hbb).mpr z)))
theorem nw_icmp_ne (hx : p.tables.exec = Jvm.exec) (hb : c.code = cc) {a b : Nat} (ha : a < 2 ^ 31) (hbb : b < 2 ^ 31) {off : Int} {tgt : Nat} (hdg : decode cc pc = .ok (.if_icmp .ne off, 3)) (ht : (pc : Int) + off = (tgt : Int)) (kt : ¬ a = b → W p l e R s m args below meth c H locs cells slots Q (F0 m tgt ls rest)) (kf : a = b → W p l e R s m args below meth c H locs cells slots Q (F0 m (pc + 3) ls rest)) : W p l e R s m args below meth c H locs cells slots Q (F0 m pc ls (.int (nI b) :: .int (nI a) :: rest)) := lv_icmp_ne hx hb hdg ht (fun q => kt (fun z => q ((nI_eq ha hbb).mpr z))) (fun q => kf ((nI_eq ha hbb).mp q))
theorem nw_if_ne (hx : p.tables.exec = Jvm.exec) (hb : c.code = cc) {a : Nat} (ha : a < 2 ^ 31) {off : Int} {tgt : Nat} (hdg : decode cc pc = .ok (.ifCond .ne off, 3)) (ht : (pc : Int) + off = (tgt : Int)) (kt : ¬ a = 0 → W p l e R s m args below meth c H locs cells slots Q (F0 m tgt ls rest)) (kf : a = 0 → W p l e R s m args below meth c H locs cells slots Q (F0 m (pc + 3) ls rest)) : W p l e R s m args below meth c H locs cells slots Q (F0 m pc ls (.int (nI a) :: rest)) := lv_if_ne hx hb hdg ht (fun q => kt (fun z => q (by rw [z]; rfl))) (fun q => kf ((nI_eq ha (by omega)).mp (q.trans nI_0.symm)))
theorem nw_if_eq (hx : p.tables.exec = Jvm.exec) (hb : c.code = cc) {a : Nat} (ha : a < 2 ^ 31) {off : Int} {tgt : Nat} (hdg : decode cc pc = .ok (.ifCond .eq off, 3)) (ht : (pc : Int) + off = (tgt : Int)) (kt : a = 0 → W p l e R s m args below meth c H locs cells slots Q (F0 m tgt ls rest)) (kf : ¬ a = 0 → W p l e R s m args below meth c H locs cells slots Q (F0 m (pc + 3) ls rest)) : W p l e R s m args below meth c H locs cells slots Q (F0 m pc ls (.int (nI a) :: rest)) := lv_if_eq hx hb hdg ht (fun q => kt ((nI_eq ha (by omega)).mp (q.trans nI_0.symm))) (fun q => kf (fun z => q (by rw [z]; rfl)))
theorem nw_if_le (hx : p.tables.exec = Jvm.exec) (hb : c.code = cc) {a : Nat} (ha : a < 2 ^ 31) {off : Int} {tgt : Nat} (hdg : decode cc pc = .ok (.ifCond .le off, 3)) (ht : (pc : Int) + off = (tgt : Int)) (kt : a = 0 → W p l e R s m args below meth c H locs cells slots Q (F0 m tgt ls rest)) (kf : ¬ a = 0 → W p l e R s m args below meth c H locs cells slots Q (F0 m (pc + 3) ls rest)) : W p l e R s m args below meth c H locs cells slots Q (F0 m pc ls (.int (nI a) :: rest)) := lv_if_le hx hb hdg ht (fun q => kt (by
    rcases Nat.eq_zero_or_pos a with h | h
    · exact h
    · exact absurd q (nI_nle h ha))) (fun q => kf (fun z => q (by rw [z]; decide)))
theorem nw_if_gt (hx : p.tables.exec = Jvm.exec) (hb : c.code = cc) {a : Nat} (ha : a < 2 ^ 31) {off : Int} {tgt : Nat} (hdg : decode cc pc = .ok (.ifCond .gt off, 3)) (ht : (pc : Int) + off = (tgt : Int)) (kt : ¬ a = 0 → W p l e R s m args below meth c H locs cells slots Q (F0 m tgt ls rest)) (kf : a = 0 → W p l e R s m args below meth c H locs cells slots Q (F0 m (pc + 3) ls rest)) : W p l e R s m args below meth c H locs cells slots Q (F0 m pc ls (.int (nI a) :: rest)) := lv_if_gt hx hb hdg ht (fun q => kt (fun z => absurd q (by rw [z]; decide))) (fun q => kf (by
    rcases Nat.eq_zero_or_pos a with h | h
    · exact h
    · exact absurd ((nI_ltI (a := 0) (b := a) (by omega) ha).mpr h) (by rw [nI_0]; exact q)))
theorem nw_if_lt (hx : p.tables.exec = Jvm.exec) (hb : c.code = cc) {a : Nat} (ha : a < 2 ^ 31) {off : Int} (hdg : decode cc pc = .ok (.ifCond .lt off, 3)) {tgt : Nat} (ht : (pc : Int) + off = (tgt : Int)) (kf : W p l e R s m args below meth c H locs cells slots Q (F0 m (pc + 3) ls rest)) : W p l e R s m args below meth c H locs cells slots Q (F0 m pc ls (.int (nI a) :: rest)) := lv_if_lt hx hb hdg ht (fun q => absurd q (nI_pos ha)) (fun _ => kf)
theorem nw_if_ge (hx : p.tables.exec = Jvm.exec) (hb : c.code = cc) {a : Nat} (ha : a < 2 ^ 31) {off : Int} (hdg : decode cc pc = .ok (.ifCond .ge off, 3)) {tgt : Nat} (ht : (pc : Int) + off = (tgt : Int)) (kt : W p l e R s m args below meth c H locs cells slots Q (F0 m tgt ls rest)) : W p l e R s m args below meth c H locs cells slots Q (F0 m pc ls (.int (nI a) :: rest)) := lv_if_ge hx hb hdg ht (fun _ => kt) (fun q => absurd (nI_pos' ha) q)
end NW
/-! the world of a LossyLink: field k at place i is σ k i -/
abbrev ll_St : Type := Nat → Nat → Nat
def ll_set (σ : ll_St) (k j x : Nat) : ll_St := fun a b => if a = k ∧ b = j then x else σ a b
abbrev vwCl : List vw_C := [(RX1, TX1, 15), (RX2, TX2, 4)]
def ll_W (h : Nat) (ad : Nat → Nat) (cI cZ : ClassId) (σ : ll_St) : va_W := [(h, .inr (0, [.int (nI (σ 0 0)), .ref (ad 1), .ref (ad 2), .ref (ad 3), .ref (ad 4), .ref (ad 5), .ref (ad 6), .ref (ad 7), .ref (ad 8), .ref (ad 9), .ref (ad 10), .ref (ad 11), .ref (ad 12), .ref (ad 13), .ref (ad 14)])), (ad 1, .inl (cI, 2, .inl (fun i => nI (σ 1 i)))), (ad 2, .inl (cI, 2, .inl (fun i => nI (σ 2 i)))), (ad 3, .inl (cI, 64, .inl (fun i => nI (σ 3 i)))), (ad 4, .inl (cI, 2, .inl (fun i => nI (σ 4 i)))), (ad 5, .inl (cI, 2, .inl (fun i => nI (σ 5 i)))), (ad 6, .inl (cI, 2, .inl (fun i => nI (σ 6 i)))), (ad 7, .inl (cZ, 2, .inl (fun i => nI (σ 7 i)))), (ad 8, .inl (cZ, 2, .inl (fun i => nI (σ 8 i)))), (ad 9, .inl (cI, 2, .inl (fun i => nI (σ 9 i)))), (ad 10, .inl (cI, 2, .inl (fun i => nI (σ 10 i)))), (ad 11, .inl (cI, 64, .inl (fun i => nI (σ 11 i)))), (ad 12, .inl (cI, 2, .inl (fun i => nI (σ 12 i)))), (ad 13, .inl (cI, 2, .inl (fun i => nI (σ 13 i)))), (ad 14, .inl (cI, 32, .inl (fun i => nI (σ 14 i))))]
theorem ll_o (σ : ll_St) {k j x a : Nat} (h : a ≠ k) : (fun i => nI (ll_set σ k j x a i)) = fun i => nI (σ a i) := by
  funext i
  show nI (if a = k ∧ i = j then x else σ a i) = _
  rw [if_neg (fun q => h q.1)]
theorem ll_i (σ : ll_St) (k j x : Nat) : (fun i => nI (ll_set σ k j x k i)) = upd (fun i => nI (σ k i)) j (nI x) := by
  funext i
  show nI (if k = k ∧ i = j then x else σ k i) = if i = j then nI x else nI (σ k i)
  by_cases h : i = j
  · rw [if_pos h, if_pos ⟨rfl, h⟩]
  · rw [if_neg h, if_neg (fun q => h q.2)]
theorem ll_c (σ : ll_St) {k j x a i : Nat} (h : a ≠ k) : ll_set σ k j x a i = σ a i := by
  show (if a = k ∧ i = j then x else σ a i) = _
  rw [if_neg (fun q => h q.1)]
theorem ll_n (σ : ll_St) {k j x i : Nat} (h : i ≠ j) : ll_set σ k j x k i = σ k i := by
  show (if k = k ∧ i = j then x else σ k i) = _
  rw [if_neg (fun q => h q.2)]
theorem ll_e (σ : ll_St) {k j x : Nat} : ll_set σ k j x k j = x := by
  show (if k = k ∧ j = j then x else σ k j) = _
  rw [if_pos ⟨rfl, rfl⟩]
theorem ll_W1 (h : Nat) (ad : Nat → Nat) (cI cZ : ClassId) (σ : ll_St) (j x : Nat) : (ll_W h ad cI cZ σ).set 1 (ad 1, .inl (cI, 2, .inl (upd (fun i => nI (σ 1 i)) j (nI x)))) = ll_W h ad cI cZ (ll_set σ 1 j x) := by
  unfold ll_W
  rw [ll_c σ (a := 0) (k := 1) (by decide), ll_i σ 1 j x, ll_o σ (a := 2) (k := 1) (by decide), ll_o σ (a := 3) (k := 1) (by decide), ll_o σ (a := 4) (k := 1) (by decide), ll_o σ (a := 5) (k := 1) (by decide), ll_o σ (a := 6) (k := 1) (by decide), ll_o σ (a := 7) (k := 1) (by decide), ll_o σ (a := 8) (k := 1) (by decide), ll_o σ (a := 9) (k := 1) (by decide), ll_o σ (a := 10) (k := 1) (by decide), ll_o σ (a := 11) (k := 1) (by decide), ll_o σ (a := 12) (k := 1) (by decide), ll_o σ (a := 13) (k := 1) (by decide), ll_o σ (a := 14) (k := 1) (by decide)]
  rfl
theorem ll_W2 (h : Nat) (ad : Nat → Nat) (cI cZ : ClassId) (σ : ll_St) (j x : Nat) : (ll_W h ad cI cZ σ).set 2 (ad 2, .inl (cI, 2, .inl (upd (fun i => nI (σ 2 i)) j (nI x)))) = ll_W h ad cI cZ (ll_set σ 2 j x) := by
  unfold ll_W
  rw [ll_c σ (a := 0) (k := 2) (by decide), ll_i σ 2 j x, ll_o σ (a := 1) (k := 2) (by decide), ll_o σ (a := 3) (k := 2) (by decide), ll_o σ (a := 4) (k := 2) (by decide), ll_o σ (a := 5) (k := 2) (by decide), ll_o σ (a := 6) (k := 2) (by decide), ll_o σ (a := 7) (k := 2) (by decide), ll_o σ (a := 8) (k := 2) (by decide), ll_o σ (a := 9) (k := 2) (by decide), ll_o σ (a := 10) (k := 2) (by decide), ll_o σ (a := 11) (k := 2) (by decide), ll_o σ (a := 12) (k := 2) (by decide), ll_o σ (a := 13) (k := 2) (by decide), ll_o σ (a := 14) (k := 2) (by decide)]
  rfl
theorem ll_W3 (h : Nat) (ad : Nat → Nat) (cI cZ : ClassId) (σ : ll_St) (j x : Nat) : (ll_W h ad cI cZ σ).set 3 (ad 3, .inl (cI, 64, .inl (upd (fun i => nI (σ 3 i)) j (nI x)))) = ll_W h ad cI cZ (ll_set σ 3 j x) := by
  unfold ll_W
  rw [ll_c σ (a := 0) (k := 3) (by decide), ll_i σ 3 j x, ll_o σ (a := 1) (k := 3) (by decide), ll_o σ (a := 2) (k := 3) (by decide), ll_o σ (a := 4) (k := 3) (by decide), ll_o σ (a := 5) (k := 3) (by decide), ll_o σ (a := 6) (k := 3) (by decide), ll_o σ (a := 7) (k := 3) (by decide), ll_o σ (a := 8) (k := 3) (by decide), ll_o σ (a := 9) (k := 3) (by decide), ll_o σ (a := 10) (k := 3) (by decide), ll_o σ (a := 11) (k := 3) (by decide), ll_o σ (a := 12) (k := 3) (by decide), ll_o σ (a := 13) (k := 3) (by decide), ll_o σ (a := 14) (k := 3) (by decide)]
  rfl
theorem ll_W4 (h : Nat) (ad : Nat → Nat) (cI cZ : ClassId) (σ : ll_St) (j x : Nat) : (ll_W h ad cI cZ σ).set 4 (ad 4, .inl (cI, 2, .inl (upd (fun i => nI (σ 4 i)) j (nI x)))) = ll_W h ad cI cZ (ll_set σ 4 j x) := by
  unfold ll_W
  rw [ll_c σ (a := 0) (k := 4) (by decide), ll_i σ 4 j x, ll_o σ (a := 1) (k := 4) (by decide), ll_o σ (a := 2) (k := 4) (by decide), ll_o σ (a := 3) (k := 4) (by decide), ll_o σ (a := 5) (k := 4) (by decide), ll_o σ (a := 6) (k := 4) (by decide), ll_o σ (a := 7) (k := 4) (by decide), ll_o σ (a := 8) (k := 4) (by decide), ll_o σ (a := 9) (k := 4) (by decide), ll_o σ (a := 10) (k := 4) (by decide), ll_o σ (a := 11) (k := 4) (by decide), ll_o σ (a := 12) (k := 4) (by decide), ll_o σ (a := 13) (k := 4) (by decide), ll_o σ (a := 14) (k := 4) (by decide)]
  rfl
theorem ll_W5 (h : Nat) (ad : Nat → Nat) (cI cZ : ClassId) (σ : ll_St) (j x : Nat) : (ll_W h ad cI cZ σ).set 5 (ad 5, .inl (cI, 2, .inl (upd (fun i => nI (σ 5 i)) j (nI x)))) = ll_W h ad cI cZ (ll_set σ 5 j x) := by
  unfold ll_W
  rw [ll_c σ (a := 0) (k := 5) (by decide), ll_i σ 5 j x, ll_o σ (a := 1) (k := 5) (by decide), ll_o σ (a := 2) (k := 5) (by decide), ll_o σ (a := 3) (k := 5) (by decide), ll_o σ (a := 4) (k := 5) (by decide), ll_o σ (a := 6) (k := 5) (by decide), ll_o σ (a := 7) (k := 5) (by decide), ll_o σ (a := 8) (k := 5) (by decide), ll_o σ (a := 9) (k := 5) (by decide), ll_o σ (a := 10) (k := 5) (by decide), ll_o σ (a := 11) (k := 5) (by decide), ll_o σ (a := 12) (k := 5) (by decide), ll_o σ (a := 13) (k := 5) (by decide), ll_o σ (a := 14) (k := 5) (by decide)]
  rfl
theorem ll_W6 (h : Nat) (ad : Nat → Nat) (cI cZ : ClassId) (σ : ll_St) (j x : Nat) : (ll_W h ad cI cZ σ).set 6 (ad 6, .inl (cI, 2, .inl (upd (fun i => nI (σ 6 i)) j (nI x)))) = ll_W h ad cI cZ (ll_set σ 6 j x) := by
  unfold ll_W
  rw [ll_c σ (a := 0) (k := 6) (by decide), ll_i σ 6 j x, ll_o σ (a := 1) (k := 6) (by decide), ll_o σ (a := 2) (k := 6) (by decide), ll_o σ (a := 3) (k := 6) (by decide), ll_o σ (a := 4) (k := 6) (by decide), ll_o σ (a := 5) (k := 6) (by decide), ll_o σ (a := 7) (k := 6) (by decide), ll_o σ (a := 8) (k := 6) (by decide), ll_o σ (a := 9) (k := 6) (by decide), ll_o σ (a := 10) (k := 6) (by decide), ll_o σ (a := 11) (k := 6) (by decide), ll_o σ (a := 12) (k := 6) (by decide), ll_o σ (a := 13) (k := 6) (by decide), ll_o σ (a := 14) (k := 6) (by decide)]
  rfl
theorem ll_W7 (h : Nat) (ad : Nat → Nat) (cI cZ : ClassId) (σ : ll_St) (j x : Nat) : (ll_W h ad cI cZ σ).set 7 (ad 7, .inl (cZ, 2, .inl (upd (fun i => nI (σ 7 i)) j (nI x)))) = ll_W h ad cI cZ (ll_set σ 7 j x) := by
  unfold ll_W
  rw [ll_c σ (a := 0) (k := 7) (by decide), ll_i σ 7 j x, ll_o σ (a := 1) (k := 7) (by decide), ll_o σ (a := 2) (k := 7) (by decide), ll_o σ (a := 3) (k := 7) (by decide), ll_o σ (a := 4) (k := 7) (by decide), ll_o σ (a := 5) (k := 7) (by decide), ll_o σ (a := 6) (k := 7) (by decide), ll_o σ (a := 8) (k := 7) (by decide), ll_o σ (a := 9) (k := 7) (by decide), ll_o σ (a := 10) (k := 7) (by decide), ll_o σ (a := 11) (k := 7) (by decide), ll_o σ (a := 12) (k := 7) (by decide), ll_o σ (a := 13) (k := 7) (by decide), ll_o σ (a := 14) (k := 7) (by decide)]
  rfl
theorem ll_W8 (h : Nat) (ad : Nat → Nat) (cI cZ : ClassId) (σ : ll_St) (j x : Nat) : (ll_W h ad cI cZ σ).set 8 (ad 8, .inl (cZ, 2, .inl (upd (fun i => nI (σ 8 i)) j (nI x)))) = ll_W h ad cI cZ (ll_set σ 8 j x) := by
  unfold ll_W
  rw [ll_c σ (a := 0) (k := 8) (by decide), ll_i σ 8 j x, ll_o σ (a := 1) (k := 8) (by decide), ll_o σ (a := 2) (k := 8) (by decide), ll_o σ (a := 3) (k := 8) (by decide), ll_o σ (a := 4) (k := 8) (by decide), ll_o σ (a := 5) (k := 8) (by decide), ll_o σ (a := 6) (k := 8) (by decide), ll_o σ (a := 7) (k := 8) (by decide), ll_o σ (a := 9) (k := 8) (by decide), ll_o σ (a := 10) (k := 8) (by decide), ll_o σ (a := 11) (k := 8) (by decide), ll_o σ (a := 12) (k := 8) (by decide), ll_o σ (a := 13) (k := 8) (by decide), ll_o σ (a := 14) (k := 8) (by decide)]
  rfl
theorem ll_W9 (h : Nat) (ad : Nat → Nat) (cI cZ : ClassId) (σ : ll_St) (j x : Nat) : (ll_W h ad cI cZ σ).set 9 (ad 9, .inl (cI, 2, .inl (upd (fun i => nI (σ 9 i)) j (nI x)))) = ll_W h ad cI cZ (ll_set σ 9 j x) := by
  unfold ll_W
  rw [ll_c σ (a := 0) (k := 9) (by decide), ll_i σ 9 j x, ll_o σ (a := 1) (k := 9) (by decide), ll_o σ (a := 2) (k := 9) (by decide), ll_o σ (a := 3) (k := 9) (by decide), ll_o σ (a := 4) (k := 9) (by decide), ll_o σ (a := 5) (k := 9) (by decide), ll_o σ (a := 6) (k := 9) (by decide), ll_o σ (a := 7) (k := 9) (by decide), ll_o σ (a := 8) (k := 9) (by decide), ll_o σ (a := 10) (k := 9) (by decide), ll_o σ (a := 11) (k := 9) (by decide), ll_o σ (a := 12) (k := 9) (by decide), ll_o σ (a := 13) (k := 9) (by decide), ll_o σ (a := 14) (k := 9) (by decide)]
  rfl
theorem ll_W10 (h : Nat) (ad : Nat → Nat) (cI cZ : ClassId) (σ : ll_St) (j x : Nat) : (ll_W h ad cI cZ σ).set 10 (ad 10, .inl (cI, 2, .inl (upd (fun i => nI (σ 10 i)) j (nI x)))) = ll_W h ad cI cZ (ll_set σ 10 j x) := by
  unfold ll_W
  rw [ll_c σ (a := 0) (k := 10) (by decide), ll_i σ 10 j x, ll_o σ (a := 1) (k := 10) (by decide), ll_o σ (a := 2) (k := 10) (by decide), ll_o σ (a := 3) (k := 10) (by decide), ll_o σ (a := 4) (k := 10) (by decide), ll_o σ (a := 5) (k := 10) (by decide), ll_o σ (a := 6) (k := 10) (by decide), ll_o σ (a := 7) (k := 10) (by decide), ll_o σ (a := 8) (k := 10) (by decide), ll_o σ (a := 9) (k := 10) (by decide), ll_o σ (a := 11) (k := 10) (by decide), ll_o σ (a := 12) (k := 10) (by decide), ll_o σ (a := 13) (k := 10) (by decide), ll_o σ (a := 14) (k := 10) (by decide)]
  rfl
theorem ll_W11 (h : Nat) (ad : Nat → Nat) (cI cZ : ClassId) (σ : ll_St) (j x : Nat) : (ll_W h ad cI cZ σ).set 11 (ad 11, .inl (cI, 64, .inl (upd (fun i => nI (σ 11 i)) j (nI x)))) = ll_W h ad cI cZ (ll_set σ 11 j x) := by
  unfold ll_W
  rw [ll_c σ (a := 0) (k := 11) (by decide), ll_i σ 11 j x, ll_o σ (a := 1) (k := 11) (by decide), ll_o σ (a := 2) (k := 11) (by decide), ll_o σ (a := 3) (k := 11) (by decide), ll_o σ (a := 4) (k := 11) (by decide), ll_o σ (a := 5) (k := 11) (by decide), ll_o σ (a := 6) (k := 11) (by decide), ll_o σ (a := 7) (k := 11) (by decide), ll_o σ (a := 8) (k := 11) (by decide), ll_o σ (a := 9) (k := 11) (by decide), ll_o σ (a := 10) (k := 11) (by decide), ll_o σ (a := 12) (k := 11) (by decide), ll_o σ (a := 13) (k := 11) (by decide), ll_o σ (a := 14) (k := 11) (by decide)]
  rfl
theorem ll_W12 (h : Nat) (ad : Nat → Nat) (cI cZ : ClassId) (σ : ll_St) (j x : Nat) : (ll_W h ad cI cZ σ).set 12 (ad 12, .inl (cI, 2, .inl (upd (fun i => nI (σ 12 i)) j (nI x)))) = ll_W h ad cI cZ (ll_set σ 12 j x) := by
  unfold ll_W
  rw [ll_c σ (a := 0) (k := 12) (by decide), ll_i σ 12 j x, ll_o σ (a := 1) (k := 12) (by decide), ll_o σ (a := 2) (k := 12) (by decide), ll_o σ (a := 3) (k := 12) (by decide), ll_o σ (a := 4) (k := 12) (by decide), ll_o σ (a := 5) (k := 12) (by decide), ll_o σ (a := 6) (k := 12) (by decide), ll_o σ (a := 7) (k := 12) (by decide), ll_o σ (a := 8) (k := 12) (by decide), ll_o σ (a := 9) (k := 12) (by decide), ll_o σ (a := 10) (k := 12) (by decide), ll_o σ (a := 11) (k := 12) (by decide), ll_o σ (a := 13) (k := 12) (by decide), ll_o σ (a := 14) (k := 12) (by decide)]
  rfl
theorem ll_W13 (h : Nat) (ad : Nat → Nat) (cI cZ : ClassId) (σ : ll_St) (j x : Nat) : (ll_W h ad cI cZ σ).set 13 (ad 13, .inl (cI, 2, .inl (upd (fun i => nI (σ 13 i)) j (nI x)))) = ll_W h ad cI cZ (ll_set σ 13 j x) := by
  unfold ll_W
  rw [ll_c σ (a := 0) (k := 13) (by decide), ll_i σ 13 j x, ll_o σ (a := 1) (k := 13) (by decide), ll_o σ (a := 2) (k := 13) (by decide), ll_o σ (a := 3) (k := 13) (by decide), ll_o σ (a := 4) (k := 13) (by decide), ll_o σ (a := 5) (k := 13) (by decide), ll_o σ (a := 6) (k := 13) (by decide), ll_o σ (a := 7) (k := 13) (by decide), ll_o σ (a := 8) (k := 13) (by decide), ll_o σ (a := 9) (k := 13) (by decide), ll_o σ (a := 10) (k := 13) (by decide), ll_o σ (a := 11) (k := 13) (by decide), ll_o σ (a := 12) (k := 13) (by decide), ll_o σ (a := 14) (k := 13) (by decide)]
  rfl
theorem ll_W14 (h : Nat) (ad : Nat → Nat) (cI cZ : ClassId) (σ : ll_St) (j x : Nat) : (ll_W h ad cI cZ σ).set 14 (ad 14, .inl (cI, 32, .inl (upd (fun i => nI (σ 14 i)) j (nI x)))) = ll_W h ad cI cZ (ll_set σ 14 j x) := by
  unfold ll_W
  rw [ll_c σ (a := 0) (k := 14) (by decide), ll_i σ 14 j x, ll_o σ (a := 1) (k := 14) (by decide), ll_o σ (a := 2) (k := 14) (by decide), ll_o σ (a := 3) (k := 14) (by decide), ll_o σ (a := 4) (k := 14) (by decide), ll_o σ (a := 5) (k := 14) (by decide), ll_o σ (a := 6) (k := 14) (by decide), ll_o σ (a := 7) (k := 14) (by decide), ll_o σ (a := 8) (k := 14) (by decide), ll_o σ (a := 9) (k := 14) (by decide), ll_o σ (a := 10) (k := 14) (by decide), ll_o σ (a := 11) (k := 14) (by decide), ll_o σ (a := 12) (k := 14) (by decide), ll_o σ (a := 13) (k := 14) (by decide)]
  rfl
def ll_C (p : Program) (m : MethodId) (c : Code) (cc : ByteArray) (nL : Nat) (s : State) (args : Array Value) : Prop := CallFix p m c cc nL s args lw_all RX1
abbrev ll_ty (cI cZ : ClassId) : List (ClassId × FieldType) := [(cI, .int), (cZ, .boolean)]
def ll_Z (D : va_G) (h : Nat) (ad : Nat → Nat) (cI cZ : ClassId) (A : Nat → Prop) (s : State) (σ : ll_St) (H : Heap) (locs : List Loc) : Prop := va_K D vwCl (ll_ty cI cZ) s ∧ va_P D vwCl (ll_W h ad cI cZ σ) H ∧ va_D A (ll_W h ad cI cZ σ) ∧ va_S A s.heap H locs ∧ ∀ q, s.heap.size ≤ q → A q
section LL
variable {p : Program} {l : Launch} {e : Env} {R : Room} {s : State} {m : MethodId} {args : Array Value} {below : List Frame} {meth : Method} {c : Code} {H : Heap} {locs : List Loc} {cells slots : Nat} {Q : State → Prop} {cc : ByteArray} {pc : Nat} {ls : Array Slot} {rest : List Value} {nL : Nat} {D : va_G} {h : Nat} {ad : Nat → Nat} {cI cZ : ClassId} {A : Nat → Prop} {σ : ll_St}
theorem ll_g0 (X : ll_C p m c cc nL s args) (Z : ll_Z D h ad cI cZ A s σ H locs) (hdg : decode cc pc = .ok (.getfield 53, 3)) (kk : W p l e R s m args below meth c H locs cells slots Q (F0 m (pc + 3) ls (.int (nI (σ 0 0)) :: rest))) : W p l e R s m args below meth c H locs cells slots Q (F0 m pc ls (.ref h :: rest)) := va_get (D := D) (ci := 0) (v := .int (nI (σ 0 0))) (C := RX1) (T := TX1) (N := 15) X.1 X.2.1 X.2.2.2.2 in_X1 X.2.2.2.1 Z.1 Z.2.1 0 rfl rfl 0 (by decide) (X.2.2.2.2 _ q31) (fun _ h9 => h9) rfl hdg kk
theorem ll_g1 (X : ll_C p m c cc nL s args) (Z : ll_Z D h ad cI cZ A s σ H locs) (hdg : decode cc pc = .ok (.getfield 7, 3)) (kk : W p l e R s m args below meth c H locs cells slots Q (F0 m (pc + 3) ls (.ref (ad 1) :: rest))) : W p l e R s m args below meth c H locs cells slots Q (F0 m pc ls (.ref h :: rest)) := va_get (D := D) (ci := 0) (v := .ref (ad 1)) (C := RX1) (T := TX1) (N := 15) X.1 X.2.1 X.2.2.2.2 in_X1 X.2.2.2.1 Z.1 Z.2.1 0 rfl rfl 1 (by decide) (X.2.2.2.2 _ q32) (fun _ h9 => h9) rfl hdg kk
theorem ll_g2 (X : ll_C p m c cc nL s args) (Z : ll_Z D h ad cI cZ A s σ H locs) (hdg : decode cc pc = .ok (.getfield 13, 3)) (kk : W p l e R s m args below meth c H locs cells slots Q (F0 m (pc + 3) ls (.ref (ad 2) :: rest))) : W p l e R s m args below meth c H locs cells slots Q (F0 m pc ls (.ref h :: rest)) := va_get (D := D) (ci := 0) (v := .ref (ad 2)) (C := RX1) (T := TX1) (N := 15) X.1 X.2.1 X.2.2.2.2 in_X1 X.2.2.2.1 Z.1 Z.2.1 0 rfl rfl 2 (by decide) (X.2.2.2.2 _ q33) (fun _ h9 => h9) rfl hdg kk
theorem ll_g3 (X : ll_C p m c cc nL s args) (Z : ll_Z D h ad cI cZ A s σ H locs) (hdg : decode cc pc = .ok (.getfield 16, 3)) (kk : W p l e R s m args below meth c H locs cells slots Q (F0 m (pc + 3) ls (.ref (ad 3) :: rest))) : W p l e R s m args below meth c H locs cells slots Q (F0 m pc ls (.ref h :: rest)) := va_get (D := D) (ci := 0) (v := .ref (ad 3)) (C := RX1) (T := TX1) (N := 15) X.1 X.2.1 X.2.2.2.2 in_X1 X.2.2.2.1 Z.1 Z.2.1 0 rfl rfl 3 (by decide) (X.2.2.2.2 _ q34) (fun _ h9 => h9) rfl hdg kk
theorem ll_g4 (X : ll_C p m c cc nL s args) (Z : ll_Z D h ad cI cZ A s σ H locs) (hdg : decode cc pc = .ok (.getfield 19, 3)) (kk : W p l e R s m args below meth c H locs cells slots Q (F0 m (pc + 3) ls (.ref (ad 4) :: rest))) : W p l e R s m args below meth c H locs cells slots Q (F0 m pc ls (.ref h :: rest)) := va_get (D := D) (ci := 0) (v := .ref (ad 4)) (C := RX1) (T := TX1) (N := 15) X.1 X.2.1 X.2.2.2.2 in_X1 X.2.2.2.1 Z.1 Z.2.1 0 rfl rfl 4 (by decide) (X.2.2.2.2 _ q35) (fun _ h9 => h9) rfl hdg kk
theorem ll_g5 (X : ll_C p m c cc nL s args) (Z : ll_Z D h ad cI cZ A s σ H locs) (hdg : decode cc pc = .ok (.getfield 22, 3)) (kk : W p l e R s m args below meth c H locs cells slots Q (F0 m (pc + 3) ls (.ref (ad 5) :: rest))) : W p l e R s m args below meth c H locs cells slots Q (F0 m pc ls (.ref h :: rest)) := va_get (D := D) (ci := 0) (v := .ref (ad 5)) (C := RX1) (T := TX1) (N := 15) X.1 X.2.1 X.2.2.2.2 in_X1 X.2.2.2.1 Z.1 Z.2.1 0 rfl rfl 5 (by decide) (X.2.2.2.2 _ q36) (fun _ h9 => h9) rfl hdg kk
theorem ll_g6 (X : ll_C p m c cc nL s args) (Z : ll_Z D h ad cI cZ A s σ H locs) (hdg : decode cc pc = .ok (.getfield 25, 3)) (kk : W p l e R s m args below meth c H locs cells slots Q (F0 m (pc + 3) ls (.ref (ad 6) :: rest))) : W p l e R s m args below meth c H locs cells slots Q (F0 m pc ls (.ref h :: rest)) := va_get (D := D) (ci := 0) (v := .ref (ad 6)) (C := RX1) (T := TX1) (N := 15) X.1 X.2.1 X.2.2.2.2 in_X1 X.2.2.2.1 Z.1 Z.2.1 0 rfl rfl 6 (by decide) (X.2.2.2.2 _ q37) (fun _ h9 => h9) rfl hdg kk
theorem ll_g7 (X : ll_C p m c cc nL s args) (Z : ll_Z D h ad cI cZ A s σ H locs) (hdg : decode cc pc = .ok (.getfield 28, 3)) (kk : W p l e R s m args below meth c H locs cells slots Q (F0 m (pc + 3) ls (.ref (ad 7) :: rest))) : W p l e R s m args below meth c H locs cells slots Q (F0 m pc ls (.ref h :: rest)) := va_get (D := D) (ci := 0) (v := .ref (ad 7)) (C := RX1) (T := TX1) (N := 15) X.1 X.2.1 X.2.2.2.2 in_X1 X.2.2.2.1 Z.1 Z.2.1 0 rfl rfl 7 (by decide) (X.2.2.2.2 _ q38) (fun _ h9 => h9) rfl hdg kk
theorem ll_g8 (X : ll_C p m c cc nL s args) (Z : ll_Z D h ad cI cZ A s σ H locs) (hdg : decode cc pc = .ok (.getfield 32, 3)) (kk : W p l e R s m args below meth c H locs cells slots Q (F0 m (pc + 3) ls (.ref (ad 8) :: rest))) : W p l e R s m args below meth c H locs cells slots Q (F0 m pc ls (.ref h :: rest)) := va_get (D := D) (ci := 0) (v := .ref (ad 8)) (C := RX1) (T := TX1) (N := 15) X.1 X.2.1 X.2.2.2.2 in_X1 X.2.2.2.1 Z.1 Z.2.1 0 rfl rfl 8 (by decide) (X.2.2.2.2 _ q39) (fun _ h9 => h9) rfl hdg kk
theorem ll_g9 (X : ll_C p m c cc nL s args) (Z : ll_Z D h ad cI cZ A s σ H locs) (hdg : decode cc pc = .ok (.getfield 35, 3)) (kk : W p l e R s m args below meth c H locs cells slots Q (F0 m (pc + 3) ls (.ref (ad 9) :: rest))) : W p l e R s m args below meth c H locs cells slots Q (F0 m pc ls (.ref h :: rest)) := va_get (D := D) (ci := 0) (v := .ref (ad 9)) (C := RX1) (T := TX1) (N := 15) X.1 X.2.1 X.2.2.2.2 in_X1 X.2.2.2.1 Z.1 Z.2.1 0 rfl rfl 9 (by decide) (X.2.2.2.2 _ q40) (fun _ h9 => h9) rfl hdg kk
theorem ll_g10 (X : ll_C p m c cc nL s args) (Z : ll_Z D h ad cI cZ A s σ H locs) (hdg : decode cc pc = .ok (.getfield 38, 3)) (kk : W p l e R s m args below meth c H locs cells slots Q (F0 m (pc + 3) ls (.ref (ad 10) :: rest))) : W p l e R s m args below meth c H locs cells slots Q (F0 m pc ls (.ref h :: rest)) := va_get (D := D) (ci := 0) (v := .ref (ad 10)) (C := RX1) (T := TX1) (N := 15) X.1 X.2.1 X.2.2.2.2 in_X1 X.2.2.2.1 Z.1 Z.2.1 0 rfl rfl 10 (by decide) (X.2.2.2.2 _ q41) (fun _ h9 => h9) rfl hdg kk
theorem ll_g11 (X : ll_C p m c cc nL s args) (Z : ll_Z D h ad cI cZ A s σ H locs) (hdg : decode cc pc = .ok (.getfield 41, 3)) (kk : W p l e R s m args below meth c H locs cells slots Q (F0 m (pc + 3) ls (.ref (ad 11) :: rest))) : W p l e R s m args below meth c H locs cells slots Q (F0 m pc ls (.ref h :: rest)) := va_get (D := D) (ci := 0) (v := .ref (ad 11)) (C := RX1) (T := TX1) (N := 15) X.1 X.2.1 X.2.2.2.2 in_X1 X.2.2.2.1 Z.1 Z.2.1 0 rfl rfl 11 (by decide) (X.2.2.2.2 _ q42) (fun _ h9 => h9) rfl hdg kk
theorem ll_g12 (X : ll_C p m c cc nL s args) (Z : ll_Z D h ad cI cZ A s σ H locs) (hdg : decode cc pc = .ok (.getfield 44, 3)) (kk : W p l e R s m args below meth c H locs cells slots Q (F0 m (pc + 3) ls (.ref (ad 12) :: rest))) : W p l e R s m args below meth c H locs cells slots Q (F0 m pc ls (.ref h :: rest)) := va_get (D := D) (ci := 0) (v := .ref (ad 12)) (C := RX1) (T := TX1) (N := 15) X.1 X.2.1 X.2.2.2.2 in_X1 X.2.2.2.1 Z.1 Z.2.1 0 rfl rfl 12 (by decide) (X.2.2.2.2 _ q43) (fun _ h9 => h9) rfl hdg kk
theorem ll_g13 (X : ll_C p m c cc nL s args) (Z : ll_Z D h ad cI cZ A s σ H locs) (hdg : decode cc pc = .ok (.getfield 47, 3)) (kk : W p l e R s m args below meth c H locs cells slots Q (F0 m (pc + 3) ls (.ref (ad 13) :: rest))) : W p l e R s m args below meth c H locs cells slots Q (F0 m pc ls (.ref h :: rest)) := va_get (D := D) (ci := 0) (v := .ref (ad 13)) (C := RX1) (T := TX1) (N := 15) X.1 X.2.1 X.2.2.2.2 in_X1 X.2.2.2.1 Z.1 Z.2.1 0 rfl rfl 13 (by decide) (X.2.2.2.2 _ q44) (fun _ h9 => h9) rfl hdg kk
theorem ll_g14 (X : ll_C p m c cc nL s args) (Z : ll_Z D h ad cI cZ A s σ H locs) (hdg : decode cc pc = .ok (.getfield 50, 3)) (kk : W p l e R s m args below meth c H locs cells slots Q (F0 m (pc + 3) ls (.ref (ad 14) :: rest))) : W p l e R s m args below meth c H locs cells slots Q (F0 m pc ls (.ref h :: rest)) := va_get (D := D) (ci := 0) (v := .ref (ad 14)) (C := RX1) (T := TX1) (N := 15) X.1 X.2.1 X.2.2.2.2 in_X1 X.2.2.2.1 Z.1 Z.2.1 0 rfl rfl 14 (by decide) (X.2.2.2.2 _ q45) (fun _ h9 => h9) rfl hdg kk
theorem ll_ld1 (X : ll_C p m c cc nL s args) (Z : ll_Z D h ad cI cZ A s σ H locs) {j : Nat} (hj : j < 2) (hdg : decode cc pc = .ok (.iaload, 1)) (kk : W p l e R s m args below meth c H locs cells slots Q (F0 m (pc + 1) ls (.int (nI (σ 1 j)) :: rest))) : W p l e R s m args below meth c H locs cells slots Q (F0 m pc ls (.int (nI j) :: .ref (ad 1) :: rest)) := by
  refine va_iald (D := D) X.1 X.2.1 Z.1 Z.2.1 1 0 (f := fun i => nI (σ 1 i)) (n := 2) rfl rfl (vp_in_nI hj (by decide)) hdg ?_
  rw [nI_clamp (by omega)]
  exact kk
theorem ll_ld2 (X : ll_C p m c cc nL s args) (Z : ll_Z D h ad cI cZ A s σ H locs) {j : Nat} (hj : j < 2) (hdg : decode cc pc = .ok (.iaload, 1)) (kk : W p l e R s m args below meth c H locs cells slots Q (F0 m (pc + 1) ls (.int (nI (σ 2 j)) :: rest))) : W p l e R s m args below meth c H locs cells slots Q (F0 m pc ls (.int (nI j) :: .ref (ad 2) :: rest)) := by
  refine va_iald (D := D) X.1 X.2.1 Z.1 Z.2.1 2 0 (f := fun i => nI (σ 2 i)) (n := 2) rfl rfl (vp_in_nI hj (by decide)) hdg ?_
  rw [nI_clamp (by omega)]
  exact kk
theorem ll_ld3 (X : ll_C p m c cc nL s args) (Z : ll_Z D h ad cI cZ A s σ H locs) {j : Nat} (hj : j < 64) (hdg : decode cc pc = .ok (.iaload, 1)) (kk : W p l e R s m args below meth c H locs cells slots Q (F0 m (pc + 1) ls (.int (nI (σ 3 j)) :: rest))) : W p l e R s m args below meth c H locs cells slots Q (F0 m pc ls (.int (nI j) :: .ref (ad 3) :: rest)) := by
  refine va_iald (D := D) X.1 X.2.1 Z.1 Z.2.1 3 0 (f := fun i => nI (σ 3 i)) (n := 64) rfl rfl (vp_in_nI hj (by decide)) hdg ?_
  rw [nI_clamp (by omega)]
  exact kk
theorem ll_ld4 (X : ll_C p m c cc nL s args) (Z : ll_Z D h ad cI cZ A s σ H locs) {j : Nat} (hj : j < 2) (hdg : decode cc pc = .ok (.iaload, 1)) (kk : W p l e R s m args below meth c H locs cells slots Q (F0 m (pc + 1) ls (.int (nI (σ 4 j)) :: rest))) : W p l e R s m args below meth c H locs cells slots Q (F0 m pc ls (.int (nI j) :: .ref (ad 4) :: rest)) := by
  refine va_iald (D := D) X.1 X.2.1 Z.1 Z.2.1 4 0 (f := fun i => nI (σ 4 i)) (n := 2) rfl rfl (vp_in_nI hj (by decide)) hdg ?_
  rw [nI_clamp (by omega)]
  exact kk
theorem ll_ld5 (X : ll_C p m c cc nL s args) (Z : ll_Z D h ad cI cZ A s σ H locs) {j : Nat} (hj : j < 2) (hdg : decode cc pc = .ok (.iaload, 1)) (kk : W p l e R s m args below meth c H locs cells slots Q (F0 m (pc + 1) ls (.int (nI (σ 5 j)) :: rest))) : W p l e R s m args below meth c H locs cells slots Q (F0 m pc ls (.int (nI j) :: .ref (ad 5) :: rest)) := by
  refine va_iald (D := D) X.1 X.2.1 Z.1 Z.2.1 5 0 (f := fun i => nI (σ 5 i)) (n := 2) rfl rfl (vp_in_nI hj (by decide)) hdg ?_
  rw [nI_clamp (by omega)]
  exact kk
theorem ll_ld6 (X : ll_C p m c cc nL s args) (Z : ll_Z D h ad cI cZ A s σ H locs) {j : Nat} (hj : j < 2) (hdg : decode cc pc = .ok (.iaload, 1)) (kk : W p l e R s m args below meth c H locs cells slots Q (F0 m (pc + 1) ls (.int (nI (σ 6 j)) :: rest))) : W p l e R s m args below meth c H locs cells slots Q (F0 m pc ls (.int (nI j) :: .ref (ad 6) :: rest)) := by
  refine va_iald (D := D) X.1 X.2.1 Z.1 Z.2.1 6 0 (f := fun i => nI (σ 6 i)) (n := 2) rfl rfl (vp_in_nI hj (by decide)) hdg ?_
  rw [nI_clamp (by omega)]
  exact kk
theorem ll_ld7 (X : ll_C p m c cc nL s args) (Z : ll_Z D h ad cI cZ A s σ H locs) {j : Nat} (hj : j < 2) (hdg : decode cc pc = .ok (.baload, 1)) (kk : W p l e R s m args below meth c H locs cells slots Q (F0 m (pc + 1) ls (.int (nI (σ 7 j)) :: rest))) : W p l e R s m args below meth c H locs cells slots Q (F0 m pc ls (.int (nI j) :: .ref (ad 7) :: rest)) := by
  refine va_zald (D := D) X.1 X.2.1 Z.1 Z.2.1 7 1 (f := fun i => nI (σ 7 i)) (n := 2) rfl rfl (vp_in_nI hj (by decide)) hdg ?_
  rw [nI_clamp (by omega)]
  exact kk
theorem ll_ld8 (X : ll_C p m c cc nL s args) (Z : ll_Z D h ad cI cZ A s σ H locs) {j : Nat} (hj : j < 2) (hdg : decode cc pc = .ok (.baload, 1)) (kk : W p l e R s m args below meth c H locs cells slots Q (F0 m (pc + 1) ls (.int (nI (σ 8 j)) :: rest))) : W p l e R s m args below meth c H locs cells slots Q (F0 m pc ls (.int (nI j) :: .ref (ad 8) :: rest)) := by
  refine va_zald (D := D) X.1 X.2.1 Z.1 Z.2.1 8 1 (f := fun i => nI (σ 8 i)) (n := 2) rfl rfl (vp_in_nI hj (by decide)) hdg ?_
  rw [nI_clamp (by omega)]
  exact kk
theorem ll_ld9 (X : ll_C p m c cc nL s args) (Z : ll_Z D h ad cI cZ A s σ H locs) {j : Nat} (hj : j < 2) (hdg : decode cc pc = .ok (.iaload, 1)) (kk : W p l e R s m args below meth c H locs cells slots Q (F0 m (pc + 1) ls (.int (nI (σ 9 j)) :: rest))) : W p l e R s m args below meth c H locs cells slots Q (F0 m pc ls (.int (nI j) :: .ref (ad 9) :: rest)) := by
  refine va_iald (D := D) X.1 X.2.1 Z.1 Z.2.1 9 0 (f := fun i => nI (σ 9 i)) (n := 2) rfl rfl (vp_in_nI hj (by decide)) hdg ?_
  rw [nI_clamp (by omega)]
  exact kk
theorem ll_ld10 (X : ll_C p m c cc nL s args) (Z : ll_Z D h ad cI cZ A s σ H locs) {j : Nat} (hj : j < 2) (hdg : decode cc pc = .ok (.iaload, 1)) (kk : W p l e R s m args below meth c H locs cells slots Q (F0 m (pc + 1) ls (.int (nI (σ 10 j)) :: rest))) : W p l e R s m args below meth c H locs cells slots Q (F0 m pc ls (.int (nI j) :: .ref (ad 10) :: rest)) := by
  refine va_iald (D := D) X.1 X.2.1 Z.1 Z.2.1 10 0 (f := fun i => nI (σ 10 i)) (n := 2) rfl rfl (vp_in_nI hj (by decide)) hdg ?_
  rw [nI_clamp (by omega)]
  exact kk
theorem ll_ld11 (X : ll_C p m c cc nL s args) (Z : ll_Z D h ad cI cZ A s σ H locs) {j : Nat} (hj : j < 64) (hdg : decode cc pc = .ok (.iaload, 1)) (kk : W p l e R s m args below meth c H locs cells slots Q (F0 m (pc + 1) ls (.int (nI (σ 11 j)) :: rest))) : W p l e R s m args below meth c H locs cells slots Q (F0 m pc ls (.int (nI j) :: .ref (ad 11) :: rest)) := by
  refine va_iald (D := D) X.1 X.2.1 Z.1 Z.2.1 11 0 (f := fun i => nI (σ 11 i)) (n := 64) rfl rfl (vp_in_nI hj (by decide)) hdg ?_
  rw [nI_clamp (by omega)]
  exact kk
theorem ll_ld12 (X : ll_C p m c cc nL s args) (Z : ll_Z D h ad cI cZ A s σ H locs) {j : Nat} (hj : j < 2) (hdg : decode cc pc = .ok (.iaload, 1)) (kk : W p l e R s m args below meth c H locs cells slots Q (F0 m (pc + 1) ls (.int (nI (σ 12 j)) :: rest))) : W p l e R s m args below meth c H locs cells slots Q (F0 m pc ls (.int (nI j) :: .ref (ad 12) :: rest)) := by
  refine va_iald (D := D) X.1 X.2.1 Z.1 Z.2.1 12 0 (f := fun i => nI (σ 12 i)) (n := 2) rfl rfl (vp_in_nI hj (by decide)) hdg ?_
  rw [nI_clamp (by omega)]
  exact kk
theorem ll_ld13 (X : ll_C p m c cc nL s args) (Z : ll_Z D h ad cI cZ A s σ H locs) {j : Nat} (hj : j < 2) (hdg : decode cc pc = .ok (.iaload, 1)) (kk : W p l e R s m args below meth c H locs cells slots Q (F0 m (pc + 1) ls (.int (nI (σ 13 j)) :: rest))) : W p l e R s m args below meth c H locs cells slots Q (F0 m pc ls (.int (nI j) :: .ref (ad 13) :: rest)) := by
  refine va_iald (D := D) X.1 X.2.1 Z.1 Z.2.1 13 0 (f := fun i => nI (σ 13 i)) (n := 2) rfl rfl (vp_in_nI hj (by decide)) hdg ?_
  rw [nI_clamp (by omega)]
  exact kk
theorem ll_ld14 (X : ll_C p m c cc nL s args) (Z : ll_Z D h ad cI cZ A s σ H locs) {j : Nat} (hj : j < 32) (hdg : decode cc pc = .ok (.iaload, 1)) (kk : W p l e R s m args below meth c H locs cells slots Q (F0 m (pc + 1) ls (.int (nI (σ 14 j)) :: rest))) : W p l e R s m args below meth c H locs cells slots Q (F0 m pc ls (.int (nI j) :: .ref (ad 14) :: rest)) := by
  refine va_iald (D := D) X.1 X.2.1 Z.1 Z.2.1 14 0 (f := fun i => nI (σ 14 i)) (n := 32) rfl rfl (vp_in_nI hj (by decide)) hdg ?_
  rw [nI_clamp (by omega)]
  exact kk
theorem ll_st1 (X : ll_C p m c cc nL s args) (Z : ll_Z D h ad cI cZ A s σ H locs) {j x : Nat} (hj : j < 2) (hdg : decode cc pc = .ok (.iastore, 1)) (kk : ∀ (H1 : Heap) (locs1 : List Loc), ll_Z D h ad cI cZ A s (ll_set σ 1 j x) H1 locs1 → W p l e R s m args below meth c H1 locs1 cells slots Q (F0 m (pc + 1) ls rest)) : W p l e R s m args below meth c H locs cells slots Q (F0 m pc ls (.int (nI x) :: .int (nI j) :: .ref (ad 1) :: rest)) := by
  refine va_iast (D := D) X.1 X.2.1 Z.1 Z.2.1 Z.2.2.1 Z.2.2.2.1 1 0 (f := fun i => nI (σ 1 i)) (n := 2) rfl rfl (vp_in_nI hj (by decide)) hdg (fun H1 locs1 hP hD hS => ?_)
  rw [nI_clamp (by omega)] at hP hD
  rw [ll_W1] at hP hD
  exact kk H1 locs1 ⟨Z.1, hP, hD, hS, Z.2.2.2.2⟩
theorem ll_st2 (X : ll_C p m c cc nL s args) (Z : ll_Z D h ad cI cZ A s σ H locs) {j x : Nat} (hj : j < 2) (hdg : decode cc pc = .ok (.iastore, 1)) (kk : ∀ (H1 : Heap) (locs1 : List Loc), ll_Z D h ad cI cZ A s (ll_set σ 2 j x) H1 locs1 → W p l e R s m args below meth c H1 locs1 cells slots Q (F0 m (pc + 1) ls rest)) : W p l e R s m args below meth c H locs cells slots Q (F0 m pc ls (.int (nI x) :: .int (nI j) :: .ref (ad 2) :: rest)) := by
  refine va_iast (D := D) X.1 X.2.1 Z.1 Z.2.1 Z.2.2.1 Z.2.2.2.1 2 0 (f := fun i => nI (σ 2 i)) (n := 2) rfl rfl (vp_in_nI hj (by decide)) hdg (fun H1 locs1 hP hD hS => ?_)
  rw [nI_clamp (by omega)] at hP hD
  rw [ll_W2] at hP hD
  exact kk H1 locs1 ⟨Z.1, hP, hD, hS, Z.2.2.2.2⟩
theorem ll_st3 (X : ll_C p m c cc nL s args) (Z : ll_Z D h ad cI cZ A s σ H locs) {j x : Nat} (hj : j < 64) (hdg : decode cc pc = .ok (.iastore, 1)) (kk : ∀ (H1 : Heap) (locs1 : List Loc), ll_Z D h ad cI cZ A s (ll_set σ 3 j x) H1 locs1 → W p l e R s m args below meth c H1 locs1 cells slots Q (F0 m (pc + 1) ls rest)) : W p l e R s m args below meth c H locs cells slots Q (F0 m pc ls (.int (nI x) :: .int (nI j) :: .ref (ad 3) :: rest)) := by
  refine va_iast (D := D) X.1 X.2.1 Z.1 Z.2.1 Z.2.2.1 Z.2.2.2.1 3 0 (f := fun i => nI (σ 3 i)) (n := 64) rfl rfl (vp_in_nI hj (by decide)) hdg (fun H1 locs1 hP hD hS => ?_)
  rw [nI_clamp (by omega)] at hP hD
  rw [ll_W3] at hP hD
  exact kk H1 locs1 ⟨Z.1, hP, hD, hS, Z.2.2.2.2⟩
theorem ll_st4 (X : ll_C p m c cc nL s args) (Z : ll_Z D h ad cI cZ A s σ H locs) {j x : Nat} (hj : j < 2) (hdg : decode cc pc = .ok (.iastore, 1)) (kk : ∀ (H1 : Heap) (locs1 : List Loc), ll_Z D h ad cI cZ A s (ll_set σ 4 j x) H1 locs1 → W p l e R s m args below meth c H1 locs1 cells slots Q (F0 m (pc + 1) ls rest)) : W p l e R s m args below meth c H locs cells slots Q (F0 m pc ls (.int (nI x) :: .int (nI j) :: .ref (ad 4) :: rest)) := by
  refine va_iast (D := D) X.1 X.2.1 Z.1 Z.2.1 Z.2.2.1 Z.2.2.2.1 4 0 (f := fun i => nI (σ 4 i)) (n := 2) rfl rfl (vp_in_nI hj (by decide)) hdg (fun H1 locs1 hP hD hS => ?_)
  rw [nI_clamp (by omega)] at hP hD
  rw [ll_W4] at hP hD
  exact kk H1 locs1 ⟨Z.1, hP, hD, hS, Z.2.2.2.2⟩
theorem ll_st5 (X : ll_C p m c cc nL s args) (Z : ll_Z D h ad cI cZ A s σ H locs) {j x : Nat} (hj : j < 2) (hdg : decode cc pc = .ok (.iastore, 1)) (kk : ∀ (H1 : Heap) (locs1 : List Loc), ll_Z D h ad cI cZ A s (ll_set σ 5 j x) H1 locs1 → W p l e R s m args below meth c H1 locs1 cells slots Q (F0 m (pc + 1) ls rest)) : W p l e R s m args below meth c H locs cells slots Q (F0 m pc ls (.int (nI x) :: .int (nI j) :: .ref (ad 5) :: rest)) := by
  refine va_iast (D := D) X.1 X.2.1 Z.1 Z.2.1 Z.2.2.1 Z.2.2.2.1 5 0 (f := fun i => nI (σ 5 i)) (n := 2) rfl rfl (vp_in_nI hj (by decide)) hdg (fun H1 locs1 hP hD hS => ?_)
  rw [nI_clamp (by omega)] at hP hD
  rw [ll_W5] at hP hD
  exact kk H1 locs1 ⟨Z.1, hP, hD, hS, Z.2.2.2.2⟩
theorem ll_st6 (X : ll_C p m c cc nL s args) (Z : ll_Z D h ad cI cZ A s σ H locs) {j x : Nat} (hj : j < 2) (hdg : decode cc pc = .ok (.iastore, 1)) (kk : ∀ (H1 : Heap) (locs1 : List Loc), ll_Z D h ad cI cZ A s (ll_set σ 6 j x) H1 locs1 → W p l e R s m args below meth c H1 locs1 cells slots Q (F0 m (pc + 1) ls rest)) : W p l e R s m args below meth c H locs cells slots Q (F0 m pc ls (.int (nI x) :: .int (nI j) :: .ref (ad 6) :: rest)) := by
  refine va_iast (D := D) X.1 X.2.1 Z.1 Z.2.1 Z.2.2.1 Z.2.2.2.1 6 0 (f := fun i => nI (σ 6 i)) (n := 2) rfl rfl (vp_in_nI hj (by decide)) hdg (fun H1 locs1 hP hD hS => ?_)
  rw [nI_clamp (by omega)] at hP hD
  rw [ll_W6] at hP hD
  exact kk H1 locs1 ⟨Z.1, hP, hD, hS, Z.2.2.2.2⟩
theorem ll_st7 (X : ll_C p m c cc nL s args) (Z : ll_Z D h ad cI cZ A s σ H locs) {j x : Nat} (hj : j < 2) (hx01 : x ≤ 1) (hdg : decode cc pc = .ok (.bastore, 1)) (kk : ∀ (H1 : Heap) (locs1 : List Loc), ll_Z D h ad cI cZ A s (ll_set σ 7 j x) H1 locs1 → W p l e R s m args below meth c H1 locs1 cells slots Q (F0 m (pc + 1) ls rest)) : W p l e R s m args below meth c H locs cells slots Q (F0 m pc ls (.int (nI x) :: .int (nI j) :: .ref (ad 7) :: rest)) := by
  refine va_zast (D := D) X.1 X.2.1 Z.1 Z.2.1 Z.2.2.1 Z.2.2.2.1 7 1 (f := fun i => nI (σ 7 i)) (n := 2) rfl rfl (vp_in_nI hj (by decide)) hdg (fun H1 locs1 hP hD hS => ?_)
  rw [nI_clamp (by omega)] at hP hD
  have e : vp_nar .boolean (nI x) = nI x := by
    rcases (show x = 0 ∨ x = 1 by omega) with rfl | rfl <;> rfl
  rw [e] at hP hD
  rw [ll_W7] at hP hD
  exact kk H1 locs1 ⟨Z.1, hP, hD, hS, Z.2.2.2.2⟩
theorem ll_st8 (X : ll_C p m c cc nL s args) (Z : ll_Z D h ad cI cZ A s σ H locs) {j x : Nat} (hj : j < 2) (hx01 : x ≤ 1) (hdg : decode cc pc = .ok (.bastore, 1)) (kk : ∀ (H1 : Heap) (locs1 : List Loc), ll_Z D h ad cI cZ A s (ll_set σ 8 j x) H1 locs1 → W p l e R s m args below meth c H1 locs1 cells slots Q (F0 m (pc + 1) ls rest)) : W p l e R s m args below meth c H locs cells slots Q (F0 m pc ls (.int (nI x) :: .int (nI j) :: .ref (ad 8) :: rest)) := by
  refine va_zast (D := D) X.1 X.2.1 Z.1 Z.2.1 Z.2.2.1 Z.2.2.2.1 8 1 (f := fun i => nI (σ 8 i)) (n := 2) rfl rfl (vp_in_nI hj (by decide)) hdg (fun H1 locs1 hP hD hS => ?_)
  rw [nI_clamp (by omega)] at hP hD
  have e : vp_nar .boolean (nI x) = nI x := by
    rcases (show x = 0 ∨ x = 1 by omega) with rfl | rfl <;> rfl
  rw [e] at hP hD
  rw [ll_W8] at hP hD
  exact kk H1 locs1 ⟨Z.1, hP, hD, hS, Z.2.2.2.2⟩
theorem ll_st9 (X : ll_C p m c cc nL s args) (Z : ll_Z D h ad cI cZ A s σ H locs) {j x : Nat} (hj : j < 2) (hdg : decode cc pc = .ok (.iastore, 1)) (kk : ∀ (H1 : Heap) (locs1 : List Loc), ll_Z D h ad cI cZ A s (ll_set σ 9 j x) H1 locs1 → W p l e R s m args below meth c H1 locs1 cells slots Q (F0 m (pc + 1) ls rest)) : W p l e R s m args below meth c H locs cells slots Q (F0 m pc ls (.int (nI x) :: .int (nI j) :: .ref (ad 9) :: rest)) := by
  refine va_iast (D := D) X.1 X.2.1 Z.1 Z.2.1 Z.2.2.1 Z.2.2.2.1 9 0 (f := fun i => nI (σ 9 i)) (n := 2) rfl rfl (vp_in_nI hj (by decide)) hdg (fun H1 locs1 hP hD hS => ?_)
  rw [nI_clamp (by omega)] at hP hD
  rw [ll_W9] at hP hD
  exact kk H1 locs1 ⟨Z.1, hP, hD, hS, Z.2.2.2.2⟩
theorem ll_st10 (X : ll_C p m c cc nL s args) (Z : ll_Z D h ad cI cZ A s σ H locs) {j x : Nat} (hj : j < 2) (hdg : decode cc pc = .ok (.iastore, 1)) (kk : ∀ (H1 : Heap) (locs1 : List Loc), ll_Z D h ad cI cZ A s (ll_set σ 10 j x) H1 locs1 → W p l e R s m args below meth c H1 locs1 cells slots Q (F0 m (pc + 1) ls rest)) : W p l e R s m args below meth c H locs cells slots Q (F0 m pc ls (.int (nI x) :: .int (nI j) :: .ref (ad 10) :: rest)) := by
  refine va_iast (D := D) X.1 X.2.1 Z.1 Z.2.1 Z.2.2.1 Z.2.2.2.1 10 0 (f := fun i => nI (σ 10 i)) (n := 2) rfl rfl (vp_in_nI hj (by decide)) hdg (fun H1 locs1 hP hD hS => ?_)
  rw [nI_clamp (by omega)] at hP hD
  rw [ll_W10] at hP hD
  exact kk H1 locs1 ⟨Z.1, hP, hD, hS, Z.2.2.2.2⟩
theorem ll_st11 (X : ll_C p m c cc nL s args) (Z : ll_Z D h ad cI cZ A s σ H locs) {j x : Nat} (hj : j < 64) (hdg : decode cc pc = .ok (.iastore, 1)) (kk : ∀ (H1 : Heap) (locs1 : List Loc), ll_Z D h ad cI cZ A s (ll_set σ 11 j x) H1 locs1 → W p l e R s m args below meth c H1 locs1 cells slots Q (F0 m (pc + 1) ls rest)) : W p l e R s m args below meth c H locs cells slots Q (F0 m pc ls (.int (nI x) :: .int (nI j) :: .ref (ad 11) :: rest)) := by
  refine va_iast (D := D) X.1 X.2.1 Z.1 Z.2.1 Z.2.2.1 Z.2.2.2.1 11 0 (f := fun i => nI (σ 11 i)) (n := 64) rfl rfl (vp_in_nI hj (by decide)) hdg (fun H1 locs1 hP hD hS => ?_)
  rw [nI_clamp (by omega)] at hP hD
  rw [ll_W11] at hP hD
  exact kk H1 locs1 ⟨Z.1, hP, hD, hS, Z.2.2.2.2⟩
theorem ll_st12 (X : ll_C p m c cc nL s args) (Z : ll_Z D h ad cI cZ A s σ H locs) {j x : Nat} (hj : j < 2) (hdg : decode cc pc = .ok (.iastore, 1)) (kk : ∀ (H1 : Heap) (locs1 : List Loc), ll_Z D h ad cI cZ A s (ll_set σ 12 j x) H1 locs1 → W p l e R s m args below meth c H1 locs1 cells slots Q (F0 m (pc + 1) ls rest)) : W p l e R s m args below meth c H locs cells slots Q (F0 m pc ls (.int (nI x) :: .int (nI j) :: .ref (ad 12) :: rest)) := by
  refine va_iast (D := D) X.1 X.2.1 Z.1 Z.2.1 Z.2.2.1 Z.2.2.2.1 12 0 (f := fun i => nI (σ 12 i)) (n := 2) rfl rfl (vp_in_nI hj (by decide)) hdg (fun H1 locs1 hP hD hS => ?_)
  rw [nI_clamp (by omega)] at hP hD
  rw [ll_W12] at hP hD
  exact kk H1 locs1 ⟨Z.1, hP, hD, hS, Z.2.2.2.2⟩
theorem ll_st13 (X : ll_C p m c cc nL s args) (Z : ll_Z D h ad cI cZ A s σ H locs) {j x : Nat} (hj : j < 2) (hdg : decode cc pc = .ok (.iastore, 1)) (kk : ∀ (H1 : Heap) (locs1 : List Loc), ll_Z D h ad cI cZ A s (ll_set σ 13 j x) H1 locs1 → W p l e R s m args below meth c H1 locs1 cells slots Q (F0 m (pc + 1) ls rest)) : W p l e R s m args below meth c H locs cells slots Q (F0 m pc ls (.int (nI x) :: .int (nI j) :: .ref (ad 13) :: rest)) := by
  refine va_iast (D := D) X.1 X.2.1 Z.1 Z.2.1 Z.2.2.1 Z.2.2.2.1 13 0 (f := fun i => nI (σ 13 i)) (n := 2) rfl rfl (vp_in_nI hj (by decide)) hdg (fun H1 locs1 hP hD hS => ?_)
  rw [nI_clamp (by omega)] at hP hD
  rw [ll_W13] at hP hD
  exact kk H1 locs1 ⟨Z.1, hP, hD, hS, Z.2.2.2.2⟩
theorem ll_st14 (X : ll_C p m c cc nL s args) (Z : ll_Z D h ad cI cZ A s σ H locs) {j x : Nat} (hj : j < 32) (hdg : decode cc pc = .ok (.iastore, 1)) (kk : ∀ (H1 : Heap) (locs1 : List Loc), ll_Z D h ad cI cZ A s (ll_set σ 14 j x) H1 locs1 → W p l e R s m args below meth c H1 locs1 cells slots Q (F0 m (pc + 1) ls rest)) : W p l e R s m args below meth c H locs cells slots Q (F0 m pc ls (.int (nI x) :: .int (nI j) :: .ref (ad 14) :: rest)) := by
  refine va_iast (D := D) X.1 X.2.1 Z.1 Z.2.1 Z.2.2.1 Z.2.2.2.1 14 0 (f := fun i => nI (σ 14 i)) (n := 32) rfl rfl (vp_in_nI hj (by decide)) hdg (fun H1 locs1 hP hD hS => ?_)
  rw [nI_clamp (by omega)] at hP hD
  rw [ll_W14] at hP hD
  exact kk H1 locs1 ⟨Z.1, hP, hD, hS, Z.2.2.2.2⟩
end LL
/-! contracts -/
def ll_Mv (l : Launch) (y : MethodName) (ws : List Cond) (rm : Room) (as : List Value) (σ τ : ll_St) : Prop :=
  ∀ (D : va_G) (h : Nat) (ad : Nat → Nat) (cI cZ : ClassId) (sz : Nat), Met l y ws rm (va_Pc (.ref h :: as) (fun U => U.heap.size = sz ∧ va_P D vwCl (ll_W h ad cI cZ σ) U.heap ∧ va_K D vwCl (ll_ty cI cZ) U ∧ va_D (fun _ => True) (ll_W h ad cI cZ σ))) (va_Qv (fun u : ll_St => u = τ) (fun u t => va_P D vwCl (ll_W h ad cI cZ u) t.heap ∧ va_K D vwCl (ll_ty cI cZ) t ∧ va_D (va_A (ll_W h ad cI cZ σ) sz) (ll_W h ad cI cZ u)) (va_A (ll_W h ad cI cZ σ) sz)) 0 0 (va_A (ll_W h ad cI cZ σ) sz)
def ll_Mi (l : Launch) (y : MethodName) (ws : List Cond) (rm : Room) (as : List Value) (σ τ : ll_St) (ρ : Int32) : Prop :=
  ∀ (D : va_G) (h : Nat) (ad : Nat → Nat) (cI cZ : ClassId) (sz : Nat), Met l y ws rm (va_Pc (.ref h :: as) (fun U => U.heap.size = sz ∧ va_P D vwCl (ll_W h ad cI cZ σ) U.heap ∧ va_K D vwCl (ll_ty cI cZ) U ∧ va_D (fun _ => True) (ll_W h ad cI cZ σ))) (va_Qi (fun (r : Int32) (u : ll_St) => r = ρ ∧ u = τ) (fun u t => va_P D vwCl (ll_W h ad cI cZ u) t.heap ∧ va_K D vwCl (ll_ty cI cZ) t ∧ va_D (va_A (ll_W h ad cI cZ σ) sz) (ll_W h ad cI cZ u)) (va_A (ll_W h ad cI cZ σ) sz)) 0 0 (va_A (ll_W h ad cI cZ σ) sz)
/-- a static method that touches no cell -/
def ll_Ms (l : Launch) (y : MethodName) (ws : List Cond) (rm : Room) (as : List Value) (ρ : Int32) : Prop :=
  Met l y ws rm (va_Pc as (fun _ => True)) (va_Qi (fun (r : Int32) (_ : Unit) => r = ρ) (fun _ _ => True) (fun _ => False)) 0 0 (fun _ => False)
def ll_Ev (D : va_G) (h : Nat) (ad : Nat → Nat) (cI cZ : ClassId) (A : Nat → Prop) (below : List Frame) (args : Array Value) (s : State) (τ : ll_St) : State → Prop := MQ below (va_Qv (fun u : ll_St => u = τ) (fun u t => va_P D vwCl (ll_W h ad cI cZ u) t.heap ∧ va_K D vwCl (ll_ty cI cZ) t ∧ va_D A (ll_W h ad cI cZ u)) A) args s 0 0 A
def ll_Ei (D : va_G) (h : Nat) (ad : Nat → Nat) (cI cZ : ClassId) (A : Nat → Prop) (below : List Frame) (args : Array Value) (s : State) (τ : ll_St) (ρ : Int32) : State → Prop := MQ below (va_Qi (fun (r : Int32) (u : ll_St) => r = ρ ∧ u = τ) (fun u t => va_P D vwCl (ll_W h ad cI cZ u) t.heap ∧ va_K D vwCl (ll_ty cI cZ) t ∧ va_D A (ll_W h ad cI cZ u)) A) args s 0 0 A
def ll_Es (below : List Frame) (args : Array Value) (s : State) (ρ : Int32) : State → Prop := MQ below (va_Qi (fun (r : Int32) (_ : Unit) => r = ρ) (fun _ _ => True) (fun _ => False)) args s 0 0 (fun _ => False)
theorem ll_ofWv {l : Launch} {nm ds : String} {cc : ByteArray} {nL : Nat} {rm : Room} {as : List Value} {σ τ : ll_St} (hn : (lg_sl (.ref 0 :: as)).length ≤ nL)
    (body : ∀ (p : Program) (e : Env) (s : State) (m : MethodId) (args : Array Value) (below : List Frame) (meth : Method) (c : Code) (D : va_G) (h : Nat) (ad : Nat → Nat) (cI cZ : ClassId) (A : Nat → Prop), ll_C p m c cc nL s args → meth.sig.returnType = none → meth.locks = false → ll_Z D h ad cI cZ A s σ s.heap [] → ∀ ls : Array Slot, lv_has ls nL (lv_args 0 (.ref h :: as)) → W p l e rm s m args below meth c s.heap [] 0 0 (ll_Ev D h ad cI cZ A below args s τ) (F0 m 0 ls [])) :
    ll_Mv l ⟨RX1, nm, ds⟩ (ws_ ⟨RX1, nm, ds⟩ cc nL none) rm as σ τ := by
  intro D h ad cI cZ sz
  refine Met.ofW (cc := cc) (maxL := nL) (ret := none) (show plainName RX1 = true by decide) rfl ?_
  intro p e s m args below meth c s₁ B hml hv
  obtain ⟨rfl, hsz, hP, hK, hD0⟩ := hv
  have hts := atoms_spec (ws := ws_ ⟨RX1, nm, ds⟩ cc nL none) B.pre
  have hts : ∀ w ∈ lw_all, w.before _ s = true := fun w h => hts w (List.mem_cons_of_mem _ h)
  have hown : s.vm.findClass RX1 = some m.cls := findClass_of_methodNamed B.named
  subst hsz
  have hD := hD0.self (sz := s.heap.size)
  have hA : ∀ q : Nat, s.heap.size ≤ q → va_A (ll_W h ad cI cZ σ) s.heap.size q := fun q h => Or.inr h
  have hl := lv_entry (.ref h :: as) (n := nL) hn
  rw [lg_entry_eq]
  exact body p e s m _ below meth c D h ad cI cZ _ ⟨B.exec, B.bytes, hml, hown, hts⟩ B.returns B.notSynchronized ⟨hK, hP, hD, va_S.rf, hA⟩ _ hl
theorem ll_ofWi {l : Launch} {nm ds : String} {cc : ByteArray} {nL : Nat} {rm : Room} {as : List Value} {σ τ : ll_St} {ρ : Int32} {ty : FieldType} (hn : (lg_sl (.ref 0 :: as)).length ≤ nL)
    (body : ∀ (p : Program) (e : Env) (s : State) (m : MethodId) (args : Array Value) (below : List Frame) (meth : Method) (c : Code) (D : va_G) (h : Nat) (ad : Nat → Nat) (cI cZ : ClassId) (A : Nat → Prop), ll_C p m c cc nL s args → meth.sig.returnType = some ty → meth.locks = false → ll_Z D h ad cI cZ A s σ s.heap [] → ∀ ls : Array Slot, lv_has ls nL (lv_args 0 (.ref h :: as)) → W p l e rm s m args below meth c s.heap [] 0 0 (ll_Ei D h ad cI cZ A below args s τ ρ) (F0 m 0 ls [])) :
    ll_Mi l ⟨RX1, nm, ds⟩ (ws_ ⟨RX1, nm, ds⟩ cc nL (some ty)) rm as σ τ ρ := by
  intro D h ad cI cZ sz
  refine Met.ofW (cc := cc) (maxL := nL) (ret := some ty) (show plainName RX1 = true by decide) rfl ?_
  intro p e s m args below meth c s₁ B hml hv
  obtain ⟨rfl, hsz, hP, hK, hD0⟩ := hv
  have hts := atoms_spec (ws := ws_ ⟨RX1, nm, ds⟩ cc nL (some ty)) B.pre
  have hts : ∀ w ∈ lw_all, w.before _ s = true := fun w h => hts w (List.mem_cons_of_mem _ h)
  have hown : s.vm.findClass RX1 = some m.cls := findClass_of_methodNamed B.named
  subst hsz
  have hD := hD0.self (sz := s.heap.size)
  have hA : ∀ q : Nat, s.heap.size ≤ q → va_A (ll_W h ad cI cZ σ) s.heap.size q := fun q h => Or.inr h
  have hl := lv_entry (.ref h :: as) (n := nL) hn
  rw [lg_entry_eq]
  exact body p e s m _ below meth c D h ad cI cZ _ ⟨B.exec, B.bytes, hml, hown, hts⟩ B.returns B.notSynchronized ⟨hK, hP, hD, va_S.rf, hA⟩ _ hl
theorem ll_ofWs {l : Launch} {nm ds : String} {cc : ByteArray} {nL : Nat} {rm : Room} {as : List Value} {ρ : Int32} {ty : FieldType} (hn : (lg_sl as).length ≤ nL)
    (body : ∀ (p : Program) (e : Env) (s : State) (m : MethodId) (args : Array Value) (below : List Frame) (meth : Method) (c : Code), ll_C p m c cc nL s args → meth.sig.returnType = some ty → meth.locks = false → ∀ ls : Array Slot, lv_has ls nL (lv_args 0 as) → W p l e rm s m args below meth c s.heap [] 0 0 (ll_Es below args s ρ) (F0 m 0 ls [])) :
    ll_Ms l ⟨RX1, nm, ds⟩ (ws_ ⟨RX1, nm, ds⟩ cc nL (some ty)) rm as ρ := by
  refine Met.ofW (cc := cc) (maxL := nL) (ret := some ty) (show plainName RX1 = true by decide) rfl ?_
  intro p e s m args below meth c s₁ B hml hv
  obtain ⟨rfl, -⟩ := hv
  have hts := atoms_spec (ws := ws_ ⟨RX1, nm, ds⟩ cc nL (some ty)) B.pre
  have hts : ∀ w ∈ lw_all, w.before _ s = true := fun w h => hts w (List.mem_cons_of_mem _ h)
  have hown : s.vm.findClass RX1 = some m.cls := findClass_of_methodNamed B.named
  have hl := lv_entry as (n := nL) hn
  rw [lg_entry_eq]
  exact body p e s m _ below meth c ⟨B.exec, B.bytes, hml, hown, hts⟩ B.returns B.notSynchronized _ hl
section LLr
variable {p : Program} {l : Launch} {e : Env} {R : Room} {s : State} {m : MethodId} {args : Array Value} {below : List Frame} {meth : Method} {c : Code} {H : Heap} {locs : List Loc} {cells slots : Nat} {Q : State → Prop} {cc : ByteArray} {pc : Nat} {ls : Array Slot} {rest : List Value} {nL : Nat} {D : va_G} {h : Nat} {ad : Nat → Nat} {cI cZ : ClassId} {A : Nat → Prop} {σ τ : ll_St} {ρ : Int32}
theorem ll_retv (X : ll_C p m c cc nL s args) (hr : meth.sig.returnType = none) (hlk : meth.locks = false) (Z : ll_Z D h ad cI cZ A s σ H locs) (e0 : σ = τ) (hdg : decode cc pc = .ok (.return_, 1)) : W p l e R s m args below meth c H locs 0 0 (ll_Ev D h ad cI cZ A below args s τ) (F0 m pc ls []) :=
  W.vret X.1 X.2.1 hr (fun t ht hW => ⟨⟨σ, rfl, e0, by rw [ht]; exact Z.2.1, va_K.moved hW.alike Z.1, Z.2.2.1⟩, Z.2.2.2.1.F ht⟩) Z.2.2.2.1.2.2 hdg
theorem ll_reti {v : Int32} (X : ll_C p m c cc nL s args) (hr : meth.sig.returnType = some .int) (hlk : meth.locks = false) (Z : ll_Z D h ad cI cZ A s σ H locs) (e0 : σ = τ) (e1 : v = ρ) (hdg : decode cc pc = .ok (.ireturn, 1)) : W p l e R s m args below meth c H locs 0 0 (ll_Ei D h ad cI cZ A below args s τ ρ) (F0 m pc ls [.int v]) :=
  W.iret X.1 X.2.1 hr (fun t ht hW => ⟨⟨v, σ, rfl, ⟨e1, e0⟩, by rw [ht]; exact Z.2.1, va_K.moved hW.alike Z.1, Z.2.2.1⟩, Z.2.2.2.1.F ht⟩) Z.2.2.2.1.2.2 hdg
theorem ll_retz {x : Nat} (X : ll_C p m c cc nL s args) (hr : meth.sig.returnType = some .boolean) (hlk : meth.locks = false) (Z : ll_Z D h ad cI cZ A s σ H locs) (e0 : σ = τ) (hx : x ≤ 1) (e1 : nI x = ρ) (hdg : decode cc pc = .ok (.ireturn, 1)) : W p l e R s m args below meth c H locs 0 0 (ll_Ei D h ad cI cZ A below args s τ ρ) (F0 m pc ls [.int (nI x)]) :=
  W.zret X.1 X.2.1 hr (by rcases (show x = 0 ∨ x = 1 by omega) with rfl | rfl <;> rfl) (fun t ht hW => ⟨⟨nI x, σ, rfl, ⟨e1, e0⟩, by rw [ht]; exact Z.2.1, va_K.moved hW.alike Z.1, Z.2.2.1⟩, Z.2.2.2.1.F ht⟩) Z.2.2.2.1.2.2 hdg
theorem ll_retsi {v : Int32} (X : ll_C p m c cc nL s args) (hr : meth.sig.returnType = some .int) (hlk : meth.locks = false) (hS : va_S (fun _ => False) s.heap H locs) (e1 : v = ρ) (hdg : decode cc pc = .ok (.ireturn, 1)) : W p l e R s m args below meth c H locs 0 0 (ll_Es below args s ρ) (F0 m pc ls [.int v]) :=
  W.iret X.1 X.2.1 hr (fun t ht hW => ⟨⟨v, (), rfl, e1, trivial⟩, hS.F ht⟩) hS.2.2 hdg
theorem ll_retsz {x : Nat} (X : ll_C p m c cc nL s args) (hr : meth.sig.returnType = some .boolean) (hlk : meth.locks = false) (hS : va_S (fun _ => False) s.heap H locs) (hx : x ≤ 1) (e1 : nI x = ρ) (hdg : decode cc pc = .ok (.ireturn, 1)) : W p l e R s m args below meth c H locs 0 0 (ll_Es below args s ρ) (F0 m pc ls [.int (nI x)]) :=
  W.zret X.1 X.2.1 hr (by rcases (show x = 0 ∨ x = 1 by omega) with rfl | rfl <;> rfl) (fun t ht hW => ⟨⟨nI x, (), rfl, e1, trivial⟩, hS.F ht⟩) hS.2.2 hdg
theorem ll_blind (as : List Value) (sz : Nat) : FrameBlind (va_Pc as (fun U => U.heap.size = sz ∧ va_P D vwCl (ll_W h ad cI cZ σ) U.heap ∧ va_K D vwCl (ll_ty cI cZ) U ∧ va_D (fun _ => True) (ll_W h ad cI cZ σ))) := fun a U g mk q => by
  obtain ⟨q0, q1, qP, qK, qD⟩ := q
  exact ⟨q0, q1, qP, va_K.moved (u := U) (U := U.calling g mk a) (Vm.Alike.refl U.vm) qK, qD⟩
theorem ll_fr (Z : ll_Z D h ad cI cZ A s σ H locs) : ∀ q, va_A (ll_W h ad cI cZ σ) H.size q → A q := by
  intro q hq
  rcases hq with ⟨k, e, hk⟩ | hq
  · exact Z.2.2.1.2 k (q, e) hk
  · exact Z.2.2.2.2 q (Nat.le_trans Z.2.2.2.1.1 hq)
/-- a call of a method of its own, void -/
theorem ll_callv {y : MethodName} {bytes : ByteArray} {maxL n index : Nat} {rm : Room} {As : List Value} {st0 : List Value} (X : ll_C p m c cc nL s args) (Z : ll_Z D h ad cI cZ A s σ H locs) (hM : ll_Mv l y (ws_ y bytes maxL none) rm As σ τ) (cw : CallW R s args RX1 RX1 index y bytes maxL none (ws_ y bytes maxL none) rm 0 0 n) (hn : As.length = n) (hsz : ls.size = nL) (hst : st0 = As.reverse ++ .ref h :: rest) (hro : (rest.map fun v => v.category).sum ≤ 8) (hcap : cells ≤ R.cells ∧ slots ≤ R.slots) (hdg : decode cc pc = .ok (.invokevirtual index, 3))
    (kk : ∀ (H1 : Heap) (locs1 : List Loc), ll_Z D h ad cI cZ A s τ H1 locs1 → W p l e R s m args below meth c H1 locs1 cells slots Q (F0 m (pc + 3) ls rest)) : W p l e R s m args below meth c H locs cells slots Q (F0 m pc ls st0) := by
  have hF := ll_fr Z
  refine va_callv (va_runV (As := As) (rest := rest) X (hM D h ad cI cZ H.size) cw ⟨ll_blind _ _, va_recv Z.1 Z.2.1 (ci := 0) (q0 := 0) rfl rfl, fun U hU hW => ⟨rfl, by rw [hU], by rw [hU]; exact Z.2.1, va_K.moved hW.alike Z.1, Z.2.2.1.weaken (fun _ _ _ _ => trivial)⟩⟩ rfl hn hsz hst (lv_room hro) hdg hcap) Z.2.2.2.1 (fun q _ h => hF q h) hF (fun u t H1 locs1 ht hvm hu hB hz1 hk1 hS => ?_)
  obtain ⟨hP1, hK1, hD1⟩ := hB
  subst hu
  rw [ht] at hP1
  exact kk H1 locs1 ⟨Z.1, hP1, hD1.weaken (fun _ _ _ q => hF _ q), hS, Z.2.2.2.2⟩
/-- a call of a method of its own with an int (or a boolean) for an answer -/
theorem ll_calli {y : MethodName} {bytes : ByteArray} {maxL n index : Nat} {ty : FieldType} {rm : Room} {As : List Value} {st0 : List Value} (X : ll_C p m c cc nL s args) (Z : ll_Z D h ad cI cZ A s σ H locs) (hM : ll_Mi l y (ws_ y bytes maxL (some ty)) rm As σ τ ρ) (cw : CallW R s args RX1 RX1 index y bytes maxL (some ty) (ws_ y bytes maxL (some ty)) rm 0 0 n) (hn : As.length = n) (hsz : ls.size = nL) (hst : st0 = As.reverse ++ .ref h :: rest) (hro : (rest.map fun v => v.category).sum ≤ 8) (hcap : cells ≤ R.cells ∧ slots ≤ R.slots) (hdg : decode cc pc = .ok (.invokevirtual index, 3))
    (kk : ∀ (H1 : Heap) (locs1 : List Loc), ll_Z D h ad cI cZ A s τ H1 locs1 → W p l e R s m args below meth c H1 locs1 cells slots Q (F0 m (pc + 3) ls (.int ρ :: rest))) : W p l e R s m args below meth c H locs cells slots Q (F0 m pc ls st0) := by
  have hF := ll_fr Z
  refine va_calli (va_runV (As := As) (rest := rest) X (hM D h ad cI cZ H.size) cw ⟨ll_blind _ _, va_recv Z.1 Z.2.1 (ci := 0) (q0 := 0) rfl rfl, fun U hU hW => ⟨rfl, by rw [hU], by rw [hU]; exact Z.2.1, va_K.moved hW.alike Z.1, Z.2.2.1.weaken (fun _ _ _ _ => trivial)⟩⟩ rfl hn hsz hst (lv_room hro) hdg hcap) Z.2.2.2.1 (fun q _ h => hF q h) hF (fun r u t H1 locs1 ht hvm hu hB hz1 hk1 hS => ?_)
  obtain ⟨hP1, hK1, hD1⟩ := hB
  obtain ⟨hu0, hu⟩ := hu
  subst hu
  subst hu0
  rw [ht] at hP1
  exact kk H1 locs1 ⟨Z.1, hP1, hD1.weaken (fun _ _ _ q => hF _ q), hS, Z.2.2.2.2⟩
theorem ll_blindS (as : List Value) : FrameBlind (va_Pc as (fun _ => True)) := fun a U g mk q => q
/-- a static call out of a method with the world -/
theorem ll_calls {y : MethodName} {bytes : ByteArray} {maxL n index : Nat} {ty : FieldType} {rm : Room} {As : List Value} {st0 : List Value} (X : ll_C p m c cc nL s args) (Z : ll_Z D h ad cI cZ A s σ H locs) (hM : ll_Ms l y (ws_ y bytes maxL (some ty)) rm As ρ) (cw : CallB R s args RX1 index y bytes maxL (some ty) (ws_ y bytes maxL (some ty)) rm 0 0 n ∧ (Cond.static y).before args s = true) (hn : As.length = n) (hsz : ls.size = nL) (hst : st0 = As.reverse ++ rest) (hro : (rest.map fun v => v.category).sum ≤ 8) (hcap : cells ≤ R.cells ∧ slots ≤ R.slots) (hdg : decode cc pc = .ok (.invokestatic index, 3))
    (kk : ∀ (H1 : Heap) (locs1 : List Loc), ll_Z D h ad cI cZ A s σ H1 locs1 → W p l e R s m args below meth c H1 locs1 cells slots Q (F0 m (pc + 3) ls (.int ρ :: rest))) : W p l e R s m args below meth c H locs cells slots Q (F0 m pc ls st0) := by
  refine va_calli (va_runS (As := As) (rest := rest) X hM cw ⟨ll_blindS _, fun U hU hW => ⟨rfl, trivial⟩⟩ rfl hn hsz hst (lv_room hro) hdg hcap) Z.2.2.2.1 (fun q _ h => h.elim) (fun q h => h.elim) (fun r u t H1 locs1 ht hvm hu hB hz1 hk1 hS => ?_)
  subst hu
  exact kk H1 locs1 ⟨Z.1, Z.2.1.kept (fun k q hq => hk1 q.1 ((Z.2.1 k q hq).lt) (fun h => h)), Z.2.2.1, hS, Z.2.2.2.2⟩
/-- a static call out of a static method -/
theorem ll_callss {y : MethodName} {bytes : ByteArray} {maxL n index : Nat} {ty : FieldType} {rm : Room} {As : List Value} {st0 : List Value} (X : ll_C p m c cc nL s args) (hS0 : va_S A s.heap H locs) (hM : ll_Ms l y (ws_ y bytes maxL (some ty)) rm As ρ) (cw : CallB R s args RX1 index y bytes maxL (some ty) (ws_ y bytes maxL (some ty)) rm 0 0 n ∧ (Cond.static y).before args s = true) (hn : As.length = n) (hsz : ls.size = nL) (hst : st0 = As.reverse ++ rest) (hro : (rest.map fun v => v.category).sum ≤ 8) (hcap : cells ≤ R.cells ∧ slots ≤ R.slots) (hdg : decode cc pc = .ok (.invokestatic index, 3))
    (kk : ∀ (H1 : Heap) (locs1 : List Loc), va_S A s.heap H1 locs1 → W p l e R s m args below meth c H1 locs1 cells slots Q (F0 m (pc + 3) ls (.int ρ :: rest))) : W p l e R s m args below meth c H locs cells slots Q (F0 m pc ls st0) := by
  refine va_calli (va_runS (As := As) (rest := rest) X hM cw ⟨ll_blindS _, fun U hU hW => ⟨rfl, trivial⟩⟩ rfl hn hsz hst (lv_room hro) hdg hcap) hS0 (fun q _ h => h.elim) (fun q h => h.elim) (fun r u t H1 locs1 ht hvm hu hB hz1 hk1 hS => ?_)
  subst hu
  exact kk H1 locs1 hS
end LLr
end
section
/-! what the methods of LossyLink compute, as plain functions of the state -/
def ll_crcS (x b : Nat) : Nat := if x / 2 ^ b % 2 = 1 then x ^^^ (263 * 2 ^ (b - 8)) else x
def ll_crcL : Nat → Nat → Nat
  | 0, x => x
  | n + 1, x => ll_crcL n (ll_crcS x (n + 8))
def ll_crc (f : Nat) : Nat := ll_crcL 17 (f % 131072 * 256) % 256
def ll_wc (f : Nat) : Nat := f ||| (ll_crc f * 131072)
def ll_snd (f : Nat) : Nat := if ll_crc f = f / 131072 % 256 then 1 else 0
def ll_send (s k n b : Nat) (σ : ll_St) : ll_St :=
  if σ 13 s < 16 then ll_set (ll_set (ll_set σ 8 s 0) 14 (s * 16 + σ 13 s) (ll_wc (((k ||| (n * 4)) ||| (σ 6 s * 32)) ||| (b * 256)))) 13 s (σ 13 s + 1) else ll_set σ 8 s 0
def ll_smS (s : Nat) (σ : ll_St) : ll_St := ll_send s 0 ((σ 4 s + σ 5 s) % 8) (σ 3 (s * 32 + (σ 1 s + σ 5 s) % 32)) (ll_set σ 5 s (σ 5 s + 1))
def ll_sm (s : Nat) : Nat → ll_St → ll_St
  | 0, σ => σ
  | n + 1, σ => if σ 5 s < σ 0 0 ∧ σ 5 s < σ 2 s then ll_sm s n (ll_smS s σ) else σ
def ll_gb (s : Nat) (σ : ll_St) : ll_St := ll_sm s 4 (ll_set σ 5 s 0)
def ll_cf (s r : Nat) (σ : ll_St) : ll_St :=
  if (r + 8 - σ 4 s) % 8 ≤ σ 5 s then ll_set (ll_set (ll_set (ll_set σ 1 s ((σ 1 s + (r + 8 - σ 4 s) % 8) % 32)) 2 s (σ 2 s - (r + 8 - σ 4 s) % 8)) 5 s (σ 5 s - (r + 8 - σ 4 s) % 8)) 4 s r else σ
def ll_ac (s b : Nat) (σ : ll_St) : ll_St :=
  ll_set (ll_set (ll_set (ll_set (ll_set σ 11 (s * 32 + (σ 9 s + σ 10 s) % 32) b) 10 s (σ 10 s + 1)) 6 s ((σ 6 s + 1) % 8)) 7 s 0) 8 s 1
def ll_rd (s n b : Nat) (σ : ll_St) : ll_St :=
  if (n + 8 - σ 6 s) % 8 = 0 then ll_ac s b σ else if (n + 8 - σ 6 s) % 8 ≤ 3 ∧ σ 7 s = 0 then ll_send s 2 0 0 (ll_set σ 7 s 1) else ll_set σ 8 s 1
def ll_ar2 (s f : Nat) (σ : ll_St) : ll_St := if f % 4 = 0 then ll_rd s (f / 4 % 8) (f / 256 % 512) (ll_cf s (f / 32 % 8) σ) else ll_cf s (f / 32 % 8) σ
def ll_ar (s f : Nat) (σ : ll_St) : ll_St :=
  if ll_snd f = 0 then σ else if f % 4 = 2 then ll_gb s (ll_ar2 s f σ) else ll_sm s 4 (ll_ar2 s f σ)
def ll_tfL (s : Nat) : Nat → Nat → ll_St → ll_St
  | 0, _, σ => σ
  | n + 1, i, σ => ll_tfL s n (i + 1) (ll_set σ 14 (s * 16 + i) (σ 14 (s * 16 + i + 1)))
def ll_tf (s : Nat) (σ : ll_St) : ll_St := ll_tfL s (σ 13 s - 1) 0 (ll_set σ 13 s (σ 13 s - 1))
def ll_pd (s : Nat) (σ : ll_St) : ll_St := if σ 8 s = 0 then σ else ll_send s 1 0 0 σ
def ll_co (s : Nat) (σ : ll_St) : ll_St := ll_pd (1 - s) (ll_ar (1 - s) (σ 14 (s * 16)) (ll_tf s σ))
def ll_el (s : Nat) : Nat → ll_St → ll_St
  | 0, σ => σ
  | n + 1, σ => if σ 13 s = 0 then σ else ll_el s n (ll_co s σ)
def ll_rn (σ : ll_St) : ll_St := ll_el 1 16 (ll_gb 1 (ll_el 0 16 (ll_gb 0 σ)))
def ll_stl : Nat → ll_St → ll_St
  | 0, σ => σ
  | n + 1, σ => if σ 2 0 + σ 2 1 = 0 then σ else ll_stl n (ll_rn σ)
def ll_wos (s : Nat) (σ : ll_St) : Nat := σ 10 (1 - s) + σ 2 s - (σ 6 (1 - s) + 8 - σ 4 s) % 8
def ll_gv (s b : Nat) (σ : ll_St) : ll_St := ll_sm s 4 (ll_set (ll_set σ 3 (s * 32 + (σ 1 s + σ 2 s) % 32) b) 2 s (σ 2 s + 1))
def ll_to (s : Nat) (σ : ll_St) : ll_St := ll_set (ll_set (ll_set σ 9 s ((σ 9 s + 1) % 32)) 10 s (σ 10 s - 1)) 12 s (σ 12 s + 1)
def ll_ba (s i : Nat) (σ : ll_St) : Nat := σ 11 (s * 32 + (σ 9 s + i) % 32)
def ll_mkL (s : Nat) (σ : ll_St) : Nat → Nat → Nat → Nat
  | 0, _, a => a
  | n + 1, i, a => ll_mkL s σ n (i + 1) (a + ll_ba s i σ / 256)
def ll_tmL (s : Nat) : Nat → Nat → Nat → ll_St → Nat × ll_St
  | 0, a, _, σ => (a, σ)
  | n + 1, a, b, σ => if b < 256 then ll_tmL s n (a + 1) (σ 11 (s * 32 + σ 9 s)) (ll_to s σ) else (a, σ)
def ll_skL (s : Nat) : Nat → ll_St → ll_St
  | 0, σ => σ
  | n + 1, σ => ll_skL s n (ll_to s σ)
def ll_smL (s : Nat) (σ : ll_St) : Nat → Nat → Nat → Nat
  | 0, _, a => a
  | n + 1, i, a => ll_smL s σ n (i + 1) (a + ll_ba s i σ % 256)
def ll_rs1 (s : Nat) (σ : ll_St) : ll_St := ll_set (ll_set (ll_set (ll_set (ll_set (ll_set (ll_set (ll_set (ll_set (ll_set (ll_set σ 1 s 0) 2 s 0) 4 s 0) 5 s 0) 6 s 0) 7 s 0) 8 s 0) 9 s 0) 10 s 0) 12 s 0) 13 s 0
/-- what keeps the walk within its bounds -/
def ll_bd (k : Nat) : Nat := match k with
  | 0 => 5
  | 1 => 32
  | 2 => 65
  | 3 => 512
  | 4 => 8
  | 5 => 5
  | 6 => 8
  | 7 => 2
  | 8 => 2
  | 9 => 32
  | 11 => 512
  | 13 => 17
  | _ => 33554432
def ll_ok (σ : ll_St) : Prop := (∀ k i, k ≠ 10 → k ≠ 12 → σ k i < ll_bd k) ∧ 1 ≤ σ 0 0 ∧ ∀ i, σ 5 i ≤ σ 2 i
theorem ll_ok_set {σ : ll_St} {k j x : Nat} (h : ll_ok σ) (h0 : k ≠ 0) (hb : k ≠ 10 → k ≠ 12 → x < ll_bd k) (h5 : k = 5 → x ≤ σ 2 j) (h2 : k = 2 → σ 5 j ≤ x) : ll_ok (ll_set σ k j x) := by
  refine ⟨fun a i ha hb' => ?_, ?_, fun i => ?_⟩
  · by_cases hc : a = k ∧ i = j
    · obtain ⟨rfl, rfl⟩ := hc
      rw [ll_e]
      exact hb ha hb'
    · have : ll_set σ k j x a i = σ a i := if_neg hc
      rw [this]
      exact h.1 a i ha hb'
  · rw [ll_c σ (Ne.symm h0)]
    exact h.2.1
  · have hh := h.2.2 i
    by_cases e5 : k = 5
    · subst e5
      rw [ll_c σ (a := 2) (k := 5) (by decide)]
      by_cases hi : i = j
      · subst hi
        rw [ll_e]
        exact h5 rfl
      · rw [ll_n σ hi]
        exact hh
    · rw [ll_c σ (a := 5) (fun q => e5 q.symm)]
      by_cases e2 : k = 2
      · subst e2
        by_cases hi : i = j
        · subst hi
          rw [ll_e]
          exact h2 rfl
        · rw [ll_n σ hi]
          exact hh
      · rw [ll_c σ (a := 2) (fun q => e2 q.symm)]
        exact hh
/-- the same for a field that is neither 2 nor 5 -/
theorem ll_ok_set' {σ : ll_St} {k j x : Nat} (h : ll_ok σ) (h0 : k ≠ 0 ∧ k ≠ 2 ∧ k ≠ 5) (hb : k ≠ 10 → k ≠ 12 → x < ll_bd k) : ll_ok (ll_set σ k j x) := ll_ok_set h h0.1 hb (fun q => absurd q h0.2.2) (fun q => absurd q h0.2.1)
theorem ll_crcS_lt {x b : Nat} (hx : x < 2 ^ 25) (hb : b ≤ 24) : ll_crcS x b < 2 ^ 25 := by
  unfold ll_crcS
  split
  · refine Nat.xor_lt_two_pow hx ?_
    have h1 : 2 ^ (b - 8) ≤ 2 ^ 16 := Nat.pow_le_pow_right (by omega) (by omega)
    have h2 : 263 * 2 ^ (b - 8) ≤ 263 * 2 ^ 16 := Nat.mul_le_mul_left _ h1
    omega
  · exact hx
theorem ll_crc_lt (f : Nat) : ll_crc f < 256 := Nat.mod_lt _ (by decide)
theorem ll_wc_lt {f : Nat} (h : f < 2 ^ 17) : ll_wc f < 33554432 := by
  unfold ll_wc
  have := ll_crc_lt f
  exact Nat.or_lt_two_pow (n := 25) (by omega) (by omega)
theorem ll_fr_lt {k n e b : Nat} (hk : k < 4) (hn : n < 8) (he : e < 8) (hb : b < 512) : (((k ||| (n * 4)) ||| (e * 32)) ||| (b * 256)) < 2 ^ 17 :=
  Nat.or_lt_two_pow (Nat.or_lt_two_pow (Nat.or_lt_two_pow (by omega) (by omega)) (by omega)) (by omega)
theorem ll_ok_send {σ : ll_St} {s k n b : Nat} (h : ll_ok σ) (hk : k < 4) (hn : n < 8) (hb : b < 512) : ll_ok (ll_send s k n b σ) := by
  have h8 : ll_ok (ll_set σ 8 s 0) := ll_ok_set' h (by decide) (fun _ _ => by decide)
  unfold ll_send
  split
  · rename_i q
    refine ll_ok_set' (ll_ok_set' h8 (by decide) (fun _ _ => ?_)) (by decide) (fun _ _ => ?_)
    · exact ll_wc_lt (ll_fr_lt hk hn (h.1 6 s (by decide) (by decide)) hb)
    · show σ 13 s + 1 < 17
      omega
  · exact h8
theorem ll_ok_smS {σ : ll_St} {s : Nat} (h : ll_ok σ) (h1 : σ 5 s < σ 0 0) (h2 : σ 5 s < σ 2 s) : ll_ok (ll_smS s σ) := by
  refine ll_ok_send (ll_ok_set h (by decide) (fun _ _ => ?_) (fun _ => h2) (fun q => absurd q (by decide))) (by decide) (Nat.mod_lt _ (by decide)) (h.1 3 _ (by decide) (by decide))
  show σ 5 s + 1 < 5
  have : σ 0 0 < 5 := h.1 0 0 (by decide) (by decide)
  omega
theorem ll_ok_sm {s : Nat} : ∀ (n : Nat) {σ : ll_St}, ll_ok σ → ll_ok (ll_sm s n σ)
  | 0, _, h => h
  | n + 1, σ, h => by
    unfold ll_sm
    split
    · rename_i q
      exact ll_ok_sm n (ll_ok_smS h q.1 q.2)
    · exact h
theorem ll_ok_5 {σ : ll_St} {s : Nat} (h : ll_ok σ) : ll_ok (ll_set σ 5 s 0) := ll_ok_set h (by decide) (fun _ _ => by decide) (fun _ => Nat.zero_le _) (fun q => absurd q (by decide))
theorem ll_ok_gb {σ : ll_St} {s : Nat} (h : ll_ok σ) : ll_ok (ll_gb s σ) := ll_ok_sm 4 (ll_ok_5 h)
theorem ll_ok_cf {σ : ll_St} {s r : Nat} (h : ll_ok σ) (hr : r < 8) : ll_ok (ll_cf s r σ) := by
  unfold ll_cf
  generalize (r + 8 - σ 4 s) % 8 = n
  split
  · rename_i q
    refine ll_ok_set' ?_ (by decide) (fun _ _ => hr)
    have h1 : ll_ok (ll_set σ 1 s ((σ 1 s + n) % 32)) := ll_ok_set' h (by decide) (fun _ _ => Nat.mod_lt _ (by decide))
    generalize ht : ll_set σ 1 s ((σ 1 s + n) % 32) = τ at h1
    have e2 : τ 2 s = σ 2 s := by rw [← ht, ll_c σ (by decide)]
    have e5 : τ 5 s = σ 5 s := by rw [← ht, ll_c σ (by decide)]
    have h52 := h1.2.2 s
    have h5b : τ 5 s < 5 := h1.1 5 s (by decide) (by decide)
    have h2b : τ 2 s < 65 := h1.1 2 s (by decide) (by decide)
    have hc : ll_set (ll_set τ 2 s (σ 2 s - n)) 5 s (σ 5 s - n) = ll_set (ll_set τ 5 s (σ 5 s - n)) 2 s (σ 2 s - n) := by
      funext a b
      simp only [ll_set]
      split <;> split <;> first | rfl | omega
    rw [hc]
    refine ll_ok_set (ll_ok_set h1 (by decide) (fun _ _ => ?_) (fun _ => ?_) (fun q => absurd q (by decide))) (by decide) (fun _ _ => ?_) (fun q => absurd q (by decide)) (fun _ => ?_)
    · show σ 5 s - n < 5
      omega
    · omega
    · show σ 2 s - n < 65
      omega
    · rw [ll_e]
      omega
  · exact h
theorem ll_ok_ac {σ : ll_St} {s b : Nat} (h : ll_ok σ) (hb : b < 512) : ll_ok (ll_ac s b σ) := by
  unfold ll_ac
  refine ll_ok_set' (ll_ok_set' (ll_ok_set' (ll_ok_set' (ll_ok_set' h (by decide) (fun _ _ => hb)) (by decide) (fun q => absurd rfl q)) (by decide) (fun _ _ => Nat.mod_lt _ (by decide))) (by decide) (fun _ _ => by decide)) (by decide) (fun _ _ => by decide)
theorem ll_ok_rd {σ : ll_St} {s n b : Nat} (h : ll_ok σ) (hb : b < 512) : ll_ok (ll_rd s n b σ) := by
  unfold ll_rd
  split
  · exact ll_ok_ac h hb
  · split
    · exact ll_ok_send (ll_ok_set' h (by decide) (fun _ _ => by decide)) (by decide) (by decide) (by decide)
    · exact ll_ok_set' h (by decide) (fun _ _ => by decide)
theorem ll_ok_ar2 {σ : ll_St} {s f : Nat} (h : ll_ok σ) : ll_ok (ll_ar2 s f σ) := by
  have h1 : ll_ok (ll_cf s (f / 32 % 8) σ) := ll_ok_cf h (Nat.mod_lt _ (by decide))
  unfold ll_ar2
  split
  · exact ll_ok_rd h1 (Nat.mod_lt _ (by decide))
  · exact h1
theorem ll_ok_ar {σ : ll_St} {s f : Nat} (h : ll_ok σ) : ll_ok (ll_ar s f σ) := by
  unfold ll_ar
  split
  · exact h
  · split
    · exact ll_ok_gb (ll_ok_ar2 h)
    · exact ll_ok_sm 4 (ll_ok_ar2 h)
theorem ll_ok_tfL {s : Nat} : ∀ (n i : Nat) {σ : ll_St}, ll_ok σ → ll_ok (ll_tfL s n i σ)
  | 0, _, _, h => h
  | n + 1, i, σ, h => ll_ok_tfL n (i + 1) (ll_ok_set' h (by decide) (fun _ _ => h.1 14 _ (by decide) (by decide)))
theorem ll_ok_tf {σ : ll_St} {s : Nat} (h : ll_ok σ) : ll_ok (ll_tf s σ) := by
  refine ll_ok_tfL _ _ (ll_ok_set' h (by decide) (fun _ _ => ?_))
  have : σ 13 s < 17 := h.1 13 s (by decide) (by decide)
  show σ 13 s - 1 < 17
  omega
theorem ll_ok_pd {σ : ll_St} {s : Nat} (h : ll_ok σ) : ll_ok (ll_pd s σ) := by
  unfold ll_pd
  split
  · exact h
  · exact ll_ok_send h (by decide) (by decide) (by decide)
theorem ll_ok_co {σ : ll_St} {s : Nat} (h : ll_ok σ) : ll_ok (ll_co s σ) := ll_ok_pd (ll_ok_ar (ll_ok_tf h))
theorem ll_ok_el {s : Nat} : ∀ (n : Nat) {σ : ll_St}, ll_ok σ → ll_ok (ll_el s n σ)
  | 0, _, h => h
  | n + 1, σ, h => by
    unfold ll_el
    split
    · exact h
    · exact ll_ok_el n (ll_ok_co h)
theorem ll_ok_rn {σ : ll_St} (h : ll_ok σ) : ll_ok (ll_rn σ) := ll_ok_el 16 (ll_ok_gb (ll_ok_el 16 (ll_ok_gb h)))
theorem ll_ok_stl : ∀ (n : Nat) {σ : ll_St}, ll_ok σ → ll_ok (ll_stl n σ)
  | 0, _, h => h
  | n + 1, σ, h => by
    unfold ll_stl
    split
    · exact h
    · exact ll_ok_stl n (ll_ok_rn h)
theorem ll_ok_gv {σ : ll_St} {s b : Nat} (h : ll_ok σ) (hb : b < 512) (h2 : σ 2 s < 64) : ll_ok (ll_gv s b σ) := by
  refine ll_ok_sm 4 (ll_ok_set (ll_ok_set' h (by decide) (fun _ _ => hb)) (by decide) (fun _ _ => ?_) (fun q => absurd q (by decide)) (fun _ => ?_))
  · show σ 2 s + 1 < 65
    omega
  · rw [ll_c σ (by decide)]
    have := h.2.2 s
    omega
theorem ll_ok_to {σ : ll_St} {s : Nat} (h : ll_ok σ) : ll_ok (ll_to s σ) :=
  ll_ok_set' (ll_ok_set' (ll_ok_set' h (by decide) (fun _ _ => Nat.mod_lt _ (by decide))) (by decide) (fun q => absurd rfl q)) (by decide) (fun _ q => absurd rfl q)
end
section
set_option maxRecDepth 100000
abbrev rmX1_bad : Room := { frames := 0, cells := 0, slots := 0, locals := 0 }
abbrev wsX1_bad : List Cond := ws_ yX1_bad cX1_bad 1 (some .boolean)
abbrev rmX1_checkOf : Room := { frames := 0, cells := 0, slots := 0, locals := 0 }
abbrev wsX1_checkOf : List Cond := ws_ yX1_checkOf cX1_checkOf 3 (some .int)
abbrev rmX1_withCheck : Room := { frames := 1, cells := 0, slots := 0, locals := 22 }
abbrev wsX1_withCheck : List Cond := ws_ yX1_withCheck cX1_withCheck 2 (some .int)
abbrev rmX1_sound : Room := { frames := 1, cells := 0, slots := 0, locals := 22 }
abbrev wsX1_sound : List Cond := ws_ yX1_sound cX1_sound 2 (some .boolean)
abbrev rmX1_send : Room := { frames := 2, cells := 0, slots := 0, locals := 43 }
abbrev wsX1_send : List Cond := ws_ yX1_send cX1_send 6 none
abbrev rmX1_sendMore : Room := { frames := 3, cells := 0, slots := 0, locals := 68 }
abbrev wsX1_sendMore : List Cond := ws_ yX1_sendMore cX1_sendMore 4 none
abbrev rmX1_goBack : Room := { frames := 4, cells := 0, slots := 0, locals := 91 }
abbrev wsX1_goBack : List Cond := ws_ yX1_goBack cX1_goBack 2 none
abbrev rmX1_confirm : Room := { frames := 0, cells := 0, slots := 0, locals := 0 }
abbrev wsX1_confirm : List Cond := ws_ yX1_confirm cX1_confirm 4 none
abbrev rmX1_accept : Room := { frames := 0, cells := 0, slots := 0, locals := 0 }
abbrev wsX1_accept : List Cond := ws_ yX1_accept cX1_accept 3 none
abbrev rmX1_receiveData : Room := { frames := 3, cells := 0, slots := 0, locals := 68 }
abbrev wsX1_receiveData : List Cond := ws_ yX1_receiveData cX1_receiveData 5 none
abbrev rmX1_arrive : Room := { frames := 5, cells := 0, slots := 0, locals := 112 }
abbrev wsX1_arrive : List Cond := ws_ yX1_arrive cX1_arrive 5 none
abbrev rmX1_takeFrame : Room := { frames := 0, cells := 0, slots := 0, locals := 0 }
abbrev wsX1_takeFrame : List Cond := ws_ yX1_takeFrame cX1_takeFrame 4 (some .int)
abbrev rmX1_payDebt : Room := { frames := 3, cells := 0, slots := 0, locals := 68 }
abbrev wsX1_payDebt : List Cond := ws_ yX1_payDebt cX1_payDebt 2 none
abbrev rmX1_carryOne : Room := { frames := 6, cells := 0, slots := 0, locals := 136 }
abbrev wsX1_carryOne : List Cond := ws_ yX1_carryOne cX1_carryOne 3 none
abbrev rmX1_busy : Room := { frames := 0, cells := 0, slots := 0, locals := 0 }
abbrev wsX1_busy : List Cond := ws_ yX1_busy cX1_busy 1 (some .boolean)
abbrev rmX1_emptyLine : Room := { frames := 7, cells := 0, slots := 0, locals := 158 }
abbrev wsX1_emptyLine : List Cond := ws_ yX1_emptyLine cX1_emptyLine 3 none
abbrev rmX1_settle : Room := { frames := 8, cells := 0, slots := 0, locals := 180 }
abbrev wsX1_settle : List Cond := ws_ yX1_settle cX1_settle 2 none
abbrev rmX1_give : Room := { frames := 4, cells := 0, slots := 0, locals := 91 }
abbrev wsX1_give : List Cond := ws_ yX1_give cX1_give 5 (some .int)
abbrev rmX1_waitingOrSent : Room := { frames := 0, cells := 0, slots := 0, locals := 0 }
abbrev wsX1_waitingOrSent : List Cond := ws_ yX1_waitingOrSent cX1_waitingOrSent 4 (some .int)
abbrev rmX1_waitingFor : Room := { frames := 9, cells := 0, slots := 0, locals := 201 }
abbrev wsX1_waitingFor : List Cond := ws_ yX1_waitingFor cX1_waitingFor 2 (some .int)
abbrev rmX1_takeOne : Room := { frames := 0, cells := 0, slots := 0, locals := 0 }
abbrev wsX1_takeOne : List Cond := ws_ yX1_takeOne cX1_takeOne 3 (some .int)
abbrev rmX1_take : Room := { frames := 10, cells := 0, slots := 0, locals := 222 }
abbrev wsX1_take : List Cond := ws_ yX1_take cX1_take 4 (some .int)
abbrev rmX1_byteAt : Room := { frames := 0, cells := 0, slots := 0, locals := 0 }
abbrev wsX1_byteAt : List Cond := ws_ yX1_byteAt cX1_byteAt 3 (some .int)
abbrev rmX1_marked : Room := { frames := 1, cells := 0, slots := 0, locals := 22 }
abbrev wsX1_marked : List Cond := ws_ yX1_marked cX1_marked 4 (some .int)
abbrev rmX1_takeMessage : Room := { frames := 9, cells := 0, slots := 0, locals := 201 }
abbrev wsX1_takeMessage : List Cond := ws_ yX1_takeMessage cX1_takeMessage 6 (some .int)
abbrev rmX1_skip : Room := { frames := 10, cells := 0, slots := 0, locals := 222 }
abbrev wsX1_skip : List Cond := ws_ yX1_skip cX1_skip 4 (some .int)
abbrev rmX1_reset : Room := { frames := 0, cells := 0, slots := 0, locals := 0 }
abbrev wsX1_reset : List Cond := ws_ yX1_reset cX1_reset 2 none
abbrev rmX1_carry : Room := { frames := 7, cells := 0, slots := 0, locals := 158 }
abbrev wsX1_carry : List Cond := ws_ yX1_carry cX1_carry 5 (some .int)
abbrev rmX1_fire : Room := { frames := 5, cells := 0, slots := 0, locals := 112 }
abbrev wsX1_fire : List Cond := ws_ yX1_fire cX1_fire 2 (some .int)
abbrev rmX1_waiting : Room := { frames := 10, cells := 0, slots := 0, locals := 222 }
abbrev wsX1_waiting : List Cond := ws_ yX1_waiting cX1_waiting 2 (some .int)
abbrev rmX1_messages : Room := { frames := 9, cells := 0, slots := 0, locals := 201 }
abbrev wsX1_messages : List Cond := ws_ yX1_messages cX1_messages 2 (some .int)
abbrev rmX1_peek : Room := { frames := 10, cells := 0, slots := 0, locals := 222 }
abbrev wsX1_peek : List Cond := ws_ yX1_peek cX1_peek 4 (some .int)
abbrev rmX1_ends : Room := { frames := 10, cells := 0, slots := 0, locals := 222 }
abbrev wsX1_ends : List Cond := ws_ yX1_ends cX1_ends 4 (some .boolean)
abbrev rmX1_done : Room := { frames := 1, cells := 0, slots := 0, locals := 20 }
abbrev wsX1_done : List Cond := ws_ yX1_done cX1_done 2 (some .int)
abbrev rmX1_sum : Room := { frames := 10, cells := 0, slots := 0, locals := 222 }
abbrev wsX1_sum : List Cond := ws_ yX1_sum cX1_sum 5 (some .int)
theorem cwX1_bad {R : Room} {s : State} {args : Array Value} (hts : ∀ w ∈ lw_all, w.before args s = true) (hR : 0 + 1 ≤ R.frames ∧ 8 + (1 + 11) + 0 ≤ R.locals) : CallB R s args RX1 110 yX1_bad cX1_bad 1 (some .boolean) wsX1_bad rmX1_bad 0 0 1 ∧ (Cond.static yX1_bad).before args s = true := va_cwS 1 hts (lw_S q83 q84 q21 q85) rfl rfl rfl (by decide +kernel) hR
theorem cwX1_checkOf {R : Room} {s : State} {args : Array Value} (hts : ∀ w ∈ lw_all, w.before args s = true) (hR : 0 + 1 ≤ R.frames ∧ 8 + (3 + 11) + 0 ≤ R.locals) : CallB R s args RX1 58 yX1_checkOf cX1_checkOf 3 (some .int) wsX1_checkOf rmX1_checkOf 0 0 1 ∧ (Cond.static yX1_checkOf).before args s = true := va_cwS 1 hts (lw_S q101 q102 q21 q103) rfl rfl rfl (by decide +kernel) hR
theorem cwX1_withCheck {R : Room} {s : State} {args : Array Value} (hts : ∀ w ∈ lw_all, w.before args s = true) (hR : 1 + 1 ≤ R.frames ∧ 8 + (2 + 11) + 22 ≤ R.locals) : CallB R s args RX1 62 yX1_withCheck cX1_withCheck 2 (some .int) wsX1_withCheck rmX1_withCheck 0 0 1 ∧ (Cond.static yX1_withCheck).before args s = true := va_cwS 1 hts (lw_S q98 q99 q21 q100) rfl rfl rfl (by decide +kernel) hR
theorem cwX1_sound {R : Room} {s : State} {args : Array Value} (hts : ∀ w ∈ lw_all, w.before args s = true) (hR : 1 + 1 ≤ R.frames ∧ 8 + (2 + 11) + 22 ≤ R.locals) : CallB R s args RX1 77 yX1_sound cX1_sound 2 (some .boolean) wsX1_sound rmX1_sound 0 0 1 ∧ (Cond.static yX1_sound).before args s = true := va_cwS 1 hts (lw_S q141 q142 q21 q143) rfl rfl rfl (by decide +kernel) hR
theorem cwX1_send {R : Room} {s : State} {args : Array Value} (hts : ∀ w ∈ lw_all, w.before args s = true) (hR : 2 + 1 ≤ R.frames ∧ 8 + (6 + 11) + 43 ≤ R.locals) : CallW R s args RX1 RX1 65 yX1_send cX1_send 6 none wsX1_send rmX1_send 0 0 4 := cwV 4 hts (lw_V q94 q96 qs2 q21 q97) rfl rfl rfl (by decide +kernel) hR
theorem cwX1_sendMore {R : Room} {s : State} {args : Array Value} (hts : ∀ w ∈ lw_all, w.before args s = true) (hR : 3 + 1 ≤ R.frames ∧ 8 + (4 + 11) + 68 ≤ R.locals) : CallW R s args RX1 RX1 69 yX1_sendMore cX1_sendMore 4 none wsX1_sendMore rmX1_sendMore 0 0 1 := cwV 1 hts (lw_V q90 q92 qs1 q21 q93) rfl rfl rfl (by decide +kernel) hR
theorem cwX1_goBack {R : Room} {s : State} {args : Array Value} (hts : ∀ w ∈ lw_all, w.before args s = true) (hR : 4 + 1 ≤ R.frames ∧ 8 + (2 + 11) + 91 ≤ R.locals) : CallW R s args RX1 RX1 88 yX1_goBack cX1_goBack 2 none wsX1_goBack rmX1_goBack 0 0 1 := cwV 1 hts (lw_V q121 q123 qs6 q21 q124) rfl rfl rfl (by decide +kernel) hR
theorem cwX1_confirm {R : Room} {s : State} {args : Array Value} (hts : ∀ w ∈ lw_all, w.before args s = true) (hR : 0 + 1 ≤ R.frames ∧ 8 + (4 + 11) + 0 ≤ R.locals) : CallW R s args RX1 RX1 81 yX1_confirm cX1_confirm 4 none wsX1_confirm rmX1_confirm 0 0 2 := cwV 2 hts (lw_V q144 q146 qs11 q21 q147) rfl rfl rfl (by decide +kernel) hR
theorem cwX1_accept {R : Room} {s : State} {args : Array Value} (hts : ∀ w ∈ lw_all, w.before args s = true) (hR : 0 + 1 ≤ R.frames ∧ 8 + (3 + 11) + 0 ≤ R.locals) : CallW R s args RX1 RX1 73 yX1_accept cX1_accept 3 none wsX1_accept rmX1_accept 0 0 2 := cwV 2 hts (lw_V q152 q154 qs13 q21 q155) rfl rfl rfl (by decide +kernel) hR
theorem cwX1_receiveData {R : Room} {s : State} {args : Array Value} (hts : ∀ w ∈ lw_all, w.before args s = true) (hR : 3 + 1 ≤ R.frames ∧ 8 + (5 + 11) + 68 ≤ R.locals) : CallW R s args RX1 RX1 84 yX1_receiveData cX1_receiveData 5 none wsX1_receiveData rmX1_receiveData 0 0 3 := cwV 3 hts (lw_V q148 q150 qs12 q21 q151) rfl rfl rfl (by decide +kernel) hR
theorem cwX1_arrive {R : Room} {s : State} {args : Array Value} (hts : ∀ w ∈ lw_all, w.before args s = true) (hR : 5 + 1 ≤ R.frames ∧ 8 + (5 + 11) + 112 ≤ R.locals) : CallW R s args RX1 RX1 94 yX1_arrive cX1_arrive 5 none wsX1_arrive rmX1_arrive 0 0 2 := cwV 2 hts (lw_V q137 q139 qs10 q21 q140) rfl rfl rfl (by decide +kernel) hR
theorem cwX1_takeFrame {R : Room} {s : State} {args : Array Value} (hts : ∀ w ∈ lw_all, w.before args s = true) (hR : 0 + 1 ≤ R.frames ∧ 8 + (4 + 11) + 0 ≤ R.locals) : CallW R s args RX1 RX1 91 yX1_takeFrame cX1_takeFrame 4 (some .int) wsX1_takeFrame rmX1_takeFrame 0 0 1 := cwV 1 hts (lw_V q133 q135 qs9 q21 q136) rfl rfl rfl (by decide +kernel) hR
theorem cwX1_payDebt {R : Room} {s : State} {args : Array Value} (hts : ∀ w ∈ lw_all, w.before args s = true) (hR : 3 + 1 ≤ R.frames ∧ 8 + (2 + 11) + 68 ≤ R.locals) : CallW R s args RX1 RX1 97 yX1_payDebt cX1_payDebt 2 none wsX1_payDebt rmX1_payDebt 0 0 1 := cwV 1 hts (lw_V q156 q158 qs14 q21 q159) rfl rfl rfl (by decide +kernel) hR
theorem cwX1_carryOne {R : Room} {s : State} {args : Array Value} (hts : ∀ w ∈ lw_all, w.before args s = true) (hR : 6 + 1 ≤ R.frames ∧ 8 + (3 + 11) + 136 ≤ R.locals) : CallW R s args RX1 RX1 100 yX1_carryOne cX1_carryOne 3 none wsX1_carryOne rmX1_carryOne 0 0 1 := cwV 1 hts (lw_V q129 q131 qs8 q21 q132) rfl rfl rfl (by decide +kernel) hR
theorem cwX1_busy {R : Room} {s : State} {args : Array Value} (hts : ∀ w ∈ lw_all, w.before args s = true) (hR : 0 + 1 ≤ R.frames ∧ 8 + (1 + 11) + 0 ≤ R.locals) : CallW R s args RX1 RX1 103 yX1_busy cX1_busy 1 (some .boolean) wsX1_busy rmX1_busy 0 0 0 := cwV 0 hts (lw_V q117 q119 qs5 q21 q120) rfl rfl rfl (by decide +kernel) hR
theorem cwX1_emptyLine {R : Room} {s : State} {args : Array Value} (hts : ∀ w ∈ lw_all, w.before args s = true) (hR : 7 + 1 ≤ R.frames ∧ 8 + (3 + 11) + 158 ≤ R.locals) : CallW R s args RX1 RX1 107 yX1_emptyLine cX1_emptyLine 3 none wsX1_emptyLine rmX1_emptyLine 0 0 1 := cwV 1 hts (lw_V q125 q127 qs7 q21 q128) rfl rfl rfl (by decide +kernel) hR
theorem cwX1_settle {R : Room} {s : State} {args : Array Value} (hts : ∀ w ∈ lw_all, w.before args s = true) (hR : 8 + 1 ≤ R.frames ∧ 8 + (2 + 11) + 180 ≤ R.locals) : CallW R s args RX1 RX1 116 yX1_settle cX1_settle 2 none wsX1_settle rmX1_settle 0 0 0 := cwV 0 hts (lw_V q113 q115 qs4 q21 q116) rfl rfl rfl (by decide +kernel) hR
theorem cwX1_waitingOrSent {R : Room} {s : State} {args : Array Value} (hts : ∀ w ∈ lw_all, w.before args s = true) (hR : 0 + 1 ≤ R.frames ∧ 8 + (4 + 11) + 0 ≤ R.locals) : CallW R s args RX1 RX1 113 yX1_waitingOrSent cX1_waitingOrSent 4 (some .int) wsX1_waitingOrSent rmX1_waitingOrSent 0 0 1 := cwV 1 hts (lw_V q86 q88 qs0 q21 q89) rfl rfl rfl (by decide +kernel) hR
theorem cwX1_waitingFor {R : Room} {s : State} {args : Array Value} (hts : ∀ w ∈ lw_all, w.before args s = true) (hR : 9 + 1 ≤ R.frames ∧ 8 + (2 + 11) + 201 ≤ R.locals) : CallW R s args RX1 RX1 119 yX1_waitingFor cX1_waitingFor 2 (some .int) wsX1_waitingFor rmX1_waitingFor 0 0 1 := cwV 1 hts (lw_V q109 q111 qs3 q21 q112) rfl rfl rfl (by decide +kernel) hR
theorem cwX1_takeOne {R : Room} {s : State} {args : Array Value} (hts : ∀ w ∈ lw_all, w.before args s = true) (hR : 0 + 1 ≤ R.frames ∧ 8 + (3 + 11) + 0 ≤ R.locals) : CallW R s args RX1 RX1 122 yX1_takeOne cX1_takeOne 3 (some .int) wsX1_takeOne rmX1_takeOne 0 0 1 := cwV 1 hts (lw_V q160 q162 qs15 q21 q163) rfl rfl rfl (by decide +kernel) hR
theorem cwX1_byteAt {R : Room} {s : State} {args : Array Value} (hts : ∀ w ∈ lw_all, w.before args s = true) (hR : 0 + 1 ≤ R.frames ∧ 8 + (3 + 11) + 0 ≤ R.locals) : CallW R s args RX1 RX1 125 yX1_byteAt cX1_byteAt 3 (some .int) wsX1_byteAt rmX1_byteAt 0 0 2 := cwV 2 hts (lw_V q172 q174 qs17 q21 q175) rfl rfl rfl (by decide +kernel) hR
theorem cwX1_marked {R : Room} {s : State} {args : Array Value} (hts : ∀ w ∈ lw_all, w.before args s = true) (hR : 1 + 1 ≤ R.frames ∧ 8 + (4 + 11) + 22 ≤ R.locals) : CallW R s args RX1 RX1 129 yX1_marked cX1_marked 4 (some .int) wsX1_marked rmX1_marked 0 0 1 := cwV 1 hts (lw_V q168 q170 qs16 q21 q171) rfl rfl rfl (by decide +kernel) hR
end
section
set_option maxHeartbeats 4000000 in
set_option maxRecDepth 100000 in
theorem ll_k_bad0 (l : Launch) {s : Nat} (hs : s < 2) : ll_Ms l yX1_bad wsX1_bad rmX1_bad [.int (nI s)] (nI 0) := by
  refine ll_ofWs (Nat.le_of_ble_eq_true rfl) (fun p e st m args below meth c X hr hlk ls hl => ?_)
  have hS : va_S (fun _ => False) st.heap st.heap [] := va_S.rf
  have hx := X.1
  have hb := X.2.1
  have hl : lv_has ls 1 [(0, .int (nI s))] := hl
  refine lv_iload_n hx hb dX1_bad_0 rfl (lv_at hl 0 rfl) ?_
  refine nw_if_lt (tgt := 9) hx hb (by omega) dX1_bad_1 (by decide) ?_
  refine lv_iload_n hx hb dX1_bad_4 rfl (lv_at hl 0 rfl) ?_
  refine nw_iconst hx hb 1 dX1_bad_5 (by decide) ?_
  refine nw_icmp_le (tgt := 13) hx hb (by omega) (by omega) dX1_bad_6 (by decide) (fun h_6 => ?_) (fun h_6 => ?_)
  · skip
    refine nw_iconst hx hb 0 dX1_bad_13 (by decide) ?_
    exact ll_retsz X hr hlk hS (by decide) rfl dX1_bad_14
  · skip
    exact absurd (show s ≤ 1 by omega) h_6
set_option maxHeartbeats 4000000 in
set_option maxRecDepth 100000 in
theorem ll_k_bad1 (l : Launch) {x : Int32} (hbad : x < 0 ∨ 1 < x) : ll_Ms l yX1_bad wsX1_bad rmX1_bad [.int x] (nI 1) := by
  refine ll_ofWs (Nat.le_of_ble_eq_true rfl) (fun p e st m args below meth c X hr hlk ls hl => ?_)
  have hS : va_S (fun _ => False) st.heap st.heap [] := va_S.rf
  have hx := X.1
  have hb := X.2.1
  have hl : lv_has ls 1 [(0, .int x)] := hl
  refine lv_iload_n hx hb dX1_bad_0 rfl (lv_at hl 0 rfl) ?_
  refine lv_if_lt (tgt := 9) hx hb dX1_bad_1 (by decide) (fun h_1 => ?_) (fun h_1 => ?_)
  · skip
    refine nw_iconst hx hb 1 dX1_bad_9 (by decide) ?_
    refine lv_goto (tgt := 14) hx hb dX1_bad_10 (by decide) ?_
    exact ll_retsz X hr hlk hS (by decide) rfl dX1_bad_14
  · skip
    refine lv_iload_n hx hb dX1_bad_4 rfl (lv_at hl 0 rfl) ?_
    refine nw_iconst hx hb 1 dX1_bad_5 (by decide) ?_
    refine lv_icmp_le (tgt := 13) hx hb dX1_bad_6 (by decide) (fun h_6 => ?_) (fun h_6 => ?_)
    · skip
      exact absurd h_6 (fun q => by rcases hbad with z | z; exact h_1 z; exact absurd (Int32.lt_of_lt_of_le z q) (by decide))
    · skip
      refine nw_iconst hx hb 1 dX1_bad_9 (by decide) ?_
      refine lv_goto (tgt := 14) hx hb dX1_bad_10 (by decide) ?_
      exact ll_retsz X hr hlk hS (by decide) rfl dX1_bad_14
set_option maxHeartbeats 4000000 in
set_option maxRecDepth 100000 in
theorem ll_l_checkOf {p : Program} {l : Launch} {e : Env} {st : State} {m : MethodId} {args : Array Value} {below : List Frame} {meth : Method} {c : Code} {H : Heap} {locs : List Loc} {f : Nat} (X : ll_C p m c cX1_checkOf 3 st args) (hr : meth.sig.returnType = some .int) (hlk : meth.locks = false) (hS : va_S (fun _ => False) st.heap H locs) : ∀ (n x : Nat), x < 2 ^ 25 → n ≤ 17 → ∀ ls : Array Slot, lv_has ls 3 [(2, .int (nI (n + 7))), (1, .int (nI x)), (0, .int (nI f))] → W p l e rmX1_checkOf st m args below meth c H locs 0 0 (ll_Es below args st (nI (ll_crcL n x % 256))) (F0 m 11 ls []) := by
  have hx := X.1
  have hb := X.2.1
  intro n
  induction n with
  | zero =>
    intro x hx25 hn ls hl
    refine lv_iload_n hx hb dX1_checkOf_11 rfl (lv_at hl 0 rfl) ?_
    refine nw_bipush hx hb 8 dX1_checkOf_12 (by decide) ?_
    refine nw_icmp_lt (tgt := 43) hx hb (by omega) (by omega) dX1_checkOf_14 (by decide) (fun h_14 => ?_) (fun h_14 => ?_)
    · skip
      refine lv_iload_n hx hb dX1_checkOf_43 rfl (lv_at hl 1 rfl) ?_
      refine nw_sipush hx hb 255 dX1_checkOf_44 (by decide) ?_
      refine nw_iand hx hb 256 8 rfl rfl (by decide) dX1_checkOf_47 ?_
      exact ll_retsi X hr hlk hS rfl dX1_checkOf_48
    · skip
      exact absurd (show 0 + 7 < 8 by omega) h_14
  | succ n ih =>
    intro x hx25 hn ls hl
    have hl : lv_has ls 3 [(2, .int (nI (n + 8))), (1, .int (nI x)), (0, .int (nI f))] := hl
    refine lv_iload_n hx hb dX1_checkOf_11 rfl (lv_at hl 0 rfl) ?_
    refine nw_bipush hx hb 8 dX1_checkOf_12 (by decide) ?_
    refine nw_icmp_lt (tgt := 43) hx hb (by omega) (by omega) dX1_checkOf_14 (by decide) (fun h_14 => ?_) (fun h_14 => ?_)
    · skip
      exact absurd h_14 (by omega)
    · skip
      refine lv_iload_n hx hb dX1_checkOf_17 rfl (lv_at hl 1 rfl) ?_
      refine lv_iload_n hx hb dX1_checkOf_18 rfl (lv_at hl 0 rfl) ?_
      refine nw_ishr hx hb (by omega) (by omega) dX1_checkOf_19 ?_
      refine nw_iconst hx hb 1 dX1_checkOf_20 (by decide) ?_
      refine nw_iand hx hb 2 1 rfl rfl (by decide) dX1_checkOf_21 ?_
      refine nw_iconst hx hb 1 dX1_checkOf_22 (by decide) ?_
      refine nw_icmp_ne (tgt := 37) hx hb (Nat.lt_of_lt_of_le (Nat.mod_lt _ (by decide)) (by decide)) (by omega) dX1_checkOf_23 (by decide) (fun h_23 => ?_) (fun h_23 => ?_)
      · skip
        refine lv_iinc (v := (nI (n + 7))) (lv' := [(2, .int (nI (n + 7))), (1, .int (nI x)), (0, .int (nI f))]) hx hb dX1_checkOf_37 hl (k := 0) rfl (pk_m1 (n + 7)) (by decide) rfl (fun ls hl => ?_)
        refine lv_goto (tgt := 11) hx hb dX1_checkOf_40 (by decide) ?_
        have e0 : ll_crcS x (n + 8) = x := if_neg h_23
        have e1 : ll_crcL (n + 1) x = ll_crcL n (x) := congrArg (ll_crcL n) e0
        rw [e1]
        exact ih _ (by rw [← e0]; exact ll_crcS_lt hx25 (by omega)) (by omega) ls (lv_sub hl [0, 1, 2] rfl)
      · skip
        refine lv_iload_n hx hb dX1_checkOf_26 rfl (lv_at hl 1 rfl) ?_
        refine nw_sipush hx hb 263 dX1_checkOf_27 (by decide) ?_
        refine lv_iload_n hx hb dX1_checkOf_30 rfl (lv_at hl 0 rfl) ?_
        refine nw_bipush hx hb 8 dX1_checkOf_31 (by decide) ?_
        refine nw_isub hx hb (by omega) dX1_checkOf_33 ?_
        refine nw_ishl hx hb (by omega) dX1_checkOf_34 ?_
        refine nw_ixor hx hb dX1_checkOf_35 ?_
        refine lv_istore_n (lv' := [(1, .int (nI (x ^^^ (263 * 2 ^ ((n + 8) - 8))))), (2, .int (nI (n + 8))), (0, .int (nI f))]) hx hb dX1_checkOf_36 rfl hl (by decide) rfl (fun ls hl => ?_)
        refine lv_iinc (v := (nI (n + 7))) (lv' := [(2, .int (nI (n + 7))), (1, .int (nI (x ^^^ (263 * 2 ^ ((n + 8) - 8))))), (0, .int (nI f))]) hx hb dX1_checkOf_37 hl (k := 1) rfl (pk_m1 (n + 7)) (by decide) rfl (fun ls hl => ?_)
        refine lv_goto (tgt := 11) hx hb dX1_checkOf_40 (by decide) ?_
        have e0 : ll_crcS x (n + 8) = x ^^^ (263 * 2 ^ ((n + 8) - 8)) := if_pos h_23
        have e1 : ll_crcL (n + 1) x = ll_crcL n (x ^^^ (263 * 2 ^ ((n + 8) - 8))) := congrArg (ll_crcL n) e0
        rw [e1]
        exact ih _ (by rw [← e0]; exact ll_crcS_lt hx25 (by omega)) (by omega) ls (lv_sub hl [0, 1, 2] rfl)
set_option maxHeartbeats 4000000 in
set_option maxRecDepth 100000 in
theorem ll_k_checkOf (l : Launch) {f : Nat} (hf : f < 2 ^ 31) : ll_Ms l yX1_checkOf wsX1_checkOf rmX1_checkOf [.int (nI f)] (nI (ll_crc f)) := by
  refine ll_ofWs (Nat.le_of_ble_eq_true rfl) (fun p e st m args below meth c X hr hlk ls hl => ?_)
  have hS : va_S (fun _ => False) st.heap st.heap [] := va_S.rf
  have hx := X.1
  have hb := X.2.1
  have hl : lv_has ls 3 [(0, .int (nI f))] := hl
  refine lv_iload_n hx hb dX1_checkOf_0 rfl (lv_at hl 0 rfl) ?_
  refine lv_ldc (v := nI 131071) hx hb X.2.2.2.1 (X.2.2.2.2 _ q104) dX1_checkOf_1 ?_
  refine nw_iand hx hb 131072 17 rfl rfl (by decide) dX1_checkOf_3 ?_
  refine nw_bipush hx hb 8 dX1_checkOf_4 (by decide) ?_
  refine nw_ishl hx hb (by omega) dX1_checkOf_6 ?_
  refine nw_as ((f % 131072) * 256) rfl ?_
  refine lv_istore_n (lv' := [(1, .int (nI ((f % 131072) * 256))), (0, .int (nI f))]) hx hb dX1_checkOf_7 rfl hl (by decide) rfl (fun ls hl => ?_)
  refine nw_bipush hx hb 24 dX1_checkOf_8 (by decide) ?_
  refine lv_istore_n (lv' := [(2, .int (nI 24)), (1, .int (nI ((f % 131072) * 256))), (0, .int (nI f))]) hx hb dX1_checkOf_10 rfl hl (by decide) rfl (fun ls hl => ?_)
  exact ll_l_checkOf X hr hlk hS 17 (f % 131072 * 256) (by omega) (by omega) ls hl
set_option maxHeartbeats 4000000 in
set_option maxRecDepth 100000 in
theorem ll_k_withCheck (l : Launch) {f : Nat} (hf : f < 2 ^ 31) : ll_Ms l yX1_withCheck wsX1_withCheck rmX1_withCheck [.int (nI f)] (nI (ll_wc f)) := by
  refine ll_ofWs (Nat.le_of_ble_eq_true rfl) (fun p e st m args below meth c X hr hlk ls hl => ?_)
  have hS : va_S (fun _ => False) st.heap st.heap [] := va_S.rf
  have hx := X.1
  have hb := X.2.1
  have hl : lv_has ls 2 [(0, .int (nI f))] := hl
  refine lv_iload_n hx hb dX1_withCheck_0 rfl (lv_at hl 0 rfl) ?_
  refine ll_callss X hS (ll_k_checkOf l hf) (cwX1_checkOf X.2.2.2.2 ⟨by decide, by decide⟩) rfl hl.1 rfl (Nat.le_of_ble_eq_true rfl) ⟨Nat.le_refl _, Nat.le_refl _⟩ dX1_withCheck_1 (fun H locs hS => ?_)
  refine lv_istore_n (lv' := [(1, .int (nI (ll_crc f))), (0, .int (nI f))]) hx hb dX1_withCheck_4 rfl hl (by decide) rfl (fun ls hl => ?_)
  refine lv_iload_n hx hb dX1_withCheck_5 rfl (lv_at hl 1 rfl) ?_
  refine lv_iload_n hx hb dX1_withCheck_6 rfl (lv_at hl 0 rfl) ?_
  refine nw_bipush hx hb 17 dX1_withCheck_7 (by decide) ?_
  refine nw_ishl hx hb (by omega) dX1_withCheck_9 ?_
  refine nw_as ((ll_crc f) * 131072) rfl ?_
  refine nw_ior hx hb dX1_withCheck_10 ?_
  exact ll_retsi X hr hlk hS rfl dX1_withCheck_11
set_option maxHeartbeats 4000000 in
set_option maxRecDepth 100000 in
theorem ll_k_sound (l : Launch) {f : Nat} (hf : f < 2 ^ 31) : ll_Ms l yX1_sound wsX1_sound rmX1_sound [.int (nI f)] (nI (ll_snd f)) := by
  refine ll_ofWs (Nat.le_of_ble_eq_true rfl) (fun p e st m args below meth c X hr hlk ls hl => ?_)
  have hS : va_S (fun _ => False) st.heap st.heap [] := va_S.rf
  have hx := X.1
  have hb := X.2.1
  have hl : lv_has ls 2 [(0, .int (nI f))] := hl
  refine lv_iload_n hx hb dX1_sound_0 rfl (lv_at hl 0 rfl) ?_
  refine ll_callss X hS (ll_k_checkOf l hf) (cwX1_checkOf X.2.2.2.2 ⟨by decide, by decide⟩) rfl hl.1 rfl (Nat.le_of_ble_eq_true rfl) ⟨Nat.le_refl _, Nat.le_refl _⟩ dX1_sound_1 (fun H locs hS => ?_)
  refine lv_istore_n (lv' := [(1, .int (nI (ll_crc f))), (0, .int (nI f))]) hx hb dX1_sound_4 rfl hl (by decide) rfl (fun ls hl => ?_)
  refine lv_iload_n hx hb dX1_sound_5 rfl (lv_at hl 0 rfl) ?_
  refine lv_iload_n hx hb dX1_sound_6 rfl (lv_at hl 1 rfl) ?_
  refine nw_bipush hx hb 17 dX1_sound_7 (by decide) ?_
  refine nw_ishr hx hb (by omega) (by omega) dX1_sound_9 ?_
  refine nw_as (f / 131072) rfl ?_
  refine nw_sipush hx hb 255 dX1_sound_10 (by decide) ?_
  refine nw_iand hx hb 256 8 rfl rfl (by decide) dX1_sound_13 ?_
  refine nw_icmp_ne (tgt := 21) hx hb (Nat.lt_trans (ll_crc_lt f) (by decide)) (by omega) dX1_sound_14 (by decide) (fun h_14 => ?_) (fun h_14 => ?_)
  · skip
    refine nw_iconst hx hb 0 dX1_sound_21 (by decide) ?_
    exact ll_retsz X hr hlk hS (by decide) (by unfold ll_snd; first | rw [if_pos h_14] | rw [if_neg h_14]) dX1_sound_22
  · skip
    refine nw_iconst hx hb 1 dX1_sound_17 (by decide) ?_
    refine lv_goto (tgt := 22) hx hb dX1_sound_18 (by decide) ?_
    exact ll_retsz X hr hlk hS (by decide) (by unfold ll_snd; first | rw [if_pos h_14] | rw [if_neg h_14]) dX1_sound_22
set_option maxHeartbeats 4000000 in
set_option maxRecDepth 100000 in
theorem ll_k_send (l : Launch) {σ : ll_St} (hok : ll_ok σ) {s k n b : Nat} (hs : s < 2) (hk : k < 4) (hn : n < 8) (hb5 : b < 512) : ll_Mv l yX1_send wsX1_send rmX1_send [.int (nI s), .int (nI k), .int (nI n), .int (nI b)] σ (ll_send s k n b σ) := by
  refine ll_ofWv (Nat.le_of_ble_eq_true rfl) (fun p e st m args below meth c D h ad cI cZ A X hr hlk Z ls hl => ?_)
  have hx := X.1
  have hb := X.2.1
  have hl : lv_has ls 6 [(0, .ref h), (1, .int (nI s)), (2, .int (nI k)), (3, .int (nI n)), (4, .int (nI b))] := hl
  have o6 : σ 6 s < 8 := hok.1 6 s (by decide) (by decide)
  have o13 : σ 13 s < 17 := hok.1 13 s (by decide) (by decide)
  refine lv_aload_n hx hb dX1_send_0 rfl (lv_at hl 0 rfl) ?_
  refine ll_g8 X Z dX1_send_1 ?_
  refine lv_iload_n hx hb dX1_send_4 rfl (lv_at hl 1 rfl) ?_
  refine nw_iconst hx hb 0 dX1_send_5 (by decide) ?_
  refine ll_st8 X Z (by omega) (by omega) dX1_send_6 (fun H locs Z => ?_)
  refine lv_aload_n hx hb dX1_send_7 rfl (lv_at hl 0 rfl) ?_
  refine ll_g13 X Z dX1_send_8 ?_
  refine lv_iload_n hx hb dX1_send_11 rfl (lv_at hl 1 rfl) ?_
  refine ll_ld13 X Z (by omega) dX1_send_12 ?_
  refine nw_as (σ 13 s) (by simp [ll_set]) ?_
  refine nw_bipush hx hb 16 dX1_send_13 (by decide) ?_
  refine nw_icmp_lt (tgt := 19) hx hb (by omega) (by omega) dX1_send_15 (by decide) (fun h_15 => ?_) (fun h_15 => ?_)
  · skip
    refine lv_iload_n hx hb dX1_send_19 rfl (lv_at hl 2 rfl) ?_
    refine lv_iload_n hx hb dX1_send_20 rfl (lv_at hl 3 rfl) ?_
    refine nw_iconst hx hb 2 dX1_send_21 (by decide) ?_
    refine nw_ishl hx hb (by omega) dX1_send_22 ?_
    refine nw_as (n * 4) rfl ?_
    refine nw_ior hx hb dX1_send_23 ?_
    refine lv_aload_n hx hb dX1_send_24 rfl (lv_at hl 0 rfl) ?_
    refine ll_g6 X Z dX1_send_25 ?_
    refine lv_iload_n hx hb dX1_send_28 rfl (lv_at hl 1 rfl) ?_
    refine ll_ld6 X Z (by omega) dX1_send_29 ?_
    refine nw_as (σ 6 s) (by simp [ll_set]) ?_
    refine nw_iconst hx hb 5 dX1_send_30 (by decide) ?_
    refine nw_ishl hx hb (by omega) dX1_send_31 ?_
    refine nw_as ((σ 6 s) * 32) rfl ?_
    refine nw_ior hx hb dX1_send_32 ?_
    refine lv_iload hx hb dX1_send_33 (lv_at hl 4 rfl) ?_
    refine nw_bipush hx hb 8 dX1_send_35 (by decide) ?_
    refine nw_ishl hx hb (by omega) dX1_send_37 ?_
    refine nw_as (b * 256) rfl ?_
    refine nw_ior hx hb dX1_send_38 ?_
    refine lv_istore (lv' := [(5, .int (nI (((k ||| (n * 4)) ||| ((σ 6 s) * 32)) ||| (b * 256)))), (0, .ref h), (1, .int (nI s)), (2, .int (nI k)), (3, .int (nI n)), (4, .int (nI b))]) hx hb dX1_send_39 hl (by decide) rfl (fun ls hl => ?_)
    refine lv_aload_n hx hb dX1_send_41 rfl (lv_at hl 1 rfl) ?_
    refine ll_g14 X Z dX1_send_42 ?_
    refine lv_iload_n hx hb dX1_send_45 rfl (lv_at hl 2 rfl) ?_
    refine nw_bipush hx hb 16 dX1_send_46 (by decide) ?_
    refine nw_imul hx hb dX1_send_48 ?_
    refine lv_aload_n hx hb dX1_send_49 rfl (lv_at hl 1 rfl) ?_
    refine ll_g13 X Z dX1_send_50 ?_
    refine lv_iload_n hx hb dX1_send_53 rfl (lv_at hl 2 rfl) ?_
    refine ll_ld13 X Z (by omega) dX1_send_54 ?_
    refine nw_as (σ 13 s) (by simp [ll_set]) ?_
    refine nw_iadd hx hb dX1_send_55 ?_
    refine lv_iload hx hb dX1_send_56 (lv_at hl 0 rfl) ?_
    refine ll_calls X Z (ll_k_withCheck l (f := ((k ||| (n * 4)) ||| (σ 6 s * 32)) ||| (b * 256)) (Nat.lt_trans (ll_fr_lt hk hn o6 hb5) (by decide))) (cwX1_withCheck X.2.2.2.2 ⟨by decide, by decide⟩) rfl hl.1 rfl (Nat.le_of_ble_eq_true rfl) ⟨Nat.le_refl _, Nat.le_refl _⟩ dX1_send_58 (fun H locs Z => ?_)
    refine ll_st14 X Z (by omega) dX1_send_61 (fun H locs Z => ?_)
    refine lv_aload_n hx hb dX1_send_62 rfl (lv_at hl 1 rfl) ?_
    refine ll_g13 X Z dX1_send_63 ?_
    refine lv_iload_n hx hb dX1_send_66 rfl (lv_at hl 2 rfl) ?_
    refine lv_dup2_11 hx hb dX1_send_67 rfl rfl ?_
    refine ll_ld13 X Z (by omega) dX1_send_68 ?_
    refine nw_as (σ 13 s) (by simp [ll_set]) ?_
    refine nw_iconst hx hb 1 dX1_send_69 (by decide) ?_
    refine nw_iadd hx hb dX1_send_70 ?_
    refine ll_st13 X Z (by omega) dX1_send_71 (fun H locs Z => ?_)
    exact ll_retv X hr hlk Z (by unfold ll_send; rw [if_pos h_15]) dX1_send_72
  · skip
    exact ll_retv X hr hlk Z (by unfold ll_send; rw [if_neg h_15]) dX1_send_18
end
section
theorem ll_send_o {s k n b : Nat} {σ : ll_St} {a i : Nat} (h8 : a ≠ 8) (h13 : a ≠ 13) (h14 : a ≠ 14) : ll_send s k n b σ a i = σ a i := by
  unfold ll_send
  split
  · rw [ll_c _ h13, ll_c _ h14, ll_c _ h8]
  · rw [ll_c _ h8]
theorem ll_sm_go {s n : Nat} {σ : ll_St} (h1 : σ 5 s < σ 0 0) (h2 : σ 5 s < σ 2 s) : ll_sm s (n + 1) σ = ll_sm s n (ll_smS s σ) := if_pos ⟨h1, h2⟩
theorem ll_sm_no {s n : Nat} {σ : ll_St} (h : ¬ (σ 5 s < σ 0 0 ∧ σ 5 s < σ 2 s)) : ll_sm s (n + 1) σ = σ := if_neg h
theorem ll_snd_le (f : Nat) : ll_snd f ≤ 1 := by
  unfold ll_snd
  split <;> omega
set_option maxHeartbeats 4000000 in
set_option maxRecDepth 100000 in
theorem ll_l_sendMore {p : Program} {l : Launch} {e : Env} {st : State} {m : MethodId} {args : Array Value} {below : List Frame} {meth : Method} {c : Code} {D : va_G} {h : Nat} {ad : Nat → Nat} {cI cZ : ClassId} {A : Nat → Prop} {s : Nat} (hs : s < 2) (X : ll_C p m c cX1_sendMore 4 st args) (hr : meth.sig.returnType = none) (hlk : meth.locks = false) : ∀ (n : Nat) (σ : ll_St), ll_ok σ → σ 0 0 ≤ σ 5 s + n → ∀ (H : Heap) (locs : List Loc), ll_Z D h ad cI cZ A st σ H locs → ∀ ls : Array Slot, lv_has ls 4 [(0, .ref h), (1, .int (nI s))] → W p l e rmX1_sendMore st m args below meth c H locs 0 0 (ll_Ev D h ad cI cZ A below args st (ll_sm s n σ)) (F0 m 0 ls []) := by
  have hx := X.1
  have hb := X.2.1
  intro n
  induction n with
  | zero =>
    intro σ hok hn H locs Z ls hl
    have o0 : σ 0 0 < 5 := hok.1 0 0 (by decide) (by decide)
    have o2 : σ 2 s < 65 := hok.1 2 s (by decide) (by decide)
    have o4 : σ 4 s < 8 := hok.1 4 s (by decide) (by decide)
    have o5 : σ 5 s < 5 := hok.1 5 s (by decide) (by decide)
    refine lv_aload_n hx hb dX1_sendMore_0 rfl (lv_at hl 0 rfl) ?_
    refine ll_g5 X Z dX1_sendMore_1 ?_
    refine lv_iload_n hx hb dX1_sendMore_4 rfl (lv_at hl 1 rfl) ?_
    refine ll_ld5 X Z (by omega) dX1_sendMore_5 ?_
    refine lv_aload_n hx hb dX1_sendMore_6 rfl (lv_at hl 0 rfl) ?_
    refine ll_g0 X Z dX1_sendMore_7 ?_
    refine nw_icmp_ge (tgt := 88) hx hb (by omega) (by omega) dX1_sendMore_10 (by decide) (fun h_10 => ?_) (fun h_10 => ?_)
    · skip
      exact ll_retv X hr hlk Z rfl dX1_sendMore_88
    · skip
      exact absurd (show σ 0 0 ≤ σ 5 s by omega) h_10
  | succ n ih =>
    intro σ hok hn H locs Z ls hl
    have o0 : σ 0 0 < 5 := hok.1 0 0 (by decide) (by decide)
    have o2 : σ 2 s < 65 := hok.1 2 s (by decide) (by decide)
    have o4 : σ 4 s < 8 := hok.1 4 s (by decide) (by decide)
    have o5 : σ 5 s < 5 := hok.1 5 s (by decide) (by decide)
    refine lv_aload_n hx hb dX1_sendMore_0 rfl (lv_at hl 0 rfl) ?_
    refine ll_g5 X Z dX1_sendMore_1 ?_
    refine lv_iload_n hx hb dX1_sendMore_4 rfl (lv_at hl 1 rfl) ?_
    refine ll_ld5 X Z (by omega) dX1_sendMore_5 ?_
    refine lv_aload_n hx hb dX1_sendMore_6 rfl (lv_at hl 0 rfl) ?_
    refine ll_g0 X Z dX1_sendMore_7 ?_
    refine nw_icmp_ge (tgt := 88) hx hb (by omega) (by omega) dX1_sendMore_10 (by decide) (fun h_10 => ?_) (fun h_10 => ?_)
    · skip
      exact ll_retv X hr hlk Z (ll_sm_no (by omega)).symm dX1_sendMore_88
    · skip
      refine lv_aload_n hx hb dX1_sendMore_13 rfl (lv_at hl 0 rfl) ?_
      refine ll_g5 X Z dX1_sendMore_14 ?_
      refine lv_iload_n hx hb dX1_sendMore_17 rfl (lv_at hl 1 rfl) ?_
      refine ll_ld5 X Z (by omega) dX1_sendMore_18 ?_
      refine lv_aload_n hx hb dX1_sendMore_19 rfl (lv_at hl 0 rfl) ?_
      refine ll_g2 X Z dX1_sendMore_20 ?_
      refine lv_iload_n hx hb dX1_sendMore_23 rfl (lv_at hl 1 rfl) ?_
      refine ll_ld2 X Z (by omega) dX1_sendMore_24 ?_
      refine nw_icmp_ge (tgt := 88) hx hb (by omega) (by omega) dX1_sendMore_25 (by decide) (fun h_25 => ?_) (fun h_25 => ?_)
      · skip
        exact ll_retv X hr hlk Z (ll_sm_no (by omega)).symm dX1_sendMore_88
      · skip
        refine lv_aload_n hx hb dX1_sendMore_28 rfl (lv_at hl 0 rfl) ?_
        refine ll_g5 X Z dX1_sendMore_29 ?_
        refine lv_iload_n hx hb dX1_sendMore_32 rfl (lv_at hl 1 rfl) ?_
        refine ll_ld5 X Z (by omega) dX1_sendMore_33 ?_
        refine lv_istore_n (lv' := [(2, .int (nI (σ 5 s))), (0, .ref h), (1, .int (nI s))]) hx hb dX1_sendMore_34 rfl hl (by decide) rfl (fun ls hl => ?_)
        refine lv_aload_n hx hb dX1_sendMore_35 rfl (lv_at hl 1 rfl) ?_
        refine ll_g3 X Z dX1_sendMore_36 ?_
        refine lv_iload_n hx hb dX1_sendMore_39 rfl (lv_at hl 2 rfl) ?_
        refine nw_bipush hx hb 32 dX1_sendMore_40 (by decide) ?_
        refine nw_imul hx hb dX1_sendMore_42 ?_
        refine lv_aload_n hx hb dX1_sendMore_43 rfl (lv_at hl 1 rfl) ?_
        refine ll_g1 X Z dX1_sendMore_44 ?_
        refine lv_iload_n hx hb dX1_sendMore_47 rfl (lv_at hl 2 rfl) ?_
        refine ll_ld1 X Z (by omega) dX1_sendMore_48 ?_
        refine lv_iload_n hx hb dX1_sendMore_49 rfl (lv_at hl 0 rfl) ?_
        refine nw_iadd hx hb dX1_sendMore_50 ?_
        refine nw_bipush hx hb 31 dX1_sendMore_51 (by decide) ?_
        refine nw_iand hx hb 32 5 rfl rfl (by decide) dX1_sendMore_53 ?_
        refine nw_iadd hx hb dX1_sendMore_54 ?_
        refine ll_ld3 X Z (by omega) dX1_sendMore_55 ?_
        refine lv_istore_n (lv' := [(3, .int (nI (σ 3 ((s * 32) + (((σ 1 s) + (σ 5 s)) % 32))))), (2, .int (nI (σ 5 s))), (0, .ref h), (1, .int (nI s))]) hx hb dX1_sendMore_56 rfl hl (by decide) rfl (fun ls hl => ?_)
        refine lv_aload_n hx hb dX1_sendMore_57 rfl (lv_at hl 2 rfl) ?_
        refine ll_g5 X Z dX1_sendMore_58 ?_
        refine lv_iload_n hx hb dX1_sendMore_61 rfl (lv_at hl 3 rfl) ?_
        refine lv_dup2_11 hx hb dX1_sendMore_62 rfl rfl ?_
        refine ll_ld5 X Z (by omega) dX1_sendMore_63 ?_
        refine nw_iconst hx hb 1 dX1_sendMore_64 (by decide) ?_
        refine nw_iadd hx hb dX1_sendMore_65 ?_
        refine ll_st5 X Z (by omega) dX1_sendMore_66 (fun H locs Z => ?_)
        refine lv_aload_n hx hb dX1_sendMore_67 rfl (lv_at hl 2 rfl) ?_
        refine lv_iload_n hx hb dX1_sendMore_68 rfl (lv_at hl 3 rfl) ?_
        refine nw_iconst hx hb 0 dX1_sendMore_69 (by decide) ?_
        refine lv_aload_n hx hb dX1_sendMore_70 rfl (lv_at hl 2 rfl) ?_
        refine ll_g4 X Z dX1_sendMore_71 ?_
        refine lv_iload_n hx hb dX1_sendMore_74 rfl (lv_at hl 3 rfl) ?_
        refine ll_ld4 X Z (by omega) dX1_sendMore_75 ?_
        refine nw_as (σ 4 s) (by simp [ll_set]) ?_
        refine lv_iload_n hx hb dX1_sendMore_76 rfl (lv_at hl 1 rfl) ?_
        refine nw_iadd hx hb dX1_sendMore_77 ?_
        refine nw_bipush hx hb 7 dX1_sendMore_78 (by decide) ?_
        refine nw_iand hx hb 8 3 rfl rfl (by decide) dX1_sendMore_80 ?_
        refine lv_iload_n hx hb dX1_sendMore_81 rfl (lv_at hl 0 rfl) ?_
        refine ll_callv X Z (ll_k_send l (σ := (ll_set σ 5 s (σ 5 s + 1))) (ll_ok_set hok (by decide) (fun _ _ => show σ 5 s + 1 < 5 by omega) (fun _ => by omega) (fun q => absurd q (by decide))) hs (k := 0) (n := (σ 4 s + σ 5 s) % 8) (b := σ 3 (s * 32 + (σ 1 s + σ 5 s) % 32)) (by decide) (Nat.mod_lt _ (by decide)) (hok.1 3 _ (by decide) (by decide))) (cwX1_send X.2.2.2.2 ⟨by decide, by decide⟩) rfl hl.1 rfl (Nat.le_of_ble_eq_true rfl) ⟨Nat.le_refl _, Nat.le_refl _⟩ dX1_sendMore_82 (fun H locs Z => ?_)
        refine lv_goto (tgt := 0) hx hb dX1_sendMore_85 (by decide) ?_
        rw [ll_sm_go (by omega) (by omega)]
        refine ih (ll_smS s σ) (ll_ok_smS hok (by omega) (by omega)) ?_ H locs Z ls (lv_sub hl [2, 3] rfl)
        have e0 : ll_smS s σ 0 0 = σ 0 0 := by unfold ll_smS; rw [ll_send_o (by decide) (by decide) (by decide), ll_c _ (by decide)]
        have e5 : ll_smS s σ 5 s = σ 5 s + 1 := by unfold ll_smS; rw [ll_send_o (by decide) (by decide) (by decide), ll_e]
        omega
set_option maxHeartbeats 4000000 in
set_option maxRecDepth 100000 in
theorem ll_k_sendMore (l : Launch) {σ : ll_St} (hok : ll_ok σ) {s : Nat} (hs : s < 2) : ll_Mv l yX1_sendMore wsX1_sendMore rmX1_sendMore [.int (nI s)] σ (ll_sm s 4 σ) := by
  refine ll_ofWv (Nat.le_of_ble_eq_true rfl) (fun p e st m args below meth c D h ad cI cZ A X hr hlk Z ls hl => ?_)
  have hx := X.1
  have hb := X.2.1
  have hl : lv_has ls 4 [(0, .ref h), (1, .int (nI s))] := hl
  have o0 : σ 0 0 < 5 := hok.1 0 0 (by decide) (by decide)
  have o5 : σ 5 s < 5 := hok.1 5 s (by decide) (by decide)
  exact ll_l_sendMore hs X hr hlk 4 σ hok (by omega) _ _ Z ls hl
set_option maxHeartbeats 4000000 in
set_option maxRecDepth 100000 in
theorem ll_k_goBack (l : Launch) {σ : ll_St} (hok : ll_ok σ) {s : Nat} (hs : s < 2) : ll_Mv l yX1_goBack wsX1_goBack rmX1_goBack [.int (nI s)] σ (ll_gb s σ) := by
  refine ll_ofWv (Nat.le_of_ble_eq_true rfl) (fun p e st m args below meth c D h ad cI cZ A X hr hlk Z ls hl => ?_)
  have hx := X.1
  have hb := X.2.1
  have hl : lv_has ls 2 [(0, .ref h), (1, .int (nI s))] := hl
  refine lv_aload_n hx hb dX1_goBack_0 rfl (lv_at hl 0 rfl) ?_
  refine ll_g5 X Z dX1_goBack_1 ?_
  refine lv_iload_n hx hb dX1_goBack_4 rfl (lv_at hl 1 rfl) ?_
  refine nw_iconst hx hb 0 dX1_goBack_5 (by decide) ?_
  refine ll_st5 X Z (by omega) dX1_goBack_6 (fun H locs Z => ?_)
  refine lv_aload_n hx hb dX1_goBack_7 rfl (lv_at hl 0 rfl) ?_
  refine lv_iload_n hx hb dX1_goBack_8 rfl (lv_at hl 1 rfl) ?_
  refine ll_callv X Z (ll_k_sendMore l (σ := ll_set σ 5 s 0) (ll_ok_5 hok) hs) (cwX1_sendMore X.2.2.2.2 ⟨by decide, by decide⟩) rfl hl.1 rfl (Nat.le_of_ble_eq_true rfl) ⟨Nat.le_refl _, Nat.le_refl _⟩ dX1_goBack_9 (fun H locs Z => ?_)
  exact ll_retv X hr hlk Z rfl dX1_goBack_12
set_option maxHeartbeats 4000000 in
set_option maxRecDepth 100000 in
theorem ll_k_confirm (l : Launch) {σ : ll_St} (hok : ll_ok σ) {s r : Nat} (hs : s < 2) (hr8 : r < 8) : ll_Mv l yX1_confirm wsX1_confirm rmX1_confirm [.int (nI s), .int (nI r)] σ (ll_cf s r σ) := by
  refine ll_ofWv (Nat.le_of_ble_eq_true rfl) (fun p e st m args below meth c D h ad cI cZ A X hr hlk Z ls hl => ?_)
  have hx := X.1
  have hb := X.2.1
  have hl : lv_has ls 4 [(0, .ref h), (1, .int (nI s)), (2, .int (nI r))] := hl
  have o1 : σ 1 s < 32 := hok.1 1 s (by decide) (by decide)
  have o2 : σ 2 s < 65 := hok.1 2 s (by decide) (by decide)
  have o4 : σ 4 s < 8 := hok.1 4 s (by decide) (by decide)
  have o5 : σ 5 s < 5 := hok.1 5 s (by decide) (by decide)
  have o52 := hok.2.2 s
  refine lv_iload_n hx hb dX1_confirm_0 rfl (lv_at hl 2 rfl) ?_
  refine lv_aload_n hx hb dX1_confirm_1 rfl (lv_at hl 0 rfl) ?_
  refine ll_g4 X Z dX1_confirm_2 ?_
  refine lv_iload_n hx hb dX1_confirm_5 rfl (lv_at hl 1 rfl) ?_
  refine ll_ld4 X Z (by omega) dX1_confirm_6 ?_
  refine lv_isub hx hb dX1_confirm_7 ?_
  refine nw_bipush hx hb 7 dX1_confirm_8 (by decide) ?_
  refine nw_iand8 hx hb (by omega) dX1_confirm_10 ?_
  refine lv_istore_n (lv' := [(3, .int (nI ((r + 8 - (σ 4 s)) % 8))), (0, .ref h), (1, .int (nI s)), (2, .int (nI r))]) hx hb dX1_confirm_11 rfl hl (by decide) rfl (fun ls hl => ?_)
  refine lv_iload_n hx hb dX1_confirm_12 rfl (lv_at hl 0 rfl) ?_
  refine lv_aload_n hx hb dX1_confirm_13 rfl (lv_at hl 1 rfl) ?_
  refine ll_g5 X Z dX1_confirm_14 ?_
  refine lv_iload_n hx hb dX1_confirm_17 rfl (lv_at hl 2 rfl) ?_
  refine ll_ld5 X Z (by omega) dX1_confirm_18 ?_
  refine nw_icmp_le (tgt := 23) hx hb (by omega) (by omega) dX1_confirm_19 (by decide) (fun h_19 => ?_) (fun h_19 => ?_)
  · skip
    refine lv_aload_n hx hb dX1_confirm_23 rfl (lv_at hl 1 rfl) ?_
    refine ll_g1 X Z dX1_confirm_24 ?_
    refine lv_iload_n hx hb dX1_confirm_27 rfl (lv_at hl 2 rfl) ?_
    refine lv_aload_n hx hb dX1_confirm_28 rfl (lv_at hl 1 rfl) ?_
    refine ll_g1 X Z dX1_confirm_29 ?_
    refine lv_iload_n hx hb dX1_confirm_32 rfl (lv_at hl 2 rfl) ?_
    refine ll_ld1 X Z (by omega) dX1_confirm_33 ?_
    refine lv_iload_n hx hb dX1_confirm_34 rfl (lv_at hl 0 rfl) ?_
    refine nw_iadd hx hb dX1_confirm_35 ?_
    refine nw_bipush hx hb 31 dX1_confirm_36 (by decide) ?_
    refine nw_iand hx hb 32 5 rfl rfl (by decide) dX1_confirm_38 ?_
    refine ll_st1 X Z (by omega) dX1_confirm_39 (fun H locs Z => ?_)
    refine lv_aload_n hx hb dX1_confirm_40 rfl (lv_at hl 1 rfl) ?_
    refine ll_g2 X Z dX1_confirm_41 ?_
    refine lv_iload_n hx hb dX1_confirm_44 rfl (lv_at hl 2 rfl) ?_
    refine lv_dup2_11 hx hb dX1_confirm_45 rfl rfl ?_
    refine ll_ld2 X Z (by omega) dX1_confirm_46 ?_
    refine nw_as (σ 2 s) (by simp [ll_set]) ?_
    refine lv_iload_n hx hb dX1_confirm_47 rfl (lv_at hl 0 rfl) ?_
    refine nw_isub hx hb (by omega) dX1_confirm_48 ?_
    refine ll_st2 X Z (by omega) dX1_confirm_49 (fun H locs Z => ?_)
    refine lv_aload_n hx hb dX1_confirm_50 rfl (lv_at hl 1 rfl) ?_
    refine ll_g5 X Z dX1_confirm_51 ?_
    refine lv_iload_n hx hb dX1_confirm_54 rfl (lv_at hl 2 rfl) ?_
    refine lv_dup2_11 hx hb dX1_confirm_55 rfl rfl ?_
    refine ll_ld5 X Z (by omega) dX1_confirm_56 ?_
    refine nw_as (σ 5 s) (by simp [ll_set]) ?_
    refine lv_iload_n hx hb dX1_confirm_57 rfl (lv_at hl 0 rfl) ?_
    refine nw_isub hx hb (by omega) dX1_confirm_58 ?_
    refine ll_st5 X Z (by omega) dX1_confirm_59 (fun H locs Z => ?_)
    refine lv_aload_n hx hb dX1_confirm_60 rfl (lv_at hl 1 rfl) ?_
    refine ll_g4 X Z dX1_confirm_61 ?_
    refine lv_iload_n hx hb dX1_confirm_64 rfl (lv_at hl 2 rfl) ?_
    refine lv_iload_n hx hb dX1_confirm_65 rfl (lv_at hl 3 rfl) ?_
    refine ll_st4 X Z (by omega) dX1_confirm_66 (fun H locs Z => ?_)
    exact ll_retv X hr hlk Z (by unfold ll_cf; rw [if_pos h_19]) dX1_confirm_67
  · skip
    exact ll_retv X hr hlk Z (by unfold ll_cf; rw [if_neg h_19]) dX1_confirm_22
set_option maxHeartbeats 4000000 in
set_option maxRecDepth 100000 in
theorem ll_k_accept (l : Launch) {σ : ll_St} {s b : Nat} (hs : s < 2) : ll_Mv l yX1_accept wsX1_accept rmX1_accept [.int (nI s), .int (nI b)] σ (ll_ac s b σ) := by
  refine ll_ofWv (Nat.le_of_ble_eq_true rfl) (fun p e st m args below meth c D h ad cI cZ A X hr hlk Z ls hl => ?_)
  have hx := X.1
  have hb := X.2.1
  have hl : lv_has ls 3 [(0, .ref h), (1, .int (nI s)), (2, .int (nI b))] := hl
  refine lv_aload_n hx hb dX1_accept_0 rfl (lv_at hl 0 rfl) ?_
  refine ll_g11 X Z dX1_accept_1 ?_
  refine lv_iload_n hx hb dX1_accept_4 rfl (lv_at hl 1 rfl) ?_
  refine nw_bipush hx hb 32 dX1_accept_5 (by decide) ?_
  refine nw_imul hx hb dX1_accept_7 ?_
  refine lv_aload_n hx hb dX1_accept_8 rfl (lv_at hl 0 rfl) ?_
  refine ll_g9 X Z dX1_accept_9 ?_
  refine lv_iload_n hx hb dX1_accept_12 rfl (lv_at hl 1 rfl) ?_
  refine ll_ld9 X Z (by omega) dX1_accept_13 ?_
  refine lv_aload_n hx hb dX1_accept_14 rfl (lv_at hl 0 rfl) ?_
  refine ll_g10 X Z dX1_accept_15 ?_
  refine lv_iload_n hx hb dX1_accept_18 rfl (lv_at hl 1 rfl) ?_
  refine ll_ld10 X Z (by omega) dX1_accept_19 ?_
  refine nw_iadd hx hb dX1_accept_20 ?_
  refine nw_bipush hx hb 31 dX1_accept_21 (by decide) ?_
  refine nw_iand hx hb 32 5 rfl rfl (by decide) dX1_accept_23 ?_
  refine nw_iadd hx hb dX1_accept_24 ?_
  refine lv_iload_n hx hb dX1_accept_25 rfl (lv_at hl 2 rfl) ?_
  refine ll_st11 X Z (by omega) dX1_accept_26 (fun H locs Z => ?_)
  refine lv_aload_n hx hb dX1_accept_27 rfl (lv_at hl 0 rfl) ?_
  refine ll_g10 X Z dX1_accept_28 ?_
  refine lv_iload_n hx hb dX1_accept_31 rfl (lv_at hl 1 rfl) ?_
  refine lv_dup2_11 hx hb dX1_accept_32 rfl rfl ?_
  refine ll_ld10 X Z (by omega) dX1_accept_33 ?_
  refine nw_as (σ 10 s) (by simp [ll_set]) ?_
  refine nw_iconst hx hb 1 dX1_accept_34 (by decide) ?_
  refine nw_iadd hx hb dX1_accept_35 ?_
  refine ll_st10 X Z (by omega) dX1_accept_36 (fun H locs Z => ?_)
  refine lv_aload_n hx hb dX1_accept_37 rfl (lv_at hl 0 rfl) ?_
  refine ll_g6 X Z dX1_accept_38 ?_
  refine lv_iload_n hx hb dX1_accept_41 rfl (lv_at hl 1 rfl) ?_
  refine lv_aload_n hx hb dX1_accept_42 rfl (lv_at hl 0 rfl) ?_
  refine ll_g6 X Z dX1_accept_43 ?_
  refine lv_iload_n hx hb dX1_accept_46 rfl (lv_at hl 1 rfl) ?_
  refine ll_ld6 X Z (by omega) dX1_accept_47 ?_
  refine nw_as (σ 6 s) (by simp [ll_set]) ?_
  refine nw_iconst hx hb 1 dX1_accept_48 (by decide) ?_
  refine nw_iadd hx hb dX1_accept_49 ?_
  refine nw_bipush hx hb 7 dX1_accept_50 (by decide) ?_
  refine nw_iand hx hb 8 3 rfl rfl (by decide) dX1_accept_52 ?_
  refine ll_st6 X Z (by omega) dX1_accept_53 (fun H locs Z => ?_)
  refine lv_aload_n hx hb dX1_accept_54 rfl (lv_at hl 0 rfl) ?_
  refine ll_g7 X Z dX1_accept_55 ?_
  refine lv_iload_n hx hb dX1_accept_58 rfl (lv_at hl 1 rfl) ?_
  refine nw_iconst hx hb 0 dX1_accept_59 (by decide) ?_
  refine ll_st7 X Z (by omega) (by omega) dX1_accept_60 (fun H locs Z => ?_)
  refine lv_aload_n hx hb dX1_accept_61 rfl (lv_at hl 0 rfl) ?_
  refine ll_g8 X Z dX1_accept_62 ?_
  refine lv_iload_n hx hb dX1_accept_65 rfl (lv_at hl 1 rfl) ?_
  refine nw_iconst hx hb 1 dX1_accept_66 (by decide) ?_
  refine ll_st8 X Z (by omega) (by omega) dX1_accept_67 (fun H locs Z => ?_)
  exact ll_retv X hr hlk Z rfl dX1_accept_68
set_option maxHeartbeats 4000000 in
set_option maxRecDepth 100000 in
theorem ll_k_receiveData (l : Launch) {σ : ll_St} (hok : ll_ok σ) {s n b : Nat} (hs : s < 2) (hb5 : b < 512) : ll_Mv l yX1_receiveData wsX1_receiveData rmX1_receiveData [.int (nI s), .int (nI n), .int (nI b)] σ (ll_rd s n b σ) := by
  refine ll_ofWv (Nat.le_of_ble_eq_true rfl) (fun p e st m args below meth c D h ad cI cZ A X hr hlk Z ls hl => ?_)
  have hx := X.1
  have hb := X.2.1
  have hl : lv_has ls 5 [(0, .ref h), (1, .int (nI s)), (2, .int (nI n)), (3, .int (nI b))] := hl
  have o6 : σ 6 s < 8 := hok.1 6 s (by decide) (by decide)
  have o7 : σ 7 s < 2 := hok.1 7 s (by decide) (by decide)
  refine lv_iload_n hx hb dX1_receiveData_0 rfl (lv_at hl 2 rfl) ?_
  refine lv_aload_n hx hb dX1_receiveData_1 rfl (lv_at hl 0 rfl) ?_
  refine ll_g6 X Z dX1_receiveData_2 ?_
  refine lv_iload_n hx hb dX1_receiveData_5 rfl (lv_at hl 1 rfl) ?_
  refine ll_ld6 X Z (by omega) dX1_receiveData_6 ?_
  refine lv_isub hx hb dX1_receiveData_7 ?_
  refine nw_bipush hx hb 7 dX1_receiveData_8 (by decide) ?_
  refine nw_iand8 hx hb (by omega) dX1_receiveData_10 ?_
  refine lv_istore (lv' := [(4, .int (nI ((n + 8 - (σ 6 s)) % 8))), (0, .ref h), (1, .int (nI s)), (2, .int (nI n)), (3, .int (nI b))]) hx hb dX1_receiveData_11 hl (by decide) rfl (fun ls hl => ?_)
  refine lv_iload hx hb dX1_receiveData_13 (lv_at hl 0 rfl) ?_
  refine nw_if_ne (tgt := 27) hx hb (by omega) dX1_receiveData_15 (by decide) (fun h_15 => ?_) (fun h_15 => ?_)
  · skip
    refine lv_iload hx hb dX1_receiveData_27 (lv_at hl 0 rfl) ?_
    refine nw_iconst hx hb 3 dX1_receiveData_29 (by decide) ?_
    refine nw_icmp_gt (tgt := 60) hx hb (by omega) (by omega) dX1_receiveData_30 (by decide) (fun h_30 => ?_) (fun h_30 => ?_)
    · skip
      refine lv_aload_n hx hb dX1_receiveData_60 rfl (lv_at hl 1 rfl) ?_
      refine ll_g8 X Z dX1_receiveData_61 ?_
      refine lv_iload_n hx hb dX1_receiveData_64 rfl (lv_at hl 2 rfl) ?_
      refine nw_iconst hx hb 1 dX1_receiveData_65 (by decide) ?_
      refine ll_st8 X Z (by omega) (by omega) dX1_receiveData_66 (fun H locs Z => ?_)
      exact ll_retv X hr hlk Z (by unfold ll_rd; rw [if_neg h_15, if_neg (by omega)]) dX1_receiveData_67
    · skip
      refine lv_aload_n hx hb dX1_receiveData_33 rfl (lv_at hl 1 rfl) ?_
      refine ll_g7 X Z dX1_receiveData_34 ?_
      refine lv_iload_n hx hb dX1_receiveData_37 rfl (lv_at hl 2 rfl) ?_
      refine ll_ld7 X Z (by omega) dX1_receiveData_38 ?_
      refine nw_if_ne (tgt := 60) hx hb (by omega) dX1_receiveData_39 (by decide) (fun h_39 => ?_) (fun h_39 => ?_)
      · skip
        refine lv_aload_n hx hb dX1_receiveData_60 rfl (lv_at hl 1 rfl) ?_
        refine ll_g8 X Z dX1_receiveData_61 ?_
        refine lv_iload_n hx hb dX1_receiveData_64 rfl (lv_at hl 2 rfl) ?_
        refine nw_iconst hx hb 1 dX1_receiveData_65 (by decide) ?_
        refine ll_st8 X Z (by omega) (by omega) dX1_receiveData_66 (fun H locs Z => ?_)
        exact ll_retv X hr hlk Z (by unfold ll_rd; rw [if_neg h_15, if_neg (by omega)]) dX1_receiveData_67
      · skip
        refine lv_aload_n hx hb dX1_receiveData_42 rfl (lv_at hl 1 rfl) ?_
        refine ll_g7 X Z dX1_receiveData_43 ?_
        refine lv_iload_n hx hb dX1_receiveData_46 rfl (lv_at hl 2 rfl) ?_
        refine nw_iconst hx hb 1 dX1_receiveData_47 (by decide) ?_
        refine ll_st7 X Z (by omega) (by omega) dX1_receiveData_48 (fun H locs Z => ?_)
        refine lv_aload_n hx hb dX1_receiveData_49 rfl (lv_at hl 1 rfl) ?_
        refine lv_iload_n hx hb dX1_receiveData_50 rfl (lv_at hl 2 rfl) ?_
        refine nw_iconst hx hb 2 dX1_receiveData_51 (by decide) ?_
        refine nw_iconst hx hb 0 dX1_receiveData_52 (by decide) ?_
        refine nw_iconst hx hb 0 dX1_receiveData_53 (by decide) ?_
        refine ll_callv X Z (ll_k_send l (σ := ll_set σ 7 s 1) (k := 2) (n := 0) (b := 0) (ll_ok_set' hok (by decide) (fun _ _ => by decide)) hs (by decide) (by decide) (by decide)) (cwX1_send X.2.2.2.2 ⟨by decide, by decide⟩) rfl hl.1 rfl (Nat.le_of_ble_eq_true rfl) ⟨Nat.le_refl _, Nat.le_refl _⟩ dX1_receiveData_54 (fun H locs Z => ?_)
        refine lv_goto (tgt := 67) hx hb dX1_receiveData_57 (by decide) ?_
        exact ll_retv X hr hlk Z (by unfold ll_rd; rw [if_neg h_15, if_pos ⟨by omega, h_39⟩]) dX1_receiveData_67
  · skip
    refine lv_aload_n hx hb dX1_receiveData_18 rfl (lv_at hl 1 rfl) ?_
    refine lv_iload_n hx hb dX1_receiveData_19 rfl (lv_at hl 2 rfl) ?_
    refine lv_iload_n hx hb dX1_receiveData_20 rfl (lv_at hl 4 rfl) ?_
    refine ll_callv X Z (ll_k_accept l hs) (cwX1_accept X.2.2.2.2 ⟨by decide, by decide⟩) rfl hl.1 rfl (Nat.le_of_ble_eq_true rfl) ⟨Nat.le_refl _, Nat.le_refl _⟩ dX1_receiveData_21 (fun H locs Z => ?_)
    refine lv_goto (tgt := 67) hx hb dX1_receiveData_24 (by decide) ?_
    exact ll_retv X hr hlk Z (by unfold ll_rd; rw [if_pos h_15]) dX1_receiveData_67
set_option maxHeartbeats 4000000 in
set_option maxRecDepth 100000 in
theorem ll_k_arrive (l : Launch) {σ : ll_St} (hok : ll_ok σ) {s f : Nat} (hs : s < 2) (hf : f < 33554432) : ll_Mv l yX1_arrive wsX1_arrive rmX1_arrive [.int (nI s), .int (nI f)] σ (ll_ar s f σ) := by
  refine ll_ofWv (Nat.le_of_ble_eq_true rfl) (fun p e st m args below meth c D h ad cI cZ A X hr hlk Z ls hl => ?_)
  have hx := X.1
  have hb := X.2.1
  have hl : lv_has ls 5 [(0, .ref h), (1, .int (nI s)), (2, .int (nI f))] := hl
  have hsl := ll_snd_le f
  refine lv_iload_n hx hb dX1_arrive_0 rfl (lv_at hl 2 rfl) ?_
  refine ll_calls X Z (ll_k_sound l (f := f) (by omega)) (cwX1_sound X.2.2.2.2 ⟨by decide, by decide⟩) rfl hl.1 rfl (Nat.le_of_ble_eq_true rfl) ⟨Nat.le_refl _, Nat.le_refl _⟩ dX1_arrive_1 (fun H locs Z => ?_)
  refine lv_istore_n (lv' := [(3, .int (nI (ll_snd f))), (0, .ref h), (1, .int (nI s)), (2, .int (nI f))]) hx hb dX1_arrive_4 rfl hl (by decide) rfl (fun ls hl => ?_)
  refine lv_iload_n hx hb dX1_arrive_5 rfl (lv_at hl 0 rfl) ?_
  refine nw_if_ne (tgt := 10) hx hb (by omega) dX1_arrive_6 (by decide) (fun h_6 => ?_) (fun h_6 => ?_)
  · skip
    refine lv_iload_n hx hb dX1_arrive_10 rfl (lv_at hl 3 rfl) ?_
    refine nw_iconst hx hb 3 dX1_arrive_11 (by decide) ?_
    refine nw_iand hx hb 4 2 rfl rfl (by decide) dX1_arrive_12 ?_
    refine lv_istore (lv' := [(4, .int (nI (f % 4))), (3, .int (nI (ll_snd f))), (0, .ref h), (1, .int (nI s)), (2, .int (nI f))]) hx hb dX1_arrive_13 hl (by decide) rfl (fun ls hl => ?_)
    refine lv_aload_n hx hb dX1_arrive_15 rfl (lv_at hl 2 rfl) ?_
    refine lv_iload_n hx hb dX1_arrive_16 rfl (lv_at hl 3 rfl) ?_
    refine lv_iload_n hx hb dX1_arrive_17 rfl (lv_at hl 4 rfl) ?_
    refine nw_iconst hx hb 5 dX1_arrive_18 (by decide) ?_
    refine nw_ishr hx hb (by omega) (by omega) dX1_arrive_19 ?_
    refine nw_as (f / 32) rfl ?_
    refine nw_bipush hx hb 7 dX1_arrive_20 (by decide) ?_
    refine nw_iand hx hb 8 3 rfl rfl (by decide) dX1_arrive_22 ?_
    refine ll_callv X Z (ll_k_confirm l hok (r := f / 32 % 8) hs (Nat.mod_lt _ (by decide))) (cwX1_confirm X.2.2.2.2 ⟨by decide, by decide⟩) rfl hl.1 rfl (Nat.le_of_ble_eq_true rfl) ⟨Nat.le_refl _, Nat.le_refl _⟩ dX1_arrive_23 (fun H locs Z => ?_)
    refine lv_iload hx hb dX1_arrive_26 (lv_at hl 0 rfl) ?_
    refine nw_if_ne (tgt := 50) hx hb (by omega) dX1_arrive_28 (by decide) (fun h_28 => ?_) (fun h_28 => ?_)
    · skip
      refine lv_iload hx hb dX1_arrive_50 (lv_at hl 0 rfl) ?_
      refine nw_iconst hx hb 2 dX1_arrive_52 (by decide) ?_
      refine nw_icmp_ne (tgt := 64) hx hb (by omega) (by omega) dX1_arrive_53 (by decide) (fun h_53 => ?_) (fun h_53 => ?_)
      · skip
        refine lv_aload_n hx hb dX1_arrive_64 rfl (lv_at hl 2 rfl) ?_
        refine lv_iload_n hx hb dX1_arrive_65 rfl (lv_at hl 3 rfl) ?_
        refine ll_callv X Z (ll_k_sendMore l (ll_ok_cf hok (Nat.mod_lt _ (by decide))) hs) (cwX1_sendMore X.2.2.2.2 ⟨by decide, by decide⟩) rfl hl.1 rfl (Nat.le_of_ble_eq_true rfl) ⟨Nat.le_refl _, Nat.le_refl _⟩ dX1_arrive_66 (fun H locs Z => ?_)
        exact ll_retv X hr hlk Z (by unfold ll_ar; rw [if_neg h_6, if_neg h_53]; unfold ll_ar2; rw [if_neg h_28]) dX1_arrive_69
      · skip
        refine lv_aload_n hx hb dX1_arrive_56 rfl (lv_at hl 2 rfl) ?_
        refine lv_iload_n hx hb dX1_arrive_57 rfl (lv_at hl 3 rfl) ?_
        refine ll_callv X Z (ll_k_goBack l (ll_ok_cf hok (Nat.mod_lt _ (by decide))) hs) (cwX1_goBack X.2.2.2.2 ⟨by decide, by decide⟩) rfl hl.1 rfl (Nat.le_of_ble_eq_true rfl) ⟨Nat.le_refl _, Nat.le_refl _⟩ dX1_arrive_58 (fun H locs Z => ?_)
        refine lv_goto (tgt := 69) hx hb dX1_arrive_61 (by decide) ?_
        exact ll_retv X hr hlk Z (by unfold ll_ar; rw [if_neg h_6, if_pos h_53]; unfold ll_ar2; rw [if_neg h_28]) dX1_arrive_69
    · skip
      refine lv_aload_n hx hb dX1_arrive_31 rfl (lv_at hl 2 rfl) ?_
      refine lv_iload_n hx hb dX1_arrive_32 rfl (lv_at hl 3 rfl) ?_
      refine lv_iload_n hx hb dX1_arrive_33 rfl (lv_at hl 4 rfl) ?_
      refine nw_iconst hx hb 2 dX1_arrive_34 (by decide) ?_
      refine nw_ishr hx hb (by omega) (by omega) dX1_arrive_35 ?_
      refine nw_as (f / 4) rfl ?_
      refine nw_bipush hx hb 7 dX1_arrive_36 (by decide) ?_
      refine nw_iand hx hb 8 3 rfl rfl (by decide) dX1_arrive_38 ?_
      refine lv_iload_n hx hb dX1_arrive_39 rfl (lv_at hl 4 rfl) ?_
      refine nw_bipush hx hb 8 dX1_arrive_40 (by decide) ?_
      refine nw_ishr hx hb (by omega) (by omega) dX1_arrive_42 ?_
      refine nw_as (f / 256) rfl ?_
      refine nw_sipush hx hb 511 dX1_arrive_43 (by decide) ?_
      refine nw_iand hx hb 512 9 rfl rfl (by decide) dX1_arrive_46 ?_
      refine ll_callv X Z (ll_k_receiveData l (ll_ok_cf hok (Nat.mod_lt _ (by decide))) (n := f / 4 % 8) (b := f / 256 % 512) hs (Nat.mod_lt _ (by decide))) (cwX1_receiveData X.2.2.2.2 ⟨by decide, by decide⟩) rfl hl.1 rfl (Nat.le_of_ble_eq_true rfl) ⟨Nat.le_refl _, Nat.le_refl _⟩ dX1_arrive_47 (fun H locs Z => ?_)
      refine lv_iload hx hb dX1_arrive_50 (lv_at hl 0 rfl) ?_
      refine nw_iconst hx hb 2 dX1_arrive_52 (by decide) ?_
      refine nw_icmp_ne (tgt := 64) hx hb (by omega) (by omega) dX1_arrive_53 (by decide) (fun h_53 => ?_) (fun h_53 => ?_)
      · skip
        refine lv_aload_n hx hb dX1_arrive_64 rfl (lv_at hl 2 rfl) ?_
        refine lv_iload_n hx hb dX1_arrive_65 rfl (lv_at hl 3 rfl) ?_
        refine ll_callv X Z (ll_k_sendMore l (ll_ok_rd (ll_ok_cf hok (Nat.mod_lt _ (by decide))) (Nat.mod_lt _ (by decide))) hs) (cwX1_sendMore X.2.2.2.2 ⟨by decide, by decide⟩) rfl hl.1 rfl (Nat.le_of_ble_eq_true rfl) ⟨Nat.le_refl _, Nat.le_refl _⟩ dX1_arrive_66 (fun H locs Z => ?_)
        exact ll_retv X hr hlk Z (by unfold ll_ar; rw [if_neg h_6, if_neg h_53]; unfold ll_ar2; rw [if_pos h_28]) dX1_arrive_69
      · skip
        refine lv_aload_n hx hb dX1_arrive_56 rfl (lv_at hl 2 rfl) ?_
        refine lv_iload_n hx hb dX1_arrive_57 rfl (lv_at hl 3 rfl) ?_
        refine ll_callv X Z (ll_k_goBack l (ll_ok_rd (ll_ok_cf hok (Nat.mod_lt _ (by decide))) (Nat.mod_lt _ (by decide))) hs) (cwX1_goBack X.2.2.2.2 ⟨by decide, by decide⟩) rfl hl.1 rfl (Nat.le_of_ble_eq_true rfl) ⟨Nat.le_refl _, Nat.le_refl _⟩ dX1_arrive_58 (fun H locs Z => ?_)
        refine lv_goto (tgt := 69) hx hb dX1_arrive_61 (by decide) ?_
        exact ll_retv X hr hlk Z (by unfold ll_ar; rw [if_neg h_6, if_pos h_53]; unfold ll_ar2; rw [if_pos h_28]) dX1_arrive_69
  · skip
    exact ll_retv X hr hlk Z (by unfold ll_ar; rw [if_pos h_6]) dX1_arrive_9
end
section
set_option maxHeartbeats 4000000 in
set_option maxRecDepth 100000 in
theorem ll_l_takeFrame {p : Program} {l : Launch} {e : Env} {st : State} {m : MethodId} {args : Array Value} {below : List Frame} {meth : Method} {c : Code} {D : va_G} {h : Nat} {ad : Nat → Nat} {cI cZ : ClassId} {A : Nat → Prop} {s f0 : Nat} (hs : s < 2) (X : ll_C p m c cX1_takeFrame 4 st args) (hr : meth.sig.returnType = some .int) (hlk : meth.locks = false) : ∀ (n i : Nat) (σ : ll_St), σ 13 s = i + n → σ 13 s ≤ 15 → ∀ (H : Heap) (locs : List Loc), ll_Z D h ad cI cZ A st σ H locs → ∀ ls : Array Slot, lv_has ls 4 [(3, .int (nI i)), (2, .int (nI f0)), (0, .ref h), (1, .int (nI s))] → W p l e rmX1_takeFrame st m args below meth c H locs 0 0 (ll_Ei D h ad cI cZ A below args st (ll_tfL s n i σ) (nI f0)) (F0 m 22 ls []) := by
  have hx := X.1
  have hb := X.2.1
  intro n
  induction n with
  | zero =>
    intro i σ hn h15 H locs Z ls hl
    refine lv_iload_n hx hb dX1_takeFrame_22 rfl (lv_at hl 0 rfl) ?_
    refine lv_aload_n hx hb dX1_takeFrame_23 rfl (lv_at hl 2 rfl) ?_
    refine ll_g13 X Z dX1_takeFrame_24 ?_
    refine lv_iload_n hx hb dX1_takeFrame_27 rfl (lv_at hl 3 rfl) ?_
    refine ll_ld13 X Z (by omega) dX1_takeFrame_28 ?_
    refine nw_icmp_ge (tgt := 62) hx hb (by omega) (by omega) dX1_takeFrame_29 (by decide) (fun h_29 => ?_) (fun h_29 => ?_)
    · skip
      refine lv_iload_n hx hb dX1_takeFrame_62 rfl (lv_at hl 1 rfl) ?_
      exact ll_reti X hr hlk Z rfl rfl dX1_takeFrame_63
    · skip
      exact absurd (show σ 13 s ≤ i by omega) h_29
  | succ n ih =>
    intro i σ hn h15 H locs Z ls hl
    refine lv_iload_n hx hb dX1_takeFrame_22 rfl (lv_at hl 0 rfl) ?_
    refine lv_aload_n hx hb dX1_takeFrame_23 rfl (lv_at hl 2 rfl) ?_
    refine ll_g13 X Z dX1_takeFrame_24 ?_
    refine lv_iload_n hx hb dX1_takeFrame_27 rfl (lv_at hl 3 rfl) ?_
    refine ll_ld13 X Z (by omega) dX1_takeFrame_28 ?_
    refine nw_icmp_ge (tgt := 62) hx hb (by omega) (by omega) dX1_takeFrame_29 (by decide) (fun h_29 => ?_) (fun h_29 => ?_)
    · skip
      exact absurd h_29 (by omega)
    · skip
      refine lv_aload_n hx hb dX1_takeFrame_32 rfl (lv_at hl 2 rfl) ?_
      refine ll_g14 X Z dX1_takeFrame_33 ?_
      refine lv_iload_n hx hb dX1_takeFrame_36 rfl (lv_at hl 3 rfl) ?_
      refine nw_bipush hx hb 16 dX1_takeFrame_37 (by decide) ?_
      refine nw_imul hx hb dX1_takeFrame_39 ?_
      refine lv_iload_n hx hb dX1_takeFrame_40 rfl (lv_at hl 0 rfl) ?_
      refine nw_iadd hx hb dX1_takeFrame_41 ?_
      refine lv_aload_n hx hb dX1_takeFrame_42 rfl (lv_at hl 2 rfl) ?_
      refine ll_g14 X Z dX1_takeFrame_43 ?_
      refine lv_iload_n hx hb dX1_takeFrame_46 rfl (lv_at hl 3 rfl) ?_
      refine nw_bipush hx hb 16 dX1_takeFrame_47 (by decide) ?_
      refine nw_imul hx hb dX1_takeFrame_49 ?_
      refine lv_iload_n hx hb dX1_takeFrame_50 rfl (lv_at hl 0 rfl) ?_
      refine nw_iadd hx hb dX1_takeFrame_51 ?_
      refine nw_iconst hx hb 1 dX1_takeFrame_52 (by decide) ?_
      refine nw_iadd hx hb dX1_takeFrame_53 ?_
      refine ll_ld14 X Z (by omega) dX1_takeFrame_54 ?_
      refine ll_st14 X Z (by omega) dX1_takeFrame_55 (fun H locs Z => ?_)
      refine lv_iinc (v := (nI (i + 1))) (lv' := [(3, .int (nI (i + 1))), (2, .int (nI f0)), (0, .ref h), (1, .int (nI s))]) hx hb dX1_takeFrame_56 hl (k := 0) rfl (nI_1 _) (by decide) rfl (fun ls hl => ?_)
      refine lv_goto (tgt := 22) hx hb dX1_takeFrame_59 (by decide) ?_
      exact ih (i + 1) _ (by rw [ll_c _ (by decide)]; omega) (by rw [ll_c _ (by decide)]; exact h15) H locs Z ls (lv_sub hl [0, 1, 2, 3] rfl)
set_option maxHeartbeats 4000000 in
set_option maxRecDepth 100000 in
theorem ll_k_takeFrame (l : Launch) {σ : ll_St} (hok : ll_ok σ) {s : Nat} (hs : s < 2) (hfr : 1 ≤ σ 13 s) : ll_Mi l yX1_takeFrame wsX1_takeFrame rmX1_takeFrame [.int (nI s)] σ (ll_tf s σ) (nI (σ 14 (s * 16))) := by
  refine ll_ofWi (Nat.le_of_ble_eq_true rfl) (fun p e st m args below meth c D h ad cI cZ A X hr hlk Z ls hl => ?_)
  have hx := X.1
  have hb := X.2.1
  have hl : lv_has ls 4 [(0, .ref h), (1, .int (nI s))] := hl
  have o13 : σ 13 s < 17 := hok.1 13 s (by decide) (by decide)
  refine lv_aload_n hx hb dX1_takeFrame_0 rfl (lv_at hl 0 rfl) ?_
  refine ll_g14 X Z dX1_takeFrame_1 ?_
  refine lv_iload_n hx hb dX1_takeFrame_4 rfl (lv_at hl 1 rfl) ?_
  refine nw_bipush hx hb 16 dX1_takeFrame_5 (by decide) ?_
  refine nw_imul hx hb dX1_takeFrame_7 ?_
  refine ll_ld14 X Z (by omega) dX1_takeFrame_8 ?_
  refine lv_istore_n (lv' := [(2, .int (nI (σ 14 (s * 16)))), (0, .ref h), (1, .int (nI s))]) hx hb dX1_takeFrame_9 rfl hl (by decide) rfl (fun ls hl => ?_)
  refine lv_aload_n hx hb dX1_takeFrame_10 rfl (lv_at hl 1 rfl) ?_
  refine ll_g13 X Z dX1_takeFrame_11 ?_
  refine lv_iload_n hx hb dX1_takeFrame_14 rfl (lv_at hl 2 rfl) ?_
  refine lv_dup2_11 hx hb dX1_takeFrame_15 rfl rfl ?_
  refine ll_ld13 X Z (by omega) dX1_takeFrame_16 ?_
  refine nw_iconst hx hb 1 dX1_takeFrame_17 (by decide) ?_
  refine nw_isub hx hb (by omega) dX1_takeFrame_18 ?_
  refine ll_st13 X Z (by omega) dX1_takeFrame_19 (fun H locs Z => ?_)
  refine nw_iconst hx hb 0 dX1_takeFrame_20 (by decide) ?_
  refine lv_istore_n (lv' := [(3, .int (nI 0)), (2, .int (nI (σ 14 (s * 16)))), (0, .ref h), (1, .int (nI s))]) hx hb dX1_takeFrame_21 rfl hl (by decide) rfl (fun ls hl => ?_)
  exact ll_l_takeFrame hs X hr hlk (σ 13 s - 1) 0 _ (by rw [ll_e]; omega) (by rw [ll_e]; omega) H locs Z ls (lv_sub hl [0, 1, 2, 3] rfl)
set_option maxHeartbeats 4000000 in
set_option maxRecDepth 100000 in
theorem ll_k_payDebt (l : Launch) {σ : ll_St} (hok : ll_ok σ) {s : Nat} (hs : s < 2) : ll_Mv l yX1_payDebt wsX1_payDebt rmX1_payDebt [.int (nI s)] σ (ll_pd s σ) := by
  refine ll_ofWv (Nat.le_of_ble_eq_true rfl) (fun p e st m args below meth c D h ad cI cZ A X hr hlk Z ls hl => ?_)
  have hx := X.1
  have hb := X.2.1
  have hl : lv_has ls 2 [(0, .ref h), (1, .int (nI s))] := hl
  have o8 : σ 8 s < 2 := hok.1 8 s (by decide) (by decide)
  refine lv_aload_n hx hb dX1_payDebt_0 rfl (lv_at hl 0 rfl) ?_
  refine ll_g8 X Z dX1_payDebt_1 ?_
  refine lv_iload_n hx hb dX1_payDebt_4 rfl (lv_at hl 1 rfl) ?_
  refine ll_ld8 X Z (by omega) dX1_payDebt_5 ?_
  refine nw_if_eq (tgt := 17) hx hb (by omega) dX1_payDebt_6 (by decide) (fun h_6 => ?_) (fun h_6 => ?_)
  · skip
    exact ll_retv X hr hlk Z (by unfold ll_pd; rw [if_pos h_6]) dX1_payDebt_17
  · skip
    refine lv_aload_n hx hb dX1_payDebt_9 rfl (lv_at hl 0 rfl) ?_
    refine lv_iload_n hx hb dX1_payDebt_10 rfl (lv_at hl 1 rfl) ?_
    refine nw_iconst hx hb 1 dX1_payDebt_11 (by decide) ?_
    refine nw_iconst hx hb 0 dX1_payDebt_12 (by decide) ?_
    refine nw_iconst hx hb 0 dX1_payDebt_13 (by decide) ?_
    refine ll_callv X Z (ll_k_send l (k := 1) (n := 0) (b := 0) hok hs (by decide) (by decide) (by decide)) (cwX1_send X.2.2.2.2 ⟨by decide, by decide⟩) rfl hl.1 rfl (Nat.le_of_ble_eq_true rfl) ⟨Nat.le_refl _, Nat.le_refl _⟩ dX1_payDebt_14 (fun H locs Z => ?_)
    exact ll_retv X hr hlk Z (by unfold ll_pd; rw [if_neg h_6]) dX1_payDebt_17
set_option maxHeartbeats 4000000 in
set_option maxRecDepth 100000 in
theorem ll_k_carryOne (l : Launch) {σ : ll_St} (hok : ll_ok σ) {s : Nat} (hs : s < 2) (hfr : 1 ≤ σ 13 s) : ll_Mv l yX1_carryOne wsX1_carryOne rmX1_carryOne [.int (nI s)] σ (ll_co s σ) := by
  refine ll_ofWv (Nat.le_of_ble_eq_true rfl) (fun p e st m args below meth c D h ad cI cZ A X hr hlk Z ls hl => ?_)
  have hx := X.1
  have hb := X.2.1
  have hl : lv_has ls 3 [(0, .ref h), (1, .int (nI s))] := hl
  refine lv_aload_n hx hb dX1_carryOne_0 rfl (lv_at hl 0 rfl) ?_
  refine lv_iload_n hx hb dX1_carryOne_1 rfl (lv_at hl 1 rfl) ?_
  refine ll_calli X Z (ll_k_takeFrame l hok hs hfr) (cwX1_takeFrame X.2.2.2.2 ⟨by decide, by decide⟩) rfl hl.1 rfl (Nat.le_of_ble_eq_true rfl) ⟨Nat.le_refl _, Nat.le_refl _⟩ dX1_carryOne_2 (fun H locs Z => ?_)
  refine lv_istore_n (lv' := [(2, .int (nI (σ 14 (s * 16)))), (0, .ref h), (1, .int (nI s))]) hx hb dX1_carryOne_5 rfl hl (by decide) rfl (fun ls hl => ?_)
  refine lv_aload_n hx hb dX1_carryOne_6 rfl (lv_at hl 1 rfl) ?_
  refine nw_iconst hx hb 1 dX1_carryOne_7 (by decide) ?_
  refine lv_iload_n hx hb dX1_carryOne_8 rfl (lv_at hl 2 rfl) ?_
  refine nw_isub hx hb (by omega) dX1_carryOne_9 ?_
  refine lv_iload_n hx hb dX1_carryOne_10 rfl (lv_at hl 0 rfl) ?_
  refine ll_callv X Z (ll_k_arrive l (s := 1 - s) (f := σ 14 (s * 16)) (ll_ok_tf hok) (by omega) (hok.1 14 _ (by decide) (by decide))) (cwX1_arrive X.2.2.2.2 ⟨by decide, by decide⟩) rfl hl.1 rfl (Nat.le_of_ble_eq_true rfl) ⟨Nat.le_refl _, Nat.le_refl _⟩ dX1_carryOne_11 (fun H locs Z => ?_)
  refine lv_aload_n hx hb dX1_carryOne_14 rfl (lv_at hl 1 rfl) ?_
  refine nw_iconst hx hb 1 dX1_carryOne_15 (by decide) ?_
  refine lv_iload_n hx hb dX1_carryOne_16 rfl (lv_at hl 2 rfl) ?_
  refine nw_isub hx hb (by omega) dX1_carryOne_17 ?_
  refine ll_callv X Z (ll_k_payDebt l (s := 1 - s) (ll_ok_ar (ll_ok_tf hok)) (by omega)) (cwX1_payDebt X.2.2.2.2 ⟨by decide, by decide⟩) rfl hl.1 rfl (Nat.le_of_ble_eq_true rfl) ⟨Nat.le_refl _, Nat.le_refl _⟩ dX1_carryOne_18 (fun H locs Z => ?_)
  exact ll_retv X hr hlk Z rfl dX1_carryOne_21
set_option maxHeartbeats 4000000 in
set_option maxRecDepth 100000 in
theorem ll_k_busy (l : Launch) {σ : ll_St} (hok : ll_ok σ) : ll_Mi l yX1_busy wsX1_busy rmX1_busy [] σ σ (nI (if σ 2 0 + σ 2 1 = 0 then 0 else 1)) := by
  refine ll_ofWi (Nat.le_of_ble_eq_true rfl) (fun p e st m args below meth c D h ad cI cZ A X hr hlk Z ls hl => ?_)
  have hx := X.1
  have hb := X.2.1
  have hl : lv_has ls 1 [(0, .ref h)] := hl
  have o20 : σ 2 0 < 65 := hok.1 2 0 (by decide) (by decide)
  have o21 : σ 2 1 < 65 := hok.1 2 1 (by decide) (by decide)
  refine lv_aload_n hx hb dX1_busy_0 rfl (lv_at hl 0 rfl) ?_
  refine ll_g2 X Z dX1_busy_1 ?_
  refine nw_iconst hx hb 0 dX1_busy_4 (by decide) ?_
  refine ll_ld2 X Z (by omega) dX1_busy_5 ?_
  refine lv_aload_n hx hb dX1_busy_6 rfl (lv_at hl 0 rfl) ?_
  refine ll_g2 X Z dX1_busy_7 ?_
  refine nw_iconst hx hb 1 dX1_busy_10 (by decide) ?_
  refine ll_ld2 X Z (by omega) dX1_busy_11 ?_
  refine nw_iadd hx hb dX1_busy_12 ?_
  refine nw_if_le (tgt := 20) hx hb (by omega) dX1_busy_13 (by decide) (fun h_13 => ?_) (fun h_13 => ?_)
  · skip
    refine nw_iconst hx hb 0 dX1_busy_20 (by decide) ?_
    exact ll_retz X hr hlk Z rfl (by decide) (by rw [if_pos h_13]) dX1_busy_21
  · skip
    refine nw_iconst hx hb 1 dX1_busy_16 (by decide) ?_
    refine lv_goto (tgt := 21) hx hb dX1_busy_17 (by decide) ?_
    exact ll_retz X hr hlk Z rfl (by decide) (by rw [if_neg h_13]) dX1_busy_21
set_option maxHeartbeats 4000000 in
set_option maxRecDepth 100000 in
theorem ll_l_emptyLine {p : Program} {l : Launch} {e : Env} {st : State} {m : MethodId} {args : Array Value} {below : List Frame} {meth : Method} {c : Code} {D : va_G} {h : Nat} {ad : Nat → Nat} {cI cZ : ClassId} {A : Nat → Prop} {s : Nat} (hs : s < 2) (X : ll_C p m c cX1_emptyLine 3 st args) (hr : meth.sig.returnType = none) (hlk : meth.locks = false) : ∀ (n i : Nat) (σ : ll_St), i + n = 16 → ll_ok σ → ∀ (H : Heap) (locs : List Loc), ll_Z D h ad cI cZ A st σ H locs → ∀ ls : Array Slot, lv_has ls 3 [(2, .int (nI i)), (0, .ref h), (1, .int (nI s))] → W p l e rmX1_emptyLine st m args below meth c H locs 0 0 (ll_Ev D h ad cI cZ A below args st (ll_el s n σ)) (F0 m 2 ls []) := by
  have hx := X.1
  have hb := X.2.1
  intro n
  induction n with
  | zero =>
    intro i σ hn hok H locs Z ls hl
    refine lv_iload_n hx hb dX1_emptyLine_2 rfl (lv_at hl 0 rfl) ?_
    refine nw_bipush hx hb 16 dX1_emptyLine_3 (by decide) ?_
    refine nw_icmp_ge (tgt := 28) hx hb (by omega) (by omega) dX1_emptyLine_5 (by decide) (fun h_5 => ?_) (fun h_5 => ?_)
    · skip
      exact ll_retv X hr hlk Z rfl dX1_emptyLine_28
    · skip
      exact absurd (show 16 ≤ i by omega) h_5
  | succ n ih =>
    intro i σ hn hok H locs Z ls hl
    have o13 : σ 13 s < 17 := hok.1 13 s (by decide) (by decide)
    refine lv_iload_n hx hb dX1_emptyLine_2 rfl (lv_at hl 0 rfl) ?_
    refine nw_bipush hx hb 16 dX1_emptyLine_3 (by decide) ?_
    refine nw_icmp_ge (tgt := 28) hx hb (by omega) (by omega) dX1_emptyLine_5 (by decide) (fun h_5 => ?_) (fun h_5 => ?_)
    · skip
      exact absurd h_5 (by omega)
    · skip
      refine lv_aload_n hx hb dX1_emptyLine_8 rfl (lv_at hl 1 rfl) ?_
      refine ll_g13 X Z dX1_emptyLine_9 ?_
      refine lv_iload_n hx hb dX1_emptyLine_12 rfl (lv_at hl 2 rfl) ?_
      refine ll_ld13 X Z (by omega) dX1_emptyLine_13 ?_
      refine nw_if_le (tgt := 28) hx hb (by omega) dX1_emptyLine_14 (by decide) (fun h_14 => ?_) (fun h_14 => ?_)
      · skip
        exact ll_retv X hr hlk Z (show σ = ll_el s (n + 1) σ from (if_pos h_14).symm) dX1_emptyLine_28
      · skip
        refine lv_aload_n hx hb dX1_emptyLine_17 rfl (lv_at hl 1 rfl) ?_
        refine lv_iload_n hx hb dX1_emptyLine_18 rfl (lv_at hl 2 rfl) ?_
        refine ll_callv X Z (ll_k_carryOne l hok hs (by omega)) (cwX1_carryOne X.2.2.2.2 ⟨by decide, by decide⟩) rfl hl.1 rfl (Nat.le_of_ble_eq_true rfl) ⟨Nat.le_refl _, Nat.le_refl _⟩ dX1_emptyLine_19 (fun H locs Z => ?_)
        refine lv_iinc (v := (nI (i + 1))) (lv' := [(2, .int (nI (i + 1))), (0, .ref h), (1, .int (nI s))]) hx hb dX1_emptyLine_22 hl (k := 0) rfl (nI_1 _) (by decide) rfl (fun ls hl => ?_)
        refine lv_goto (tgt := 2) hx hb dX1_emptyLine_25 (by decide) ?_
        rw [show ll_el s (n + 1) σ = ll_el s n (ll_co s σ) from if_neg h_14]
        exact ih (i + 1) _ (by omega) (ll_ok_co hok) H locs Z ls (lv_sub hl [0, 1, 2] rfl)
set_option maxHeartbeats 4000000 in
set_option maxRecDepth 100000 in
theorem ll_k_emptyLine (l : Launch) {σ : ll_St} (hok : ll_ok σ) {s : Nat} (hs : s < 2) : ll_Mv l yX1_emptyLine wsX1_emptyLine rmX1_emptyLine [.int (nI s)] σ (ll_el s 16 σ) := by
  refine ll_ofWv (Nat.le_of_ble_eq_true rfl) (fun p e st m args below meth c D h ad cI cZ A X hr hlk Z ls hl => ?_)
  have hx := X.1
  have hb := X.2.1
  have hl : lv_has ls 3 [(0, .ref h), (1, .int (nI s))] := hl
  refine nw_iconst hx hb 0 dX1_emptyLine_0 (by decide) ?_
  refine lv_istore_n (lv' := [(2, .int (nI 0)), (0, .ref h), (1, .int (nI s))]) hx hb dX1_emptyLine_1 rfl hl (by decide) rfl (fun ls hl => ?_)
  exact ll_l_emptyLine hs X hr hlk 16 0 σ rfl hok _ _ Z ls hl
set_option maxHeartbeats 4000000 in
set_option maxRecDepth 100000 in
theorem ll_l_settle {p : Program} {l : Launch} {e : Env} {st : State} {m : MethodId} {args : Array Value} {below : List Frame} {meth : Method} {c : Code} {D : va_G} {h : Nat} {ad : Nat → Nat} {cI cZ : ClassId} {A : Nat → Prop} (X : ll_C p m c cX1_settle 2 st args) (hr : meth.sig.returnType = none) (hlk : meth.locks = false) : ∀ (n i : Nat) (σ : ll_St), i + n = 200 → ll_ok σ → ∀ (H : Heap) (locs : List Loc), ll_Z D h ad cI cZ A st σ H locs → ∀ ls : Array Slot, lv_has ls 2 [(1, .int (nI i)), (0, .ref h)] → W p l e rmX1_settle st m args below meth c H locs 0 0 (ll_Ev D h ad cI cZ A below args st (ll_stl n σ)) (F0 m 2 ls []) := by
  have hx := X.1
  have hb := X.2.1
  intro n
  induction n with
  | zero =>
    intro i σ hn hok H locs Z ls hl
    refine lv_iload_n hx hb dX1_settle_2 rfl (lv_at hl 0 rfl) ?_
    refine nw_sipush hx hb 200 dX1_settle_3 (by decide) ?_
    refine nw_icmp_ge (tgt := 42) hx hb (by omega) (by omega) dX1_settle_6 (by decide) (fun h_6 => ?_) (fun h_6 => ?_)
    · skip
      exact ll_retv X hr hlk Z rfl dX1_settle_42
    · skip
      exact absurd (show 200 ≤ i by omega) h_6
  | succ n ih =>
    intro i σ hn hok H locs Z ls hl
    have hbs : (if σ 2 0 + σ 2 1 = 0 then 0 else 1) < 2 ^ 31 := by split <;> omega
    refine lv_iload_n hx hb dX1_settle_2 rfl (lv_at hl 0 rfl) ?_
    refine nw_sipush hx hb 200 dX1_settle_3 (by decide) ?_
    refine nw_icmp_ge (tgt := 42) hx hb (by omega) (by omega) dX1_settle_6 (by decide) (fun h_6 => ?_) (fun h_6 => ?_)
    · skip
      exact absurd h_6 (by omega)
    · skip
      refine lv_aload_n hx hb dX1_settle_9 rfl (lv_at hl 1 rfl) ?_
      refine ll_calli X Z (ll_k_busy l hok) (cwX1_busy X.2.2.2.2 ⟨by decide, by decide⟩) rfl hl.1 rfl (Nat.le_of_ble_eq_true rfl) ⟨Nat.le_refl _, Nat.le_refl _⟩ dX1_settle_10 (fun H locs Z => ?_)
      refine nw_if_eq (tgt := 42) hx hb hbs dX1_settle_13 (by decide) (fun h_13 => ?_) (fun h_13 => ?_)
      · skip
        exact ll_retv X hr hlk Z (show σ = ll_stl (n + 1) σ from (if_pos (Classical.byContradiction fun q => by rw [if_neg q] at h_13; cases h_13)).symm) dX1_settle_42
      · skip
        refine lv_aload_n hx hb dX1_settle_16 rfl (lv_at hl 1 rfl) ?_
        refine nw_iconst hx hb 0 dX1_settle_17 (by decide) ?_
        refine ll_callv X Z (ll_k_goBack l hok (s := 0) (by decide)) (cwX1_goBack X.2.2.2.2 ⟨by decide, by decide⟩) rfl hl.1 rfl (Nat.le_of_ble_eq_true rfl) ⟨Nat.le_refl _, Nat.le_refl _⟩ dX1_settle_18 (fun H locs Z => ?_)
        refine lv_aload_n hx hb dX1_settle_21 rfl (lv_at hl 1 rfl) ?_
        refine nw_iconst hx hb 0 dX1_settle_22 (by decide) ?_
        refine ll_callv X Z (ll_k_emptyLine l (ll_ok_gb hok) (s := 0) (by decide)) (cwX1_emptyLine X.2.2.2.2 ⟨by decide, by decide⟩) rfl hl.1 rfl (Nat.le_of_ble_eq_true rfl) ⟨Nat.le_refl _, Nat.le_refl _⟩ dX1_settle_23 (fun H locs Z => ?_)
        refine lv_aload_n hx hb dX1_settle_26 rfl (lv_at hl 1 rfl) ?_
        refine nw_iconst hx hb 1 dX1_settle_27 (by decide) ?_
        refine ll_callv X Z (ll_k_goBack l (ll_ok_el 16 (ll_ok_gb hok)) (s := 1) (by decide)) (cwX1_goBack X.2.2.2.2 ⟨by decide, by decide⟩) rfl hl.1 rfl (Nat.le_of_ble_eq_true rfl) ⟨Nat.le_refl _, Nat.le_refl _⟩ dX1_settle_28 (fun H locs Z => ?_)
        refine lv_aload_n hx hb dX1_settle_31 rfl (lv_at hl 1 rfl) ?_
        refine nw_iconst hx hb 1 dX1_settle_32 (by decide) ?_
        refine ll_callv X Z (ll_k_emptyLine l (ll_ok_gb (ll_ok_el 16 (ll_ok_gb hok))) (s := 1) (by decide)) (cwX1_emptyLine X.2.2.2.2 ⟨by decide, by decide⟩) rfl hl.1 rfl (Nat.le_of_ble_eq_true rfl) ⟨Nat.le_refl _, Nat.le_refl _⟩ dX1_settle_33 (fun H locs Z => ?_)
        refine lv_iinc (v := (nI (i + 1))) (lv' := [(1, .int (nI (i + 1))), (0, .ref h)]) hx hb dX1_settle_36 hl (k := 0) rfl (nI_1 _) (by decide) rfl (fun ls hl => ?_)
        refine lv_goto (tgt := 2) hx hb dX1_settle_39 (by decide) ?_
        rw [show ll_stl (n + 1) σ = ll_stl n (ll_rn σ) from if_neg (fun q => h_13 (if_pos q))]
        exact ih (i + 1) _ (by omega) (ll_ok_rn hok) H locs Z ls (lv_sub hl [0, 1] rfl)
set_option maxHeartbeats 4000000 in
set_option maxRecDepth 100000 in
theorem ll_k_settle (l : Launch) {σ : ll_St} (hok : ll_ok σ) : ll_Mv l yX1_settle wsX1_settle rmX1_settle [] σ (ll_stl 200 σ) := by
  refine ll_ofWv (Nat.le_of_ble_eq_true rfl) (fun p e st m args below meth c D h ad cI cZ A X hr hlk Z ls hl => ?_)
  have hx := X.1
  have hb := X.2.1
  have hl : lv_has ls 2 [(0, .ref h)] := hl
  refine nw_iconst hx hb 0 dX1_settle_0 (by decide) ?_
  refine lv_istore_n (lv' := [(1, .int (nI 0)), (0, .ref h)]) hx hb dX1_settle_1 rfl hl (by decide) rfl (fun ls hl => ?_)
  exact ll_l_settle X hr hlk 200 0 σ rfl hok _ _ Z ls hl
end
section
set_option maxHeartbeats 4000000 in
set_option maxRecDepth 100000 in
theorem ll_k_waitingOrSent (l : Launch) {σ : ll_St} (hok : ll_ok σ) {s : Nat} (hs : s < 2) (hle : (σ 6 (1 - s) + 8 - σ 4 s) % 8 ≤ σ 10 (1 - s) + σ 2 s) : ll_Mi l yX1_waitingOrSent wsX1_waitingOrSent rmX1_waitingOrSent [.int (nI s)] σ σ (nI (ll_wos s σ)) := by
  refine ll_ofWi (Nat.le_of_ble_eq_true rfl) (fun p e st m args below meth c D h ad cI cZ A X hr hlk Z ls hl => ?_)
  have hx := X.1
  have hb := X.2.1
  have hl : lv_has ls 4 [(0, .ref h), (1, .int (nI s))] := hl
  have o4 : σ 4 s < 8 := hok.1 4 s (by decide) (by decide)
  refine nw_iconst hx hb 1 dX1_waitingOrSent_0 (by decide) ?_
  refine lv_iload_n hx hb dX1_waitingOrSent_1 rfl (lv_at hl 1 rfl) ?_
  refine nw_isub hx hb (by omega) dX1_waitingOrSent_2 ?_
  refine lv_istore_n (lv' := [(2, .int (nI (1 - s))), (0, .ref h), (1, .int (nI s))]) hx hb dX1_waitingOrSent_3 rfl hl (by decide) rfl (fun ls hl => ?_)
  refine lv_aload_n hx hb dX1_waitingOrSent_4 rfl (lv_at hl 1 rfl) ?_
  refine ll_g6 X Z dX1_waitingOrSent_5 ?_
  refine lv_iload_n hx hb dX1_waitingOrSent_8 rfl (lv_at hl 0 rfl) ?_
  refine ll_ld6 X Z (by omega) dX1_waitingOrSent_9 ?_
  refine lv_aload_n hx hb dX1_waitingOrSent_10 rfl (lv_at hl 1 rfl) ?_
  refine ll_g4 X Z dX1_waitingOrSent_11 ?_
  refine lv_iload_n hx hb dX1_waitingOrSent_14 rfl (lv_at hl 2 rfl) ?_
  refine ll_ld4 X Z (by omega) dX1_waitingOrSent_15 ?_
  refine lv_isub hx hb dX1_waitingOrSent_16 ?_
  refine nw_bipush hx hb 7 dX1_waitingOrSent_17 (by decide) ?_
  refine nw_iand8 hx hb (by omega) dX1_waitingOrSent_19 ?_
  refine lv_istore_n (lv' := [(3, .int (nI ((σ 6 (1 - s) + 8 - (σ 4 s)) % 8))), (2, .int (nI (1 - s))), (0, .ref h), (1, .int (nI s))]) hx hb dX1_waitingOrSent_20 rfl hl (by decide) rfl (fun ls hl => ?_)
  refine lv_aload_n hx hb dX1_waitingOrSent_21 rfl (lv_at hl 2 rfl) ?_
  refine ll_g10 X Z dX1_waitingOrSent_22 ?_
  refine lv_iload_n hx hb dX1_waitingOrSent_25 rfl (lv_at hl 1 rfl) ?_
  refine ll_ld10 X Z (by omega) dX1_waitingOrSent_26 ?_
  refine lv_aload_n hx hb dX1_waitingOrSent_27 rfl (lv_at hl 2 rfl) ?_
  refine ll_g2 X Z dX1_waitingOrSent_28 ?_
  refine lv_iload_n hx hb dX1_waitingOrSent_31 rfl (lv_at hl 3 rfl) ?_
  refine ll_ld2 X Z (by omega) dX1_waitingOrSent_32 ?_
  refine nw_iadd hx hb dX1_waitingOrSent_33 ?_
  refine lv_iload_n hx hb dX1_waitingOrSent_34 rfl (lv_at hl 0 rfl) ?_
  refine nw_isub hx hb (by omega) dX1_waitingOrSent_35 ?_
  exact ll_reti X hr hlk Z rfl rfl dX1_waitingOrSent_36
set_option maxHeartbeats 4000000 in
set_option maxRecDepth 100000 in
theorem ll_k_waitingFor (l : Launch) {σ : ll_St} (hok : ll_ok σ) {s : Nat} (hs : s < 2) : ll_Mi l yX1_waitingFor wsX1_waitingFor rmX1_waitingFor [.int (nI s)] σ (ll_stl 200 σ) (nI ((ll_stl 200 σ) 10 s)) := by
  refine ll_ofWi (Nat.le_of_ble_eq_true rfl) (fun p e st m args below meth c D h ad cI cZ A X hr hlk Z ls hl => ?_)
  have hx := X.1
  have hb := X.2.1
  have hl : lv_has ls 2 [(0, .ref h), (1, .int (nI s))] := hl
  refine lv_aload_n hx hb dX1_waitingFor_0 rfl (lv_at hl 0 rfl) ?_
  refine ll_callv X Z (ll_k_settle l hok) (cwX1_settle X.2.2.2.2 ⟨by decide, by decide⟩) rfl hl.1 rfl (Nat.le_of_ble_eq_true rfl) ⟨Nat.le_refl _, Nat.le_refl _⟩ dX1_waitingFor_1 (fun H locs Z => ?_)
  refine lv_aload_n hx hb dX1_waitingFor_4 rfl (lv_at hl 0 rfl) ?_
  refine ll_g10 X Z dX1_waitingFor_5 ?_
  refine lv_iload_n hx hb dX1_waitingFor_8 rfl (lv_at hl 1 rfl) ?_
  refine ll_ld10 X Z (by omega) dX1_waitingFor_9 ?_
  exact ll_reti X hr hlk Z rfl rfl dX1_waitingFor_10
set_option maxHeartbeats 4000000 in
set_option maxRecDepth 100000 in
theorem ll_k_takeOne (l : Launch) {σ : ll_St} (hok : ll_ok σ) {s : Nat} (hs : s < 2) (h1 : 1 ≤ σ 10 s) : ll_Mi l yX1_takeOne wsX1_takeOne rmX1_takeOne [.int (nI s)] σ (ll_to s σ) (nI (σ 11 (s * 32 + σ 9 s))) := by
  refine ll_ofWi (Nat.le_of_ble_eq_true rfl) (fun p e st m args below meth c D h ad cI cZ A X hr hlk Z ls hl => ?_)
  have hx := X.1
  have hb := X.2.1
  have hl : lv_has ls 3 [(0, .ref h), (1, .int (nI s))] := hl
  have o9 : σ 9 s < 32 := hok.1 9 s (by decide) (by decide)
  refine lv_aload_n hx hb dX1_takeOne_0 rfl (lv_at hl 0 rfl) ?_
  refine ll_g11 X Z dX1_takeOne_1 ?_
  refine lv_iload_n hx hb dX1_takeOne_4 rfl (lv_at hl 1 rfl) ?_
  refine nw_bipush hx hb 32 dX1_takeOne_5 (by decide) ?_
  refine nw_imul hx hb dX1_takeOne_7 ?_
  refine lv_aload_n hx hb dX1_takeOne_8 rfl (lv_at hl 0 rfl) ?_
  refine ll_g9 X Z dX1_takeOne_9 ?_
  refine lv_iload_n hx hb dX1_takeOne_12 rfl (lv_at hl 1 rfl) ?_
  refine ll_ld9 X Z (by omega) dX1_takeOne_13 ?_
  refine nw_iadd hx hb dX1_takeOne_14 ?_
  refine ll_ld11 X Z (by omega) dX1_takeOne_15 ?_
  refine lv_istore_n (lv' := [(2, .int (nI (σ 11 ((s * 32) + (σ 9 s))))), (0, .ref h), (1, .int (nI s))]) hx hb dX1_takeOne_16 rfl hl (by decide) rfl (fun ls hl => ?_)
  refine lv_aload_n hx hb dX1_takeOne_17 rfl (lv_at hl 1 rfl) ?_
  refine ll_g9 X Z dX1_takeOne_18 ?_
  refine lv_iload_n hx hb dX1_takeOne_21 rfl (lv_at hl 2 rfl) ?_
  refine lv_aload_n hx hb dX1_takeOne_22 rfl (lv_at hl 1 rfl) ?_
  refine ll_g9 X Z dX1_takeOne_23 ?_
  refine lv_iload_n hx hb dX1_takeOne_26 rfl (lv_at hl 2 rfl) ?_
  refine ll_ld9 X Z (by omega) dX1_takeOne_27 ?_
  refine nw_iconst hx hb 1 dX1_takeOne_28 (by decide) ?_
  refine nw_iadd hx hb dX1_takeOne_29 ?_
  refine nw_bipush hx hb 31 dX1_takeOne_30 (by decide) ?_
  refine nw_iand hx hb 32 5 rfl rfl (by decide) dX1_takeOne_32 ?_
  refine ll_st9 X Z (by omega) dX1_takeOne_33 (fun H locs Z => ?_)
  refine lv_aload_n hx hb dX1_takeOne_34 rfl (lv_at hl 1 rfl) ?_
  refine ll_g10 X Z dX1_takeOne_35 ?_
  refine lv_iload_n hx hb dX1_takeOne_38 rfl (lv_at hl 2 rfl) ?_
  refine lv_dup2_11 hx hb dX1_takeOne_39 rfl rfl ?_
  refine ll_ld10 X Z (by omega) dX1_takeOne_40 ?_
  refine nw_as (σ 10 s) (by simp [ll_set]) ?_
  refine nw_iconst hx hb 1 dX1_takeOne_41 (by decide) ?_
  refine nw_isub hx hb (by omega) dX1_takeOne_42 ?_
  refine ll_st10 X Z (by omega) dX1_takeOne_43 (fun H locs Z => ?_)
  refine lv_aload_n hx hb dX1_takeOne_44 rfl (lv_at hl 1 rfl) ?_
  refine ll_g12 X Z dX1_takeOne_45 ?_
  refine lv_iload_n hx hb dX1_takeOne_48 rfl (lv_at hl 2 rfl) ?_
  refine lv_dup2_11 hx hb dX1_takeOne_49 rfl rfl ?_
  refine ll_ld12 X Z (by omega) dX1_takeOne_50 ?_
  refine nw_as (σ 12 s) (by simp [ll_set]) ?_
  refine nw_iconst hx hb 1 dX1_takeOne_51 (by decide) ?_
  refine nw_iadd hx hb dX1_takeOne_52 ?_
  refine ll_st12 X Z (by omega) dX1_takeOne_53 (fun H locs Z => ?_)
  refine lv_iload_n hx hb dX1_takeOne_54 rfl (lv_at hl 0 rfl) ?_
  exact ll_reti X hr hlk Z rfl rfl dX1_takeOne_55
set_option maxHeartbeats 4000000 in
set_option maxRecDepth 100000 in
theorem ll_k_byteAt (l : Launch) {σ : ll_St} {s i : Nat} (hs : s < 2) : ll_Mi l yX1_byteAt wsX1_byteAt rmX1_byteAt [.int (nI s), .int (nI i)] σ σ (nI (ll_ba s i σ)) := by
  refine ll_ofWi (Nat.le_of_ble_eq_true rfl) (fun p e st m args below meth c D h ad cI cZ A X hr hlk Z ls hl => ?_)
  have hx := X.1
  have hb := X.2.1
  have hl : lv_has ls 3 [(0, .ref h), (1, .int (nI s)), (2, .int (nI i))] := hl
  refine lv_aload_n hx hb dX1_byteAt_0 rfl (lv_at hl 0 rfl) ?_
  refine ll_g11 X Z dX1_byteAt_1 ?_
  refine lv_iload_n hx hb dX1_byteAt_4 rfl (lv_at hl 1 rfl) ?_
  refine nw_bipush hx hb 32 dX1_byteAt_5 (by decide) ?_
  refine nw_imul hx hb dX1_byteAt_7 ?_
  refine lv_aload_n hx hb dX1_byteAt_8 rfl (lv_at hl 0 rfl) ?_
  refine ll_g9 X Z dX1_byteAt_9 ?_
  refine lv_iload_n hx hb dX1_byteAt_12 rfl (lv_at hl 1 rfl) ?_
  refine ll_ld9 X Z (by omega) dX1_byteAt_13 ?_
  refine lv_iload_n hx hb dX1_byteAt_14 rfl (lv_at hl 2 rfl) ?_
  refine nw_iadd hx hb dX1_byteAt_15 ?_
  refine nw_bipush hx hb 31 dX1_byteAt_16 (by decide) ?_
  refine nw_iand hx hb 32 5 rfl rfl (by decide) dX1_byteAt_18 ?_
  refine nw_iadd hx hb dX1_byteAt_19 ?_
  refine ll_ld11 X Z (by omega) dX1_byteAt_20 ?_
  exact ll_reti X hr hlk Z rfl rfl dX1_byteAt_21
set_option maxHeartbeats 4000000 in
set_option maxRecDepth 100000 in
theorem ll_l_marked {p : Program} {l : Launch} {e : Env} {st : State} {m : MethodId} {args : Array Value} {below : List Frame} {meth : Method} {c : Code} {D : va_G} {h : Nat} {ad : Nat → Nat} {cI cZ : ClassId} {A : Nat → Prop} {s : Nat} {σ : ll_St} (hs : s < 2) (hok : ll_ok σ) (hg : σ 10 s < 2 ^ 31) (X : ll_C p m c cX1_marked 4 st args) (hr : meth.sig.returnType = some .int) (hlk : meth.locks = false) : ∀ (n i a : Nat), i + n = σ 10 s → ∀ (H : Heap) (locs : List Loc), ll_Z D h ad cI cZ A st σ H locs → ∀ ls : Array Slot, lv_has ls 4 [(3, .int (nI i)), (2, .int (nI a)), (0, .ref h), (1, .int (nI s))] → W p l e rmX1_marked st m args below meth c H locs 0 0 (ll_Ei D h ad cI cZ A below args st σ (nI (ll_mkL s σ n i a))) (F0 m 4 ls []) := by
  have hx := X.1
  have hb := X.2.1
  have hba : ∀ i, ll_ba s i σ < 512 := fun i => hok.1 11 _ (by decide) (by decide)
  intro n
  induction n with
  | zero =>
    intro i a hn H locs Z ls hl
    refine lv_iload_n hx hb dX1_marked_4 rfl (lv_at hl 0 rfl) ?_
    refine lv_aload_n hx hb dX1_marked_5 rfl (lv_at hl 2 rfl) ?_
    refine ll_g10 X Z dX1_marked_6 ?_
    refine lv_iload_n hx hb dX1_marked_9 rfl (lv_at hl 3 rfl) ?_
    refine ll_ld10 X Z (by omega) dX1_marked_10 ?_
    refine nw_icmp_ge (tgt := 32) hx hb (by omega) (by omega) dX1_marked_11 (by decide) (fun h_11 => ?_) (fun h_11 => ?_)
    · skip
      refine lv_iload_n hx hb dX1_marked_32 rfl (lv_at hl 1 rfl) ?_
      exact ll_reti X hr hlk Z rfl rfl dX1_marked_33
    · skip
      exact absurd (show σ 10 s ≤ i by omega) h_11
  | succ n ih =>
    intro i a hn H locs Z ls hl
    have hbi := hba i
    refine lv_iload_n hx hb dX1_marked_4 rfl (lv_at hl 0 rfl) ?_
    refine lv_aload_n hx hb dX1_marked_5 rfl (lv_at hl 2 rfl) ?_
    refine ll_g10 X Z dX1_marked_6 ?_
    refine lv_iload_n hx hb dX1_marked_9 rfl (lv_at hl 3 rfl) ?_
    refine ll_ld10 X Z (by omega) dX1_marked_10 ?_
    refine nw_icmp_ge (tgt := 32) hx hb (by omega) (by omega) dX1_marked_11 (by decide) (fun h_11 => ?_) (fun h_11 => ?_)
    · skip
      exact absurd h_11 (by omega)
    · skip
      refine lv_iload_n hx hb dX1_marked_14 rfl (lv_at hl 1 rfl) ?_
      refine lv_aload_n hx hb dX1_marked_15 rfl (lv_at hl 2 rfl) ?_
      refine lv_iload_n hx hb dX1_marked_16 rfl (lv_at hl 3 rfl) ?_
      refine lv_iload_n hx hb dX1_marked_17 rfl (lv_at hl 0 rfl) ?_
      refine ll_calli X Z (ll_k_byteAt l (σ := σ) (i := i) hs) (cwX1_byteAt X.2.2.2.2 ⟨by decide, by decide⟩) rfl hl.1 rfl (Nat.le_of_ble_eq_true rfl) ⟨Nat.le_refl _, Nat.le_refl _⟩ dX1_marked_18 (fun H locs Z => ?_)
      refine nw_bipush hx hb 8 dX1_marked_21 (by decide) ?_
      refine nw_ishr hx hb (by omega) (by omega) dX1_marked_23 ?_
      refine nw_as ((ll_ba s i σ) / 256) rfl ?_
      refine nw_iadd hx hb dX1_marked_24 ?_
      refine lv_istore_n (lv' := [(2, .int (nI (a + ((ll_ba s i σ) / 256)))), (3, .int (nI i)), (0, .ref h), (1, .int (nI s))]) hx hb dX1_marked_25 rfl hl (by decide) rfl (fun ls hl => ?_)
      refine lv_iinc (v := (nI (i + 1))) (lv' := [(3, .int (nI (i + 1))), (2, .int (nI (a + ((ll_ba s i σ) / 256)))), (0, .ref h), (1, .int (nI s))]) hx hb dX1_marked_26 hl (k := 1) rfl (nI_1 _) (by decide) rfl (fun ls hl => ?_)
      refine lv_goto (tgt := 4) hx hb dX1_marked_29 (by decide) ?_
      exact ih (i + 1) _ (by omega) H locs Z ls (lv_sub hl [0, 1, 2, 3] rfl)
set_option maxHeartbeats 4000000 in
set_option maxRecDepth 100000 in
theorem ll_k_marked (l : Launch) {σ : ll_St} (hok : ll_ok σ) {s : Nat} (hs : s < 2) (hg : σ 10 s < 2 ^ 31) : ll_Mi l yX1_marked wsX1_marked rmX1_marked [.int (nI s)] σ σ (nI (ll_mkL s σ (σ 10 s) 0 0)) := by
  refine ll_ofWi (Nat.le_of_ble_eq_true rfl) (fun p e st m args below meth c D h ad cI cZ A X hr hlk Z ls hl => ?_)
  have hx := X.1
  have hb := X.2.1
  have hl : lv_has ls 4 [(0, .ref h), (1, .int (nI s))] := hl
  refine nw_iconst hx hb 0 dX1_marked_0 (by decide) ?_
  refine lv_istore_n (lv' := [(2, .int (nI 0)), (0, .ref h), (1, .int (nI s))]) hx hb dX1_marked_1 rfl hl (by decide) rfl (fun ls hl => ?_)
  refine nw_iconst hx hb 0 dX1_marked_2 (by decide) ?_
  refine lv_istore_n (lv' := [(3, .int (nI 0)), (2, .int (nI 0)), (0, .ref h), (1, .int (nI s))]) hx hb dX1_marked_3 rfl hl (by decide) rfl (fun ls hl => ?_)
  exact ll_l_marked hs hok hg X hr hlk (σ 10 s) 0 0 (by omega) _ _ Z ls (lv_sub hl [0, 1, 2, 3] rfl)
set_option maxHeartbeats 4000000 in
set_option maxRecDepth 100000 in
theorem ll_k_give_bad (l : Launch) {σ : ll_St} {x b d : Int32} (hbad : x < 0 ∨ 1 < x) : ll_Mi l yX1_give wsX1_give rmX1_give [.int x, .int b, .int d] σ σ (-1) := by
  refine ll_ofWi (Nat.le_of_ble_eq_true rfl) (fun p e st m args below meth c D h ad cI cZ A X hr hlk Z ls hl => ?_)
  have hx := X.1
  have hb := X.2.1
  have hl : lv_has ls 5 [(0, .ref h), (1, .int x), (2, .int b), (3, .int d)] := hl
  refine lv_iload_n hx hb dX1_give_0 rfl (lv_at hl 1 rfl) ?_
  refine ll_calls X Z (ll_k_bad1 l hbad) (cwX1_bad X.2.2.2.2 ⟨by decide, by decide⟩) rfl hl.1 rfl (Nat.le_of_ble_eq_true rfl) ⟨Nat.le_refl _, Nat.le_refl _⟩ dX1_give_1 (fun H locs Z => ?_)
  refine nw_if_eq (tgt := 9) hx hb (by omega) dX1_give_4 (by decide) (fun h_4 => ?_) (fun h_4 => ?_)
  · skip
    exact absurd h_4 (by decide)
  · skip
    refine lv_iconst (v := -1) hx hb dX1_give_7 (by decide) ?_
    exact ll_reti X hr hlk Z rfl rfl dX1_give_8
set_option maxHeartbeats 4000000 in
set_option maxRecDepth 100000 in
theorem ll_k_take_bad (l : Launch) {σ : ll_St} {x : Int32} (hbad : x < 0 ∨ 1 < x) : ll_Mi l yX1_take wsX1_take rmX1_take [.int x] σ σ (-1) := by
  refine ll_ofWi (Nat.le_of_ble_eq_true rfl) (fun p e st m args below meth c D h ad cI cZ A X hr hlk Z ls hl => ?_)
  have hx := X.1
  have hb := X.2.1
  have hl : lv_has ls 4 [(0, .ref h), (1, .int x)] := hl
  refine lv_iload_n hx hb dX1_take_0 rfl (lv_at hl 1 rfl) ?_
  refine ll_calls X Z (ll_k_bad1 l hbad) (cwX1_bad X.2.2.2.2 ⟨by decide, by decide⟩) rfl hl.1 rfl (Nat.le_of_ble_eq_true rfl) ⟨Nat.le_refl _, Nat.le_refl _⟩ dX1_take_1 (fun H locs Z => ?_)
  refine nw_if_eq (tgt := 9) hx hb (by omega) dX1_take_4 (by decide) (fun h_4 => ?_) (fun h_4 => ?_)
  · skip
    exact absurd h_4 (by decide)
  · skip
    refine lv_iconst (v := -1) hx hb dX1_take_7 (by decide) ?_
    exact ll_reti X hr hlk Z rfl rfl dX1_take_8
set_option maxHeartbeats 4000000 in
set_option maxRecDepth 100000 in
theorem ll_k_takeMessage_bad (l : Launch) {σ : ll_St} {x : Int32} (hbad : x < 0 ∨ 1 < x) : ll_Mi l yX1_takeMessage wsX1_takeMessage rmX1_takeMessage [.int x] σ σ (-1) := by
  refine ll_ofWi (Nat.le_of_ble_eq_true rfl) (fun p e st m args below meth c D h ad cI cZ A X hr hlk Z ls hl => ?_)
  have hx := X.1
  have hb := X.2.1
  have hl : lv_has ls 6 [(0, .ref h), (1, .int x)] := hl
  refine lv_iload_n hx hb dX1_takeMessage_0 rfl (lv_at hl 1 rfl) ?_
  refine ll_calls X Z (ll_k_bad1 l hbad) (cwX1_bad X.2.2.2.2 ⟨by decide, by decide⟩) rfl hl.1 rfl (Nat.le_of_ble_eq_true rfl) ⟨Nat.le_refl _, Nat.le_refl _⟩ dX1_takeMessage_1 (fun H locs Z => ?_)
  refine nw_if_eq (tgt := 9) hx hb (by omega) dX1_takeMessage_4 (by decide) (fun h_4 => ?_) (fun h_4 => ?_)
  · skip
    exact absurd h_4 (by decide)
  · skip
    refine lv_iconst (v := -1) hx hb dX1_takeMessage_7 (by decide) ?_
    exact ll_reti X hr hlk Z rfl rfl dX1_takeMessage_8
set_option maxHeartbeats 4000000 in
set_option maxRecDepth 100000 in
theorem ll_k_skip_bad (l : Launch) {σ : ll_St} {x : Int32} (hbad : x < 0 ∨ 1 < x) : ll_Mi l yX1_skip wsX1_skip rmX1_skip [.int x] σ σ (-1) := by
  refine ll_ofWi (Nat.le_of_ble_eq_true rfl) (fun p e st m args below meth c D h ad cI cZ A X hr hlk Z ls hl => ?_)
  have hx := X.1
  have hb := X.2.1
  have hl : lv_has ls 4 [(0, .ref h), (1, .int x)] := hl
  refine lv_iload_n hx hb dX1_skip_0 rfl (lv_at hl 1 rfl) ?_
  refine ll_calls X Z (ll_k_bad1 l hbad) (cwX1_bad X.2.2.2.2 ⟨by decide, by decide⟩) rfl hl.1 rfl (Nat.le_of_ble_eq_true rfl) ⟨Nat.le_refl _, Nat.le_refl _⟩ dX1_skip_1 (fun H locs Z => ?_)
  refine nw_if_eq (tgt := 9) hx hb (by omega) dX1_skip_4 (by decide) (fun h_4 => ?_) (fun h_4 => ?_)
  · skip
    exact absurd h_4 (by decide)
  · skip
    refine lv_iconst (v := -1) hx hb dX1_skip_7 (by decide) ?_
    exact ll_reti X hr hlk Z rfl rfl dX1_skip_8
set_option maxHeartbeats 4000000 in
set_option maxRecDepth 100000 in
theorem ll_k_carry_bad (l : Launch) {σ : ll_St} {x b d : Int32} (hbad : x < 0 ∨ 1 < x) : ll_Mi l yX1_carry wsX1_carry rmX1_carry [.int x, .int b, .int d] σ σ (-1) := by
  refine ll_ofWi (Nat.le_of_ble_eq_true rfl) (fun p e st m args below meth c D h ad cI cZ A X hr hlk Z ls hl => ?_)
  have hx := X.1
  have hb := X.2.1
  have hl : lv_has ls 5 [(0, .ref h), (1, .int x), (2, .int b), (3, .int d)] := hl
  refine lv_iload_n hx hb dX1_carry_0 rfl (lv_at hl 1 rfl) ?_
  refine ll_calls X Z (ll_k_bad1 l hbad) (cwX1_bad X.2.2.2.2 ⟨by decide, by decide⟩) rfl hl.1 rfl (Nat.le_of_ble_eq_true rfl) ⟨Nat.le_refl _, Nat.le_refl _⟩ dX1_carry_1 (fun H locs Z => ?_)
  refine nw_if_eq (tgt := 9) hx hb (by omega) dX1_carry_4 (by decide) (fun h_4 => ?_) (fun h_4 => ?_)
  · skip
    exact absurd h_4 (by decide)
  · skip
    refine lv_iconst (v := -1) hx hb dX1_carry_7 (by decide) ?_
    exact ll_reti X hr hlk Z rfl rfl dX1_carry_8
set_option maxHeartbeats 4000000 in
set_option maxRecDepth 100000 in
theorem ll_k_fire_bad (l : Launch) {σ : ll_St} {x : Int32} (hbad : x < 0 ∨ 1 < x) : ll_Mi l yX1_fire wsX1_fire rmX1_fire [.int x] σ σ (-1) := by
  refine ll_ofWi (Nat.le_of_ble_eq_true rfl) (fun p e st m args below meth c D h ad cI cZ A X hr hlk Z ls hl => ?_)
  have hx := X.1
  have hb := X.2.1
  have hl : lv_has ls 2 [(0, .ref h), (1, .int x)] := hl
  refine lv_iload_n hx hb dX1_fire_0 rfl (lv_at hl 1 rfl) ?_
  refine ll_calls X Z (ll_k_bad1 l hbad) (cwX1_bad X.2.2.2.2 ⟨by decide, by decide⟩) rfl hl.1 rfl (Nat.le_of_ble_eq_true rfl) ⟨Nat.le_refl _, Nat.le_refl _⟩ dX1_fire_1 (fun H locs Z => ?_)
  refine nw_if_eq (tgt := 9) hx hb (by omega) dX1_fire_4 (by decide) (fun h_4 => ?_) (fun h_4 => ?_)
  · skip
    exact absurd h_4 (by decide)
  · skip
    refine lv_iconst (v := -1) hx hb dX1_fire_7 (by decide) ?_
    exact ll_reti X hr hlk Z rfl rfl dX1_fire_8
set_option maxHeartbeats 4000000 in
set_option maxRecDepth 100000 in
theorem ll_k_waiting_bad (l : Launch) {σ : ll_St} {x : Int32} (hbad : x < 0 ∨ 1 < x) : ll_Mi l yX1_waiting wsX1_waiting rmX1_waiting [.int x] σ σ (-1) := by
  refine ll_ofWi (Nat.le_of_ble_eq_true rfl) (fun p e st m args below meth c D h ad cI cZ A X hr hlk Z ls hl => ?_)
  have hx := X.1
  have hb := X.2.1
  have hl : lv_has ls 2 [(0, .ref h), (1, .int x)] := hl
  refine lv_iload_n hx hb dX1_waiting_0 rfl (lv_at hl 1 rfl) ?_
  refine ll_calls X Z (ll_k_bad1 l hbad) (cwX1_bad X.2.2.2.2 ⟨by decide, by decide⟩) rfl hl.1 rfl (Nat.le_of_ble_eq_true rfl) ⟨Nat.le_refl _, Nat.le_refl _⟩ dX1_waiting_1 (fun H locs Z => ?_)
  refine nw_if_eq (tgt := 11) hx hb (by omega) dX1_waiting_4 (by decide) (fun h_4 => ?_) (fun h_4 => ?_)
  · skip
    exact absurd h_4 (by decide)
  · skip
    refine lv_iconst (v := -1) hx hb dX1_waiting_7 (by decide) ?_
    refine lv_goto (tgt := 16) hx hb dX1_waiting_8 (by decide) ?_
    exact ll_reti X hr hlk Z rfl rfl dX1_waiting_16
set_option maxHeartbeats 4000000 in
set_option maxRecDepth 100000 in
theorem ll_k_messages_bad (l : Launch) {σ : ll_St} {x : Int32} (hbad : x < 0 ∨ 1 < x) : ll_Mi l yX1_messages wsX1_messages rmX1_messages [.int x] σ σ (-1) := by
  refine ll_ofWi (Nat.le_of_ble_eq_true rfl) (fun p e st m args below meth c D h ad cI cZ A X hr hlk Z ls hl => ?_)
  have hx := X.1
  have hb := X.2.1
  have hl : lv_has ls 2 [(0, .ref h), (1, .int x)] := hl
  refine lv_iload_n hx hb dX1_messages_0 rfl (lv_at hl 1 rfl) ?_
  refine ll_calls X Z (ll_k_bad1 l hbad) (cwX1_bad X.2.2.2.2 ⟨by decide, by decide⟩) rfl hl.1 rfl (Nat.le_of_ble_eq_true rfl) ⟨Nat.le_refl _, Nat.le_refl _⟩ dX1_messages_1 (fun H locs Z => ?_)
  refine nw_if_eq (tgt := 9) hx hb (by omega) dX1_messages_4 (by decide) (fun h_4 => ?_) (fun h_4 => ?_)
  · skip
    exact absurd h_4 (by decide)
  · skip
    refine lv_iconst (v := -1) hx hb dX1_messages_7 (by decide) ?_
    exact ll_reti X hr hlk Z rfl rfl dX1_messages_8
set_option maxHeartbeats 4000000 in
set_option maxRecDepth 100000 in
theorem ll_k_peek_bad (l : Launch) {σ : ll_St} {x b : Int32} (hbad : x < 0 ∨ 1 < x) : ll_Mi l yX1_peek wsX1_peek rmX1_peek [.int x, .int b] σ σ (-1) := by
  refine ll_ofWi (Nat.le_of_ble_eq_true rfl) (fun p e st m args below meth c D h ad cI cZ A X hr hlk Z ls hl => ?_)
  have hx := X.1
  have hb := X.2.1
  have hl : lv_has ls 4 [(0, .ref h), (1, .int x), (2, .int b)] := hl
  refine lv_iload_n hx hb dX1_peek_0 rfl (lv_at hl 1 rfl) ?_
  refine ll_calls X Z (ll_k_bad1 l hbad) (cwX1_bad X.2.2.2.2 ⟨by decide, by decide⟩) rfl hl.1 rfl (Nat.le_of_ble_eq_true rfl) ⟨Nat.le_refl _, Nat.le_refl _⟩ dX1_peek_1 (fun H locs Z => ?_)
  refine nw_if_eq (tgt := 9) hx hb (by omega) dX1_peek_4 (by decide) (fun h_4 => ?_) (fun h_4 => ?_)
  · skip
    exact absurd h_4 (by decide)
  · skip
    refine lv_iconst (v := -1) hx hb dX1_peek_7 (by decide) ?_
    exact ll_reti X hr hlk Z rfl rfl dX1_peek_8
set_option maxHeartbeats 4000000 in
set_option maxRecDepth 100000 in
theorem ll_k_ends_bad (l : Launch) {σ : ll_St} {x b : Int32} (hbad : x < 0 ∨ 1 < x) : ll_Mi l yX1_ends wsX1_ends rmX1_ends [.int x, .int b] σ σ (nI 0) := by
  refine ll_ofWi (Nat.le_of_ble_eq_true rfl) (fun p e st m args below meth c D h ad cI cZ A X hr hlk Z ls hl => ?_)
  have hx := X.1
  have hb := X.2.1
  have hl : lv_has ls 4 [(0, .ref h), (1, .int x), (2, .int b)] := hl
  refine lv_iload_n hx hb dX1_ends_0 rfl (lv_at hl 1 rfl) ?_
  refine ll_calls X Z (ll_k_bad1 l hbad) (cwX1_bad X.2.2.2.2 ⟨by decide, by decide⟩) rfl hl.1 rfl (Nat.le_of_ble_eq_true rfl) ⟨Nat.le_refl _, Nat.le_refl _⟩ dX1_ends_1 (fun H locs Z => ?_)
  refine nw_if_eq (tgt := 9) hx hb (by omega) dX1_ends_4 (by decide) (fun h_4 => ?_) (fun h_4 => ?_)
  · skip
    exact absurd h_4 (by decide)
  · skip
    refine nw_iconst hx hb 0 dX1_ends_7 (by decide) ?_
    exact ll_retz X hr hlk Z rfl (by decide) rfl dX1_ends_8
set_option maxHeartbeats 4000000 in
set_option maxRecDepth 100000 in
theorem ll_k_done_bad (l : Launch) {σ : ll_St} {x : Int32} (hbad : x < 0 ∨ 1 < x) : ll_Mi l yX1_done wsX1_done rmX1_done [.int x] σ σ (-1) := by
  refine ll_ofWi (Nat.le_of_ble_eq_true rfl) (fun p e st m args below meth c D h ad cI cZ A X hr hlk Z ls hl => ?_)
  have hx := X.1
  have hb := X.2.1
  have hl : lv_has ls 2 [(0, .ref h), (1, .int x)] := hl
  refine lv_iload_n hx hb dX1_done_0 rfl (lv_at hl 1 rfl) ?_
  refine ll_calls X Z (ll_k_bad1 l hbad) (cwX1_bad X.2.2.2.2 ⟨by decide, by decide⟩) rfl hl.1 rfl (Nat.le_of_ble_eq_true rfl) ⟨Nat.le_refl _, Nat.le_refl _⟩ dX1_done_1 (fun H locs Z => ?_)
  refine nw_if_eq (tgt := 11) hx hb (by omega) dX1_done_4 (by decide) (fun h_4 => ?_) (fun h_4 => ?_)
  · skip
    exact absurd h_4 (by decide)
  · skip
    refine lv_iconst (v := -1) hx hb dX1_done_7 (by decide) ?_
    refine lv_goto (tgt := 17) hx hb dX1_done_8 (by decide) ?_
    exact ll_reti X hr hlk Z rfl rfl dX1_done_17
set_option maxHeartbeats 4000000 in
set_option maxRecDepth 100000 in
theorem ll_k_sum_bad (l : Launch) {σ : ll_St} {x : Int32} (hbad : x < 0 ∨ 1 < x) : ll_Mi l yX1_sum wsX1_sum rmX1_sum [.int x] σ σ (-1) := by
  refine ll_ofWi (Nat.le_of_ble_eq_true rfl) (fun p e st m args below meth c D h ad cI cZ A X hr hlk Z ls hl => ?_)
  have hx := X.1
  have hb := X.2.1
  have hl : lv_has ls 5 [(0, .ref h), (1, .int x)] := hl
  refine lv_iload_n hx hb dX1_sum_0 rfl (lv_at hl 1 rfl) ?_
  refine ll_calls X Z (ll_k_bad1 l hbad) (cwX1_bad X.2.2.2.2 ⟨by decide, by decide⟩) rfl hl.1 rfl (Nat.le_of_ble_eq_true rfl) ⟨Nat.le_refl _, Nat.le_refl _⟩ dX1_sum_1 (fun H locs Z => ?_)
  refine nw_if_eq (tgt := 9) hx hb (by omega) dX1_sum_4 (by decide) (fun h_4 => ?_) (fun h_4 => ?_)
  · skip
    exact absurd h_4 (by decide)
  · skip
    refine lv_iconst (v := -1) hx hb dX1_sum_7 (by decide) ?_
    exact ll_reti X hr hlk Z rfl rfl dX1_sum_8
end
section
set_option maxHeartbeats 4000000 in
set_option maxRecDepth 100000 in
theorem ll_k_give_byte (l : Launch) {σ : ll_St} {s : Nat} {b d : Int32} (hs : s < 2) (hbyte : b < 0 ∨ 255 < b) : ll_Mi l yX1_give wsX1_give rmX1_give [.int (nI s), .int b, .int d] σ σ (-4) := by
  refine ll_ofWi (Nat.le_of_ble_eq_true rfl) (fun p e st m args below meth c D h ad cI cZ A X hr hlk Z ls hl => ?_)
  have hx := X.1
  have hb := X.2.1
  have hl : lv_has ls 5 [(0, .ref h), (1, .int (nI s)), (2, .int b), (3, .int d)] := hl
  refine lv_iload_n hx hb dX1_give_0 rfl (lv_at hl 1 rfl) ?_
  refine ll_calls X Z (ll_k_bad0 l hs) (cwX1_bad X.2.2.2.2 ⟨by decide, by decide⟩) rfl hl.1 rfl (Nat.le_of_ble_eq_true rfl) ⟨Nat.le_refl _, Nat.le_refl _⟩ dX1_give_1 (fun H locs Z => ?_)
  refine nw_if_eq (tgt := 9) hx hb (by omega) dX1_give_4 (by decide) (fun h_4 => ?_) (fun h_4 => ?_)
  · skip
    refine lv_iload_n hx hb dX1_give_9 rfl (lv_at hl 2 rfl) ?_
    refine lv_if_lt (tgt := 20) hx hb dX1_give_10 (by decide) (fun h_10 => ?_) (fun h_10 => ?_)
    · skip
      refine lv_bipush (v := -4) hx hb dX1_give_20 (by decide) ?_
      exact ll_reti X hr hlk Z rfl rfl dX1_give_22
    · skip
      refine lv_iload_n hx hb dX1_give_13 rfl (lv_at hl 2 rfl) ?_
      refine nw_sipush hx hb 255 dX1_give_14 (by decide) ?_
      refine lv_icmp_le (tgt := 23) hx hb dX1_give_17 (by decide) (fun h_17 => ?_) (fun h_17 => ?_)
      · skip
        exact absurd h_17 (fun q => by rcases hbyte with z | z; exact h_10 z; exact absurd (Int32.lt_of_lt_of_le z q) (by decide))
      · skip
        refine lv_bipush (v := -4) hx hb dX1_give_20 (by decide) ?_
        exact ll_reti X hr hlk Z rfl rfl dX1_give_22
  · skip
    exact absurd rfl h_4
set_option maxHeartbeats 4000000 in
set_option maxRecDepth 100000 in
theorem ll_k_give_full (l : Launch) {σ : ll_St} (hok : ll_ok σ) {s b d : Nat} (hs : s < 2) (hb5 : b < 256) (hle : (σ 6 (1 - s) + 8 - σ 4 s) % 8 ≤ σ 10 (1 - s) + σ 2 s) (hw : ll_wos s σ < 2 ^ 31) (hfull : 30 ≤ ll_wos s σ) : ll_Mi l yX1_give wsX1_give rmX1_give [.int (nI s), .int (nI b), .int (nI d)] σ σ (-2) := by
  refine ll_ofWi (Nat.le_of_ble_eq_true rfl) (fun p e st m args below meth c D h ad cI cZ A X hr hlk Z ls hl => ?_)
  have hx := X.1
  have hb := X.2.1
  have hl : lv_has ls 5 [(0, .ref h), (1, .int (nI s)), (2, .int (nI b)), (3, .int (nI d))] := hl
  refine lv_iload_n hx hb dX1_give_0 rfl (lv_at hl 1 rfl) ?_
  refine ll_calls X Z (ll_k_bad0 l hs) (cwX1_bad X.2.2.2.2 ⟨by decide, by decide⟩) rfl hl.1 rfl (Nat.le_of_ble_eq_true rfl) ⟨Nat.le_refl _, Nat.le_refl _⟩ dX1_give_1 (fun H locs Z => ?_)
  refine nw_if_eq (tgt := 9) hx hb (by omega) dX1_give_4 (by decide) (fun h_4 => ?_) (fun h_4 => ?_)
  · skip
    refine lv_iload_n hx hb dX1_give_9 rfl (lv_at hl 2 rfl) ?_
    refine nw_if_lt (tgt := 20) hx hb (by omega) dX1_give_10 (by decide) ?_
    refine lv_iload_n hx hb dX1_give_13 rfl (lv_at hl 2 rfl) ?_
    refine nw_sipush hx hb 255 dX1_give_14 (by decide) ?_
    refine nw_icmp_le (tgt := 23) hx hb (by omega) (by omega) dX1_give_17 (by decide) (fun h_17 => ?_) (fun h_17 => ?_)
    · skip
      refine lv_aload_n hx hb dX1_give_23 rfl (lv_at hl 0 rfl) ?_
      refine lv_iload_n hx hb dX1_give_24 rfl (lv_at hl 1 rfl) ?_
      refine ll_calli X Z (ll_k_waitingOrSent l hok hs hle) (cwX1_waitingOrSent X.2.2.2.2 ⟨by decide, by decide⟩) rfl hl.1 rfl (Nat.le_of_ble_eq_true rfl) ⟨Nat.le_refl _, Nat.le_refl _⟩ dX1_give_25 (fun H locs Z => ?_)
      refine lv_istore (lv' := [(4, .int (nI (ll_wos s σ))), (0, .ref h), (1, .int (nI s)), (2, .int (nI b)), (3, .int (nI d))]) hx hb dX1_give_28 hl (by decide) rfl (fun ls hl => ?_)
      refine lv_iload hx hb dX1_give_30 (lv_at hl 0 rfl) ?_
      refine nw_bipush hx hb 30 dX1_give_32 (by decide) ?_
      refine nw_icmp_lt (tgt := 40) hx hb (by omega) (by omega) dX1_give_34 (by decide) (fun h_34 => ?_) (fun h_34 => ?_)
      · skip
        exact absurd h_34 (by omega)
      · skip
        refine lv_bipush (v := -2) hx hb dX1_give_37 (by decide) ?_
        exact ll_reti X hr hlk Z rfl rfl dX1_give_39
    · skip
      exact absurd (show b ≤ 255 by omega) h_17
  · skip
    exact absurd rfl h_4
set_option maxHeartbeats 4000000 in
set_option maxRecDepth 100000 in
theorem ll_k_give_ok (l : Launch) {σ : ll_St} (hok : ll_ok σ) {s b d : Nat} (hs : s < 2) (hb5 : b < 256) (hd : d < 2) (hle : (σ 6 (1 - s) + 8 - σ 4 s) % 8 ≤ σ 10 (1 - s) + σ 2 s) (hw : ll_wos s σ < 2 ^ 31) (h2 : σ 2 s < 64) (hfull : ll_wos s σ < 30) : ll_Mi l yX1_give wsX1_give rmX1_give [.int (nI s), .int (nI b), .int (nI d)] σ (ll_gv s (if d = 0 then b else b ||| 256) σ) (nI (ll_wos s σ + 1)) := by
  refine ll_ofWi (Nat.le_of_ble_eq_true rfl) (fun p e st m args below meth c D h ad cI cZ A X hr hlk Z ls hl => ?_)
  have hx := X.1
  have hb := X.2.1
  have hl : lv_has ls 5 [(0, .ref h), (1, .int (nI s)), (2, .int (nI b)), (3, .int (nI d))] := hl
  have hor : b ||| 256 < 512 := Nat.or_lt_two_pow (n := 9) (by omega) (by omega)
  have o52 := hok.2.2 s
  refine lv_iload_n hx hb dX1_give_0 rfl (lv_at hl 1 rfl) ?_
  refine ll_calls X Z (ll_k_bad0 l hs) (cwX1_bad X.2.2.2.2 ⟨by decide, by decide⟩) rfl hl.1 rfl (Nat.le_of_ble_eq_true rfl) ⟨Nat.le_refl _, Nat.le_refl _⟩ dX1_give_1 (fun H locs Z => ?_)
  refine nw_if_eq (tgt := 9) hx hb (by omega) dX1_give_4 (by decide) (fun h_4 => ?_) (fun h_4 => ?_)
  · skip
    refine lv_iload_n hx hb dX1_give_9 rfl (lv_at hl 2 rfl) ?_
    refine nw_if_lt (tgt := 20) hx hb (by omega) dX1_give_10 (by decide) ?_
    refine lv_iload_n hx hb dX1_give_13 rfl (lv_at hl 2 rfl) ?_
    refine nw_sipush hx hb 255 dX1_give_14 (by decide) ?_
    refine nw_icmp_le (tgt := 23) hx hb (by omega) (by omega) dX1_give_17 (by decide) (fun h_17 => ?_) (fun h_17 => ?_)
    · skip
      refine lv_aload_n hx hb dX1_give_23 rfl (lv_at hl 0 rfl) ?_
      refine lv_iload_n hx hb dX1_give_24 rfl (lv_at hl 1 rfl) ?_
      refine ll_calli X Z (ll_k_waitingOrSent l hok hs hle) (cwX1_waitingOrSent X.2.2.2.2 ⟨by decide, by decide⟩) rfl hl.1 rfl (Nat.le_of_ble_eq_true rfl) ⟨Nat.le_refl _, Nat.le_refl _⟩ dX1_give_25 (fun H locs Z => ?_)
      refine lv_istore (lv' := [(4, .int (nI (ll_wos s σ))), (0, .ref h), (1, .int (nI s)), (2, .int (nI b)), (3, .int (nI d))]) hx hb dX1_give_28 hl (by decide) rfl (fun ls hl => ?_)
      refine lv_iload hx hb dX1_give_30 (lv_at hl 0 rfl) ?_
      refine nw_bipush hx hb 30 dX1_give_32 (by decide) ?_
      refine nw_icmp_lt (tgt := 40) hx hb (by omega) (by omega) dX1_give_34 (by decide) (fun h_34 => ?_) (fun h_34 => ?_)
      · skip
        refine lv_aload_n hx hb dX1_give_40 rfl (lv_at hl 1 rfl) ?_
        refine ll_g3 X Z dX1_give_41 ?_
        refine lv_iload_n hx hb dX1_give_44 rfl (lv_at hl 2 rfl) ?_
        refine nw_bipush hx hb 32 dX1_give_45 (by decide) ?_
        refine nw_imul hx hb dX1_give_47 ?_
        refine lv_aload_n hx hb dX1_give_48 rfl (lv_at hl 1 rfl) ?_
        refine ll_g1 X Z dX1_give_49 ?_
        refine lv_iload_n hx hb dX1_give_52 rfl (lv_at hl 2 rfl) ?_
        refine ll_ld1 X Z (by omega) dX1_give_53 ?_
        refine lv_aload_n hx hb dX1_give_54 rfl (lv_at hl 1 rfl) ?_
        refine ll_g2 X Z dX1_give_55 ?_
        refine lv_iload_n hx hb dX1_give_58 rfl (lv_at hl 2 rfl) ?_
        refine ll_ld2 X Z (by omega) dX1_give_59 ?_
        refine nw_iadd hx hb dX1_give_60 ?_
        refine nw_bipush hx hb 31 dX1_give_61 (by decide) ?_
        refine nw_iand hx hb 32 5 rfl rfl (by decide) dX1_give_63 ?_
        refine nw_iadd hx hb dX1_give_64 ?_
        refine lv_iload_n hx hb dX1_give_65 rfl (lv_at hl 4 rfl) ?_
        refine nw_if_eq (tgt := 77) hx hb (by omega) dX1_give_66 (by decide) (fun h_66 => ?_) (fun h_66 => ?_)
        · skip
          refine lv_iload_n hx hb dX1_give_77 rfl (lv_at hl 3 rfl) ?_
          refine ll_st3 X Z (by omega) dX1_give_78 (fun H locs Z => ?_)
          refine lv_aload_n hx hb dX1_give_79 rfl (lv_at hl 1 rfl) ?_
          refine ll_g2 X Z dX1_give_80 ?_
          refine lv_iload_n hx hb dX1_give_83 rfl (lv_at hl 2 rfl) ?_
          refine lv_dup2_11 hx hb dX1_give_84 rfl rfl ?_
          refine ll_ld2 X Z (by omega) dX1_give_85 ?_
          refine nw_as (σ 2 s) (by simp [ll_set]) ?_
          refine nw_iconst hx hb 1 dX1_give_86 (by decide) ?_
          refine nw_iadd hx hb dX1_give_87 ?_
          refine ll_st2 X Z (by omega) dX1_give_88 (fun H locs Z => ?_)
          refine lv_aload_n hx hb dX1_give_89 rfl (lv_at hl 1 rfl) ?_
          refine lv_iload_n hx hb dX1_give_90 rfl (lv_at hl 2 rfl) ?_
          refine ll_callv X Z (ll_k_sendMore l (σ := (ll_set (ll_set σ 3 ((s * 32) + (((σ 1 s) + (σ 2 s)) % 32)) b) 2 s ((σ 2 s) + 1))) (ll_ok_set (ll_ok_set' hok (by decide) (fun _ _ => (show b < 512 by omega))) (by decide) (fun _ _ => show σ 2 s + 1 < 65 by omega) (fun q => absurd q (by decide)) (fun _ => by rw [ll_c σ (by decide)]; omega)) hs) (cwX1_sendMore X.2.2.2.2 ⟨by decide, by decide⟩) rfl hl.1 rfl (Nat.le_of_ble_eq_true rfl) ⟨Nat.le_refl _, Nat.le_refl _⟩ dX1_give_91 (fun H locs Z => ?_)
          refine lv_iload hx hb dX1_give_94 (lv_at hl 0 rfl) ?_
          refine nw_iconst hx hb 1 dX1_give_96 (by decide) ?_
          refine nw_iadd hx hb dX1_give_97 ?_
          exact ll_reti X hr hlk Z (by rw [if_pos h_66]; rfl) rfl dX1_give_98
        · skip
          refine lv_iload_n hx hb dX1_give_69 rfl (lv_at hl 3 rfl) ?_
          refine nw_sipush hx hb 256 dX1_give_70 (by decide) ?_
          refine nw_ior hx hb dX1_give_73 ?_
          refine lv_goto (tgt := 78) hx hb dX1_give_74 (by decide) ?_
          refine ll_st3 X Z (by omega) dX1_give_78 (fun H locs Z => ?_)
          refine lv_aload_n hx hb dX1_give_79 rfl (lv_at hl 1 rfl) ?_
          refine ll_g2 X Z dX1_give_80 ?_
          refine lv_iload_n hx hb dX1_give_83 rfl (lv_at hl 2 rfl) ?_
          refine lv_dup2_11 hx hb dX1_give_84 rfl rfl ?_
          refine ll_ld2 X Z (by omega) dX1_give_85 ?_
          refine nw_as (σ 2 s) (by simp [ll_set]) ?_
          refine nw_iconst hx hb 1 dX1_give_86 (by decide) ?_
          refine nw_iadd hx hb dX1_give_87 ?_
          refine ll_st2 X Z (by omega) dX1_give_88 (fun H locs Z => ?_)
          refine lv_aload_n hx hb dX1_give_89 rfl (lv_at hl 1 rfl) ?_
          refine lv_iload_n hx hb dX1_give_90 rfl (lv_at hl 2 rfl) ?_
          refine ll_callv X Z (ll_k_sendMore l (σ := (ll_set (ll_set σ 3 ((s * 32) + (((σ 1 s) + (σ 2 s)) % 32)) (b ||| 256)) 2 s ((σ 2 s) + 1))) (ll_ok_set (ll_ok_set' hok (by decide) (fun _ _ => hor)) (by decide) (fun _ _ => show σ 2 s + 1 < 65 by omega) (fun q => absurd q (by decide)) (fun _ => by rw [ll_c σ (by decide)]; omega)) hs) (cwX1_sendMore X.2.2.2.2 ⟨by decide, by decide⟩) rfl hl.1 rfl (Nat.le_of_ble_eq_true rfl) ⟨Nat.le_refl _, Nat.le_refl _⟩ dX1_give_91 (fun H locs Z => ?_)
          refine lv_iload hx hb dX1_give_94 (lv_at hl 0 rfl) ?_
          refine nw_iconst hx hb 1 dX1_give_96 (by decide) ?_
          refine nw_iadd hx hb dX1_give_97 ?_
          exact ll_reti X hr hlk Z (by rw [if_neg h_66]; rfl) rfl dX1_give_98
      · skip
        exact absurd hfull h_34
    · skip
      exact absurd (show b ≤ 255 by omega) h_17
  · skip
    exact absurd rfl h_4
set_option maxHeartbeats 4000000 in
set_option maxRecDepth 100000 in
theorem ll_k_take_e (l : Launch) {σ : ll_St} (hok : ll_ok σ) {s : Nat} (hs : s < 2) (he : (ll_stl 200 σ) 10 s = 0) : ll_Mi l yX1_take wsX1_take rmX1_take [.int (nI s)] σ (ll_stl 200 σ) (-3) := by
  refine ll_ofWi (Nat.le_of_ble_eq_true rfl) (fun p e st m args below meth c D h ad cI cZ A X hr hlk Z ls hl => ?_)
  have hx := X.1
  have hb := X.2.1
  have hl : lv_has ls 4 [(0, .ref h), (1, .int (nI s))] := hl
  refine lv_iload_n hx hb dX1_take_0 rfl (lv_at hl 1 rfl) ?_
  refine ll_calls X Z (ll_k_bad0 l hs) (cwX1_bad X.2.2.2.2 ⟨by decide, by decide⟩) rfl hl.1 rfl (Nat.le_of_ble_eq_true rfl) ⟨Nat.le_refl _, Nat.le_refl _⟩ dX1_take_1 (fun H locs Z => ?_)
  refine nw_if_eq (tgt := 9) hx hb (by omega) dX1_take_4 (by decide) (fun h_4 => ?_) (fun h_4 => ?_)
  · skip
    refine lv_aload_n hx hb dX1_take_9 rfl (lv_at hl 0 rfl) ?_
    refine lv_iload_n hx hb dX1_take_10 rfl (lv_at hl 1 rfl) ?_
    refine ll_calli X Z (ll_k_waitingFor l hok hs) (cwX1_waitingFor X.2.2.2.2 ⟨by decide, by decide⟩) rfl hl.1 rfl (Nat.le_of_ble_eq_true rfl) ⟨Nat.le_refl _, Nat.le_refl _⟩ dX1_take_11 (fun H locs Z => ?_)
    refine lv_istore_n (lv' := [(2, .int (nI ((ll_stl 200 σ) 10 s))), (0, .ref h), (1, .int (nI s))]) hx hb dX1_take_14 rfl hl (by decide) rfl (fun ls hl => ?_)
    refine lv_iload_n hx hb dX1_take_15 rfl (lv_at hl 0 rfl) ?_
    refine nw_if_ne (tgt := 22) hx hb (by omega) dX1_take_16 (by decide) (fun h_16 => ?_) (fun h_16 => ?_)
    · skip
      exact absurd he h_16
    · skip
      refine lv_bipush (v := -3) hx hb dX1_take_19 (by decide) ?_
      exact ll_reti X hr hlk Z rfl rfl dX1_take_21
  · skip
    exact absurd rfl h_4
set_option maxHeartbeats 4000000 in
set_option maxRecDepth 100000 in
theorem ll_k_take_ok (l : Launch) {σ : ll_St} (hok : ll_ok σ) {s : Nat} (hs : s < 2) (hg : (ll_stl 200 σ) 10 s < 2 ^ 31) (he : ¬ (ll_stl 200 σ) 10 s = 0) : ll_Mi l yX1_take wsX1_take rmX1_take [.int (nI s)] σ (ll_to s (ll_stl 200 σ)) (nI ((ll_stl 200 σ) 11 (s * 32 + (ll_stl 200 σ) 9 s) % 256)) := by
  refine ll_ofWi (Nat.le_of_ble_eq_true rfl) (fun p e st m args below meth c D h ad cI cZ A X hr hlk Z ls hl => ?_)
  have hx := X.1
  have hb := X.2.1
  have hl : lv_has ls 4 [(0, .ref h), (1, .int (nI s))] := hl
  refine lv_iload_n hx hb dX1_take_0 rfl (lv_at hl 1 rfl) ?_
  refine ll_calls X Z (ll_k_bad0 l hs) (cwX1_bad X.2.2.2.2 ⟨by decide, by decide⟩) rfl hl.1 rfl (Nat.le_of_ble_eq_true rfl) ⟨Nat.le_refl _, Nat.le_refl _⟩ dX1_take_1 (fun H locs Z => ?_)
  refine nw_if_eq (tgt := 9) hx hb (by omega) dX1_take_4 (by decide) (fun h_4 => ?_) (fun h_4 => ?_)
  · skip
    refine lv_aload_n hx hb dX1_take_9 rfl (lv_at hl 0 rfl) ?_
    refine lv_iload_n hx hb dX1_take_10 rfl (lv_at hl 1 rfl) ?_
    refine ll_calli X Z (ll_k_waitingFor l hok hs) (cwX1_waitingFor X.2.2.2.2 ⟨by decide, by decide⟩) rfl hl.1 rfl (Nat.le_of_ble_eq_true rfl) ⟨Nat.le_refl _, Nat.le_refl _⟩ dX1_take_11 (fun H locs Z => ?_)
    refine lv_istore_n (lv' := [(2, .int (nI ((ll_stl 200 σ) 10 s))), (0, .ref h), (1, .int (nI s))]) hx hb dX1_take_14 rfl hl (by decide) rfl (fun ls hl => ?_)
    refine lv_iload_n hx hb dX1_take_15 rfl (lv_at hl 0 rfl) ?_
    refine nw_if_ne (tgt := 22) hx hb (by omega) dX1_take_16 (by decide) (fun h_16 => ?_) (fun h_16 => ?_)
    · skip
      refine lv_aload_n hx hb dX1_take_22 rfl (lv_at hl 1 rfl) ?_
      refine lv_iload_n hx hb dX1_take_23 rfl (lv_at hl 2 rfl) ?_
      refine ll_calli X Z (ll_k_takeOne l (σ := (ll_stl 200 σ)) (ll_ok_stl 200 hok) hs (by omega)) (cwX1_takeOne X.2.2.2.2 ⟨by decide, by decide⟩) rfl hl.1 rfl (Nat.le_of_ble_eq_true rfl) ⟨Nat.le_refl _, Nat.le_refl _⟩ dX1_take_24 (fun H locs Z => ?_)
      refine lv_istore_n (lv' := [(3, .int (nI ((ll_stl 200 σ) 11 (s * 32 + (ll_stl 200 σ) 9 s)))), (2, .int (nI ((ll_stl 200 σ) 10 s))), (0, .ref h), (1, .int (nI s))]) hx hb dX1_take_27 rfl hl (by decide) rfl (fun ls hl => ?_)
      refine lv_iload_n hx hb dX1_take_28 rfl (lv_at hl 0 rfl) ?_
      refine nw_sipush hx hb 255 dX1_take_29 (by decide) ?_
      refine nw_iand hx hb 256 8 rfl rfl (by decide) dX1_take_32 ?_
      exact ll_reti X hr hlk Z rfl rfl dX1_take_33
    · skip
      exact absurd h_16 he
  · skip
    exact absurd rfl h_4
def ll_tmO (s : Nat) : Nat → Nat → ll_St → Prop
  | 0, _, _ => True
  | n + 1, b, σ => b < 256 → 1 ≤ σ 10 s ∧ ll_tmO s n (σ 11 (s * 32 + σ 9 s)) (ll_to s σ)
set_option maxHeartbeats 4000000 in
set_option maxRecDepth 100000 in
theorem ll_l_takeMessage {p : Program} {l : Launch} {e : Env} {st : State} {m : MethodId} {args : Array Value} {below : List Frame} {meth : Method} {c : Code} {D : va_G} {h : Nat} {ad : Nat → Nat} {cI cZ : ClassId} {A : Nat → Prop} {s e2 : Nat} (hs : s < 2) (X : ll_C p m c cX1_takeMessage 6 st args) (hr : meth.sig.returnType = some .int) (hlk : meth.locks = false) : ∀ (n i a b : Nat) (σ : ll_St), i + n = 30 → b < 512 → ll_ok σ → ll_tmO s n b σ → ∀ (H : Heap) (locs : List Loc), ll_Z D h ad cI cZ A st σ H locs → ∀ ls : Array Slot, lv_has ls 6 [(5, .int (nI i)), (4, .int (nI b)), (3, .int (nI a)), (2, .int (nI e2)), (0, .ref h), (1, .int (nI s))] → W p l e rmX1_takeMessage st m args below meth c H locs 0 0 (ll_Ei D h ad cI cZ A below args st (ll_tmL s n a b σ).2 (nI (ll_tmL s n a b σ).1)) (F0 m 38 ls []) := by
  have hx := X.1
  have hb := X.2.1
  intro n
  induction n with
  | zero =>
    intro i a b σ hn hb5 hok hO H locs Z ls hl
    refine lv_iload hx hb dX1_takeMessage_38 (lv_at hl 0 rfl) ?_
    refine nw_bipush hx hb 30 dX1_takeMessage_40 (by decide) ?_
    refine nw_icmp_ge (tgt := 69) hx hb (by omega) (by omega) dX1_takeMessage_42 (by decide) (fun h_42 => ?_) (fun h_42 => ?_)
    · skip
      refine lv_iload_n hx hb dX1_takeMessage_69 rfl (lv_at hl 2 rfl) ?_
      exact ll_reti X hr hlk Z rfl rfl dX1_takeMessage_70
    · skip
      exact absurd (show 30 ≤ i by omega) h_42
  | succ n ih =>
    intro i a b σ hn hb5 hok hO H locs Z ls hl
    refine lv_iload hx hb dX1_takeMessage_38 (lv_at hl 0 rfl) ?_
    refine nw_bipush hx hb 30 dX1_takeMessage_40 (by decide) ?_
    refine nw_icmp_ge (tgt := 69) hx hb (by omega) (by omega) dX1_takeMessage_42 (by decide) (fun h_42 => ?_) (fun h_42 => ?_)
    · skip
      exact absurd h_42 (by omega)
    · skip
      refine lv_iload hx hb dX1_takeMessage_45 (lv_at hl 1 rfl) ?_
      refine nw_sipush hx hb 256 dX1_takeMessage_47 (by decide) ?_
      refine nw_icmp_ge (tgt := 69) hx hb (by omega) (by omega) dX1_takeMessage_50 (by decide) (fun h_50 => ?_) (fun h_50 => ?_)
      · skip
        refine lv_iload_n hx hb dX1_takeMessage_69 rfl (lv_at hl 2 rfl) ?_
        exact ll_reti X hr hlk Z (by rw [show ll_tmL s (n + 1) a b σ = (a, σ) from if_neg (by omega)]) (by rw [show ll_tmL s (n + 1) a b σ = (a, σ) from if_neg (by omega)]) dX1_takeMessage_70
      · skip
        refine lv_aload_n hx hb dX1_takeMessage_53 rfl (lv_at hl 4 rfl) ?_
        refine lv_iload_n hx hb dX1_takeMessage_54 rfl (lv_at hl 5 rfl) ?_
        refine ll_calli X Z (ll_k_takeOne l hok hs (hO (by omega)).1) (cwX1_takeOne X.2.2.2.2 ⟨by decide, by decide⟩) rfl hl.1 rfl (Nat.le_of_ble_eq_true rfl) ⟨Nat.le_refl _, Nat.le_refl _⟩ dX1_takeMessage_55 (fun H locs Z => ?_)
        refine lv_istore (lv' := [(4, .int (nI (σ 11 (s * 32 + σ 9 s)))), (5, .int (nI i)), (3, .int (nI a)), (2, .int (nI e2)), (0, .ref h), (1, .int (nI s))]) hx hb dX1_takeMessage_58 hl (by decide) rfl (fun ls hl => ?_)
        refine lv_iinc (v := (nI (a + 1))) (lv' := [(3, .int (nI (a + 1))), (4, .int (nI (σ 11 (s * 32 + σ 9 s)))), (5, .int (nI i)), (2, .int (nI e2)), (0, .ref h), (1, .int (nI s))]) hx hb dX1_takeMessage_60 hl (k := 2) rfl (nI_1 _) (by decide) rfl (fun ls hl => ?_)
        refine lv_iinc (v := (nI (i + 1))) (lv' := [(5, .int (nI (i + 1))), (3, .int (nI (a + 1))), (4, .int (nI (σ 11 (s * 32 + σ 9 s)))), (2, .int (nI e2)), (0, .ref h), (1, .int (nI s))]) hx hb dX1_takeMessage_63 hl (k := 2) rfl (nI_1 _) (by decide) rfl (fun ls hl => ?_)
        refine lv_goto (tgt := 38) hx hb dX1_takeMessage_66 (by decide) ?_
        have hO2 := hO (by omega)
        have e0 : ll_tmL s (n + 1) a b σ = ll_tmL s n (a + 1) (σ 11 (s * 32 + σ 9 s)) (ll_to s σ) := if_pos (by omega)
        rw [e0]
        exact ih (i + 1) _ _ _ (by omega) (hok.1 11 _ (by decide) (by decide)) (ll_ok_to hok) hO2.2 H locs Z ls (lv_sub hl [0, 2, 1, 3, 4, 5] rfl)
set_option maxHeartbeats 4000000 in
set_option maxRecDepth 100000 in
theorem ll_k_takeMessage_e (l : Launch) {σ : ll_St} (hok : ll_ok σ) {s : Nat} (hs : s < 2) (hg : (ll_stl 200 σ) 10 s < 2 ^ 31) (he : ll_mkL s (ll_stl 200 σ) ((ll_stl 200 σ) 10 s) 0 0 = 0) : ll_Mi l yX1_takeMessage wsX1_takeMessage rmX1_takeMessage [.int (nI s)] σ (ll_stl 200 σ) (-3) := by
  refine ll_ofWi (Nat.le_of_ble_eq_true rfl) (fun p e st m args below meth c D h ad cI cZ A X hr hlk Z ls hl => ?_)
  have hx := X.1
  have hb := X.2.1
  have hl : lv_has ls 6 [(0, .ref h), (1, .int (nI s))] := hl
  refine lv_iload_n hx hb dX1_takeMessage_0 rfl (lv_at hl 1 rfl) ?_
  refine ll_calls X Z (ll_k_bad0 l hs) (cwX1_bad X.2.2.2.2 ⟨by decide, by decide⟩) rfl hl.1 rfl (Nat.le_of_ble_eq_true rfl) ⟨Nat.le_refl _, Nat.le_refl _⟩ dX1_takeMessage_1 (fun H locs Z => ?_)
  refine nw_if_eq (tgt := 9) hx hb (by omega) dX1_takeMessage_4 (by decide) (fun h_4 => ?_) (fun h_4 => ?_)
  · skip
    refine lv_aload_n hx hb dX1_takeMessage_9 rfl (lv_at hl 0 rfl) ?_
    refine ll_callv X Z (ll_k_settle l hok) (cwX1_settle X.2.2.2.2 ⟨by decide, by decide⟩) rfl hl.1 rfl (Nat.le_of_ble_eq_true rfl) ⟨Nat.le_refl _, Nat.le_refl _⟩ dX1_takeMessage_10 (fun H locs Z => ?_)
    refine lv_aload_n hx hb dX1_takeMessage_13 rfl (lv_at hl 0 rfl) ?_
    refine lv_iload_n hx hb dX1_takeMessage_14 rfl (lv_at hl 1 rfl) ?_
    refine ll_calli X Z (ll_k_marked l (σ := (ll_stl 200 σ)) (ll_ok_stl 200 hok) hs hg) (cwX1_marked X.2.2.2.2 ⟨by decide, by decide⟩) rfl hl.1 rfl (Nat.le_of_ble_eq_true rfl) ⟨Nat.le_refl _, Nat.le_refl _⟩ dX1_takeMessage_15 (fun H locs Z => ?_)
    refine lv_istore_n (lv' := [(2, .int (nI (ll_mkL s (ll_stl 200 σ) ((ll_stl 200 σ) 10 s) 0 0))), (0, .ref h), (1, .int (nI s))]) hx hb dX1_takeMessage_18 rfl hl (by decide) rfl (fun ls hl => ?_)
    refine lv_iload_n hx hb dX1_takeMessage_19 rfl (lv_at hl 0 rfl) ?_
    refine nw_if_ne (tgt := 26) hx hb (by rw [he]; decide) dX1_takeMessage_20 (by decide) (fun h_20 => ?_) (fun h_20 => ?_)
    · skip
      exact absurd he h_20
    · skip
      refine lv_bipush (v := -3) hx hb dX1_takeMessage_23 (by decide) ?_
      exact ll_reti X hr hlk Z rfl rfl dX1_takeMessage_25
  · skip
    exact absurd rfl h_4
set_option maxHeartbeats 4000000 in
set_option maxRecDepth 100000 in
theorem ll_k_takeMessage_ok (l : Launch) {σ : ll_St} (hok : ll_ok σ) {s : Nat} (hs : s < 2) (hg : (ll_stl 200 σ) 10 s < 2 ^ 31) (hm : ll_mkL s (ll_stl 200 σ) ((ll_stl 200 σ) 10 s) 0 0 < 2 ^ 31) (he : ¬ ll_mkL s (ll_stl 200 σ) ((ll_stl 200 σ) 10 s) 0 0 = 0) (h1 : 1 ≤ (ll_stl 200 σ) 10 s) (hO : ll_tmO s 30 ((ll_stl 200 σ) 11 (s * 32 + (ll_stl 200 σ) 9 s)) (ll_to s (ll_stl 200 σ))) : ll_Mi l yX1_takeMessage wsX1_takeMessage rmX1_takeMessage [.int (nI s)] σ ((ll_tmL s 30 1 ((ll_stl 200 σ) 11 (s * 32 + (ll_stl 200 σ) 9 s)) (ll_to s (ll_stl 200 σ))).2) (nI (ll_tmL s 30 1 ((ll_stl 200 σ) 11 (s * 32 + (ll_stl 200 σ) 9 s)) (ll_to s (ll_stl 200 σ))).1) := by
  refine ll_ofWi (Nat.le_of_ble_eq_true rfl) (fun p e st m args below meth c D h ad cI cZ A X hr hlk Z ls hl => ?_)
  have hx := X.1
  have hb := X.2.1
  have hl : lv_has ls 6 [(0, .ref h), (1, .int (nI s))] := hl
  refine lv_iload_n hx hb dX1_takeMessage_0 rfl (lv_at hl 1 rfl) ?_
  refine ll_calls X Z (ll_k_bad0 l hs) (cwX1_bad X.2.2.2.2 ⟨by decide, by decide⟩) rfl hl.1 rfl (Nat.le_of_ble_eq_true rfl) ⟨Nat.le_refl _, Nat.le_refl _⟩ dX1_takeMessage_1 (fun H locs Z => ?_)
  refine nw_if_eq (tgt := 9) hx hb (by omega) dX1_takeMessage_4 (by decide) (fun h_4 => ?_) (fun h_4 => ?_)
  · skip
    refine lv_aload_n hx hb dX1_takeMessage_9 rfl (lv_at hl 0 rfl) ?_
    refine ll_callv X Z (ll_k_settle l hok) (cwX1_settle X.2.2.2.2 ⟨by decide, by decide⟩) rfl hl.1 rfl (Nat.le_of_ble_eq_true rfl) ⟨Nat.le_refl _, Nat.le_refl _⟩ dX1_takeMessage_10 (fun H locs Z => ?_)
    refine lv_aload_n hx hb dX1_takeMessage_13 rfl (lv_at hl 0 rfl) ?_
    refine lv_iload_n hx hb dX1_takeMessage_14 rfl (lv_at hl 1 rfl) ?_
    refine ll_calli X Z (ll_k_marked l (σ := (ll_stl 200 σ)) (ll_ok_stl 200 hok) hs hg) (cwX1_marked X.2.2.2.2 ⟨by decide, by decide⟩) rfl hl.1 rfl (Nat.le_of_ble_eq_true rfl) ⟨Nat.le_refl _, Nat.le_refl _⟩ dX1_takeMessage_15 (fun H locs Z => ?_)
    refine lv_istore_n (lv' := [(2, .int (nI (ll_mkL s (ll_stl 200 σ) ((ll_stl 200 σ) 10 s) 0 0))), (0, .ref h), (1, .int (nI s))]) hx hb dX1_takeMessage_18 rfl hl (by decide) rfl (fun ls hl => ?_)
    refine lv_iload_n hx hb dX1_takeMessage_19 rfl (lv_at hl 0 rfl) ?_
    refine nw_if_ne (tgt := 26) hx hb hm dX1_takeMessage_20 (by decide) (fun h_20 => ?_) (fun h_20 => ?_)
    · skip
      refine nw_iconst hx hb 1 dX1_takeMessage_26 (by decide) ?_
      refine lv_istore_n (lv' := [(3, .int (nI 1)), (2, .int (nI (ll_mkL s (ll_stl 200 σ) ((ll_stl 200 σ) 10 s) 0 0))), (0, .ref h), (1, .int (nI s))]) hx hb dX1_takeMessage_27 rfl hl (by decide) rfl (fun ls hl => ?_)
      refine lv_aload_n hx hb dX1_takeMessage_28 rfl (lv_at hl 2 rfl) ?_
      refine lv_iload_n hx hb dX1_takeMessage_29 rfl (lv_at hl 3 rfl) ?_
      refine ll_calli X Z (ll_k_takeOne l (σ := (ll_stl 200 σ)) (ll_ok_stl 200 hok) hs h1) (cwX1_takeOne X.2.2.2.2 ⟨by decide, by decide⟩) rfl hl.1 rfl (Nat.le_of_ble_eq_true rfl) ⟨Nat.le_refl _, Nat.le_refl _⟩ dX1_takeMessage_30 (fun H locs Z => ?_)
      refine lv_istore (lv' := [(4, .int (nI ((ll_stl 200 σ) 11 (s * 32 + (ll_stl 200 σ) 9 s)))), (3, .int (nI 1)), (2, .int (nI (ll_mkL s (ll_stl 200 σ) ((ll_stl 200 σ) 10 s) 0 0))), (0, .ref h), (1, .int (nI s))]) hx hb dX1_takeMessage_33 hl (by decide) rfl (fun ls hl => ?_)
      refine nw_iconst hx hb 0 dX1_takeMessage_35 (by decide) ?_
      refine lv_istore (lv' := [(5, .int (nI 0)), (4, .int (nI ((ll_stl 200 σ) 11 (s * 32 + (ll_stl 200 σ) 9 s)))), (3, .int (nI 1)), (2, .int (nI (ll_mkL s (ll_stl 200 σ) ((ll_stl 200 σ) 10 s) 0 0))), (0, .ref h), (1, .int (nI s))]) hx hb dX1_takeMessage_36 hl (by decide) rfl (fun ls hl => ?_)
      exact ll_l_takeMessage hs X hr hlk 30 0 1 ((ll_stl 200 σ) 11 (s * 32 + (ll_stl 200 σ) 9 s)) (ll_to s (ll_stl 200 σ)) rfl ((ll_ok_stl 200 hok).1 11 _ (by decide) (by decide)) (ll_ok_to (ll_ok_stl 200 hok)) hO H locs Z ls (lv_sub hl [0, 1, 2, 3, 4, 5] rfl)
    · skip
      exact absurd h_20 he
  · skip
    exact absurd rfl h_4
end
section
set_option maxHeartbeats 4000000 in
set_option maxRecDepth 100000 in
theorem ll_l_skip {p : Program} {l : Launch} {e : Env} {st : State} {m : MethodId} {args : Array Value} {below : List Frame} {meth : Method} {c : Code} {D : va_G} {h : Nat} {ad : Nat → Nat} {cI cZ : ClassId} {A : Nat → Prop} {s N : Nat} (hs : s < 2) (hN : N < 2 ^ 31) (X : ll_C p m c cX1_skip 4 st args) (hr : meth.sig.returnType = some .int) (hlk : meth.locks = false) : ∀ (n i : Nat) (σ : ll_St), i + n = N → σ 10 s = n → ll_ok σ → ∀ (H : Heap) (locs : List Loc), ll_Z D h ad cI cZ A st σ H locs → ∀ ls : Array Slot, lv_has ls 4 [(3, .int (nI i)), (2, .int (nI N)), (0, .ref h), (1, .int (nI s))] → W p l e rmX1_skip st m args below meth c H locs 0 0 (ll_Ei D h ad cI cZ A below args st (ll_skL s n σ) (nI N)) (F0 m 17 ls []) := by
  have hx := X.1
  have hb := X.2.1
  intro n
  induction n with
  | zero =>
    intro i σ hn h10 hok H locs Z ls hl
    refine lv_iload_n hx hb dX1_skip_17 rfl (lv_at hl 0 rfl) ?_
    refine lv_iload_n hx hb dX1_skip_18 rfl (lv_at hl 1 rfl) ?_
    refine nw_icmp_ge (tgt := 34) hx hb (by omega) (by omega) dX1_skip_19 (by decide) (fun h_19 => ?_) (fun h_19 => ?_)
    · skip
      refine lv_iload_n hx hb dX1_skip_34 rfl (lv_at hl 1 rfl) ?_
      exact ll_reti X hr hlk Z rfl rfl dX1_skip_35
    · skip
      exact absurd (show N ≤ i by omega) h_19
  | succ n ih =>
    intro i σ hn h10 hok H locs Z ls hl
    refine lv_iload_n hx hb dX1_skip_17 rfl (lv_at hl 0 rfl) ?_
    refine lv_iload_n hx hb dX1_skip_18 rfl (lv_at hl 1 rfl) ?_
    refine nw_icmp_ge (tgt := 34) hx hb (by omega) (by omega) dX1_skip_19 (by decide) (fun h_19 => ?_) (fun h_19 => ?_)
    · skip
      exact absurd h_19 (by omega)
    · skip
      refine lv_aload_n hx hb dX1_skip_22 rfl (lv_at hl 2 rfl) ?_
      refine lv_iload_n hx hb dX1_skip_23 rfl (lv_at hl 3 rfl) ?_
      refine ll_calli X Z (ll_k_takeOne l hok hs (by omega)) (cwX1_takeOne X.2.2.2.2 ⟨by decide, by decide⟩) rfl hl.1 rfl (Nat.le_of_ble_eq_true rfl) ⟨Nat.le_refl _, Nat.le_refl _⟩ dX1_skip_24 (fun H locs Z => ?_)
      refine lv_pop hx hb dX1_skip_27 rfl ?_
      refine lv_iinc (v := (nI (i + 1))) (lv' := [(3, .int (nI (i + 1))), (2, .int (nI N)), (0, .ref h), (1, .int (nI s))]) hx hb dX1_skip_28 hl (k := 0) rfl (nI_1 _) (by decide) rfl (fun ls hl => ?_)
      refine lv_goto (tgt := 17) hx hb dX1_skip_31 (by decide) ?_
      exact ih (i + 1) _ (by omega) (by unfold ll_to; rw [ll_c _ (by decide), ll_e]; omega) (ll_ok_to hok) H locs Z ls (lv_sub hl [0, 1, 2, 3] rfl)
set_option maxHeartbeats 4000000 in
set_option maxRecDepth 100000 in
theorem ll_k_skip (l : Launch) {σ : ll_St} (hok : ll_ok σ) {s : Nat} (hs : s < 2) (hg : (ll_stl 200 σ) 10 s < 2 ^ 31) : ll_Mi l yX1_skip wsX1_skip rmX1_skip [.int (nI s)] σ (ll_skL s ((ll_stl 200 σ) 10 s) (ll_stl 200 σ)) (nI ((ll_stl 200 σ) 10 s)) := by
  refine ll_ofWi (Nat.le_of_ble_eq_true rfl) (fun p e st m args below meth c D h ad cI cZ A X hr hlk Z ls hl => ?_)
  have hx := X.1
  have hb := X.2.1
  have hl : lv_has ls 4 [(0, .ref h), (1, .int (nI s))] := hl
  refine lv_iload_n hx hb dX1_skip_0 rfl (lv_at hl 1 rfl) ?_
  refine ll_calls X Z (ll_k_bad0 l hs) (cwX1_bad X.2.2.2.2 ⟨by decide, by decide⟩) rfl hl.1 rfl (Nat.le_of_ble_eq_true rfl) ⟨Nat.le_refl _, Nat.le_refl _⟩ dX1_skip_1 (fun H locs Z => ?_)
  refine nw_if_eq (tgt := 9) hx hb (by omega) dX1_skip_4 (by decide) (fun h_4 => ?_) (fun h_4 => ?_)
  · skip
    refine lv_aload_n hx hb dX1_skip_9 rfl (lv_at hl 0 rfl) ?_
    refine lv_iload_n hx hb dX1_skip_10 rfl (lv_at hl 1 rfl) ?_
    refine ll_calli X Z (ll_k_waitingFor l hok hs) (cwX1_waitingFor X.2.2.2.2 ⟨by decide, by decide⟩) rfl hl.1 rfl (Nat.le_of_ble_eq_true rfl) ⟨Nat.le_refl _, Nat.le_refl _⟩ dX1_skip_11 (fun H locs Z => ?_)
    refine lv_istore_n (lv' := [(2, .int (nI ((ll_stl 200 σ) 10 s))), (0, .ref h), (1, .int (nI s))]) hx hb dX1_skip_14 rfl hl (by decide) rfl (fun ls hl => ?_)
    refine nw_iconst hx hb 0 dX1_skip_15 (by decide) ?_
    refine lv_istore_n (lv' := [(3, .int (nI 0)), (2, .int (nI ((ll_stl 200 σ) 10 s))), (0, .ref h), (1, .int (nI s))]) hx hb dX1_skip_16 rfl hl (by decide) rfl (fun ls hl => ?_)
    exact ll_l_skip hs hg X hr hlk ((ll_stl 200 σ) 10 s) 0 (ll_stl 200 σ) (by omega) rfl (ll_ok_stl 200 hok) H locs Z ls (lv_sub hl [0, 1, 2, 3] rfl)
  · skip
    exact absurd rfl h_4
set_option maxHeartbeats 4000000 in
set_option maxRecDepth 100000 in
theorem ll_l_reset2 {p : Program} {l : Launch} {e : Env} {st : State} {m : MethodId} {args : Array Value} {below : List Frame} {meth : Method} {c : Code} {D : va_G} {h : Nat} {ad : Nat → Nat} {cI cZ : ClassId} {A : Nat → Prop} (X : ll_C p m c cX1_reset 2 st args) (hr : meth.sig.returnType = none) (hlk : meth.locks = false) (σ : ll_St) (H : Heap) (locs : List Loc) (Z : ll_Z D h ad cI cZ A st σ H locs) (ls : Array Slot) (hl : lv_has ls 2 [(1, .int (nI 2)), (0, .ref h)]) : W p l e rmX1_reset st m args below meth c H locs 0 0 (ll_Ev D h ad cI cZ A below args st (σ)) (F0 m 2 ls []) := by
  have hx := X.1
  have hb := X.2.1
  refine lv_iload_n hx hb dX1_reset_2 rfl (lv_at hl 0 rfl) ?_
  refine nw_iconst hx hb 2 dX1_reset_3 (by decide) ?_
  refine nw_icmp_ge (tgt := 90) hx hb (by omega) (by omega) dX1_reset_4 (by decide) (fun h_4 => ?_) (fun h_4 => ?_)
  · skip
    exact ll_retv X hr hlk Z rfl dX1_reset_90
  · skip
    exact absurd (by decide) h_4
set_option maxHeartbeats 4000000 in
set_option maxRecDepth 100000 in
theorem ll_l_reset1 {p : Program} {l : Launch} {e : Env} {st : State} {m : MethodId} {args : Array Value} {below : List Frame} {meth : Method} {c : Code} {D : va_G} {h : Nat} {ad : Nat → Nat} {cI cZ : ClassId} {A : Nat → Prop} (X : ll_C p m c cX1_reset 2 st args) (hr : meth.sig.returnType = none) (hlk : meth.locks = false) (σ : ll_St) (H : Heap) (locs : List Loc) (Z : ll_Z D h ad cI cZ A st σ H locs) (ls : Array Slot) (hl : lv_has ls 2 [(1, .int (nI 1)), (0, .ref h)]) : W p l e rmX1_reset st m args below meth c H locs 0 0 (ll_Ev D h ad cI cZ A below args st (ll_rs1 1 σ)) (F0 m 2 ls []) := by
  have hx := X.1
  have hb := X.2.1
  refine lv_iload_n hx hb dX1_reset_2 rfl (lv_at hl 0 rfl) ?_
  refine nw_iconst hx hb 2 dX1_reset_3 (by decide) ?_
  refine nw_icmp_ge (tgt := 90) hx hb (by omega) (by omega) dX1_reset_4 (by decide) (fun h_4 => ?_) (fun h_4 => ?_)
  · skip
    exact absurd h_4 (by decide)
  · skip
    refine lv_aload_n hx hb dX1_reset_7 rfl (lv_at hl 1 rfl) ?_
    refine ll_g1 X Z dX1_reset_8 ?_
    refine lv_iload_n hx hb dX1_reset_11 rfl (lv_at hl 0 rfl) ?_
    refine nw_iconst hx hb 0 dX1_reset_12 (by decide) ?_
    refine ll_st1 X Z (by omega) dX1_reset_13 (fun H locs Z => ?_)
    refine lv_aload_n hx hb dX1_reset_14 rfl (lv_at hl 1 rfl) ?_
    refine ll_g2 X Z dX1_reset_15 ?_
    refine lv_iload_n hx hb dX1_reset_18 rfl (lv_at hl 0 rfl) ?_
    refine nw_iconst hx hb 0 dX1_reset_19 (by decide) ?_
    refine ll_st2 X Z (by omega) dX1_reset_20 (fun H locs Z => ?_)
    refine lv_aload_n hx hb dX1_reset_21 rfl (lv_at hl 1 rfl) ?_
    refine ll_g4 X Z dX1_reset_22 ?_
    refine lv_iload_n hx hb dX1_reset_25 rfl (lv_at hl 0 rfl) ?_
    refine nw_iconst hx hb 0 dX1_reset_26 (by decide) ?_
    refine ll_st4 X Z (by omega) dX1_reset_27 (fun H locs Z => ?_)
    refine lv_aload_n hx hb dX1_reset_28 rfl (lv_at hl 1 rfl) ?_
    refine ll_g5 X Z dX1_reset_29 ?_
    refine lv_iload_n hx hb dX1_reset_32 rfl (lv_at hl 0 rfl) ?_
    refine nw_iconst hx hb 0 dX1_reset_33 (by decide) ?_
    refine ll_st5 X Z (by omega) dX1_reset_34 (fun H locs Z => ?_)
    refine lv_aload_n hx hb dX1_reset_35 rfl (lv_at hl 1 rfl) ?_
    refine ll_g6 X Z dX1_reset_36 ?_
    refine lv_iload_n hx hb dX1_reset_39 rfl (lv_at hl 0 rfl) ?_
    refine nw_iconst hx hb 0 dX1_reset_40 (by decide) ?_
    refine ll_st6 X Z (by omega) dX1_reset_41 (fun H locs Z => ?_)
    refine lv_aload_n hx hb dX1_reset_42 rfl (lv_at hl 1 rfl) ?_
    refine ll_g7 X Z dX1_reset_43 ?_
    refine lv_iload_n hx hb dX1_reset_46 rfl (lv_at hl 0 rfl) ?_
    refine nw_iconst hx hb 0 dX1_reset_47 (by decide) ?_
    refine ll_st7 X Z (by omega) (by omega) dX1_reset_48 (fun H locs Z => ?_)
    refine lv_aload_n hx hb dX1_reset_49 rfl (lv_at hl 1 rfl) ?_
    refine ll_g8 X Z dX1_reset_50 ?_
    refine lv_iload_n hx hb dX1_reset_53 rfl (lv_at hl 0 rfl) ?_
    refine nw_iconst hx hb 0 dX1_reset_54 (by decide) ?_
    refine ll_st8 X Z (by omega) (by omega) dX1_reset_55 (fun H locs Z => ?_)
    refine lv_aload_n hx hb dX1_reset_56 rfl (lv_at hl 1 rfl) ?_
    refine ll_g9 X Z dX1_reset_57 ?_
    refine lv_iload_n hx hb dX1_reset_60 rfl (lv_at hl 0 rfl) ?_
    refine nw_iconst hx hb 0 dX1_reset_61 (by decide) ?_
    refine ll_st9 X Z (by omega) dX1_reset_62 (fun H locs Z => ?_)
    refine lv_aload_n hx hb dX1_reset_63 rfl (lv_at hl 1 rfl) ?_
    refine ll_g10 X Z dX1_reset_64 ?_
    refine lv_iload_n hx hb dX1_reset_67 rfl (lv_at hl 0 rfl) ?_
    refine nw_iconst hx hb 0 dX1_reset_68 (by decide) ?_
    refine ll_st10 X Z (by omega) dX1_reset_69 (fun H locs Z => ?_)
    refine lv_aload_n hx hb dX1_reset_70 rfl (lv_at hl 1 rfl) ?_
    refine ll_g12 X Z dX1_reset_71 ?_
    refine lv_iload_n hx hb dX1_reset_74 rfl (lv_at hl 0 rfl) ?_
    refine nw_iconst hx hb 0 dX1_reset_75 (by decide) ?_
    refine ll_st12 X Z (by omega) dX1_reset_76 (fun H locs Z => ?_)
    refine lv_aload_n hx hb dX1_reset_77 rfl (lv_at hl 1 rfl) ?_
    refine ll_g13 X Z dX1_reset_78 ?_
    refine lv_iload_n hx hb dX1_reset_81 rfl (lv_at hl 0 rfl) ?_
    refine nw_iconst hx hb 0 dX1_reset_82 (by decide) ?_
    refine ll_st13 X Z (by omega) dX1_reset_83 (fun H locs Z => ?_)
    refine lv_iinc (v := (nI 2)) (lv' := [(1, .int (nI 2)), (0, .ref h)]) hx hb dX1_reset_84 hl (k := 0) rfl (nI_1 _) (by decide) rfl (fun ls hl => ?_)
    refine lv_goto (tgt := 2) hx hb dX1_reset_87 (by decide) ?_
    exact ll_l_reset2 X hr hlk _ H locs Z ls hl
set_option maxHeartbeats 4000000 in
set_option maxRecDepth 100000 in
theorem ll_l_reset0 {p : Program} {l : Launch} {e : Env} {st : State} {m : MethodId} {args : Array Value} {below : List Frame} {meth : Method} {c : Code} {D : va_G} {h : Nat} {ad : Nat → Nat} {cI cZ : ClassId} {A : Nat → Prop} (X : ll_C p m c cX1_reset 2 st args) (hr : meth.sig.returnType = none) (hlk : meth.locks = false) (σ : ll_St) (H : Heap) (locs : List Loc) (Z : ll_Z D h ad cI cZ A st σ H locs) (ls : Array Slot) (hl : lv_has ls 2 [(1, .int (nI 0)), (0, .ref h)]) : W p l e rmX1_reset st m args below meth c H locs 0 0 (ll_Ev D h ad cI cZ A below args st (ll_rs1 1 (ll_rs1 0 σ))) (F0 m 2 ls []) := by
  have hx := X.1
  have hb := X.2.1
  refine lv_iload_n hx hb dX1_reset_2 rfl (lv_at hl 0 rfl) ?_
  refine nw_iconst hx hb 2 dX1_reset_3 (by decide) ?_
  refine nw_icmp_ge (tgt := 90) hx hb (by omega) (by omega) dX1_reset_4 (by decide) (fun h_4 => ?_) (fun h_4 => ?_)
  · skip
    exact absurd h_4 (by decide)
  · skip
    refine lv_aload_n hx hb dX1_reset_7 rfl (lv_at hl 1 rfl) ?_
    refine ll_g1 X Z dX1_reset_8 ?_
    refine lv_iload_n hx hb dX1_reset_11 rfl (lv_at hl 0 rfl) ?_
    refine nw_iconst hx hb 0 dX1_reset_12 (by decide) ?_
    refine ll_st1 X Z (by omega) dX1_reset_13 (fun H locs Z => ?_)
    refine lv_aload_n hx hb dX1_reset_14 rfl (lv_at hl 1 rfl) ?_
    refine ll_g2 X Z dX1_reset_15 ?_
    refine lv_iload_n hx hb dX1_reset_18 rfl (lv_at hl 0 rfl) ?_
    refine nw_iconst hx hb 0 dX1_reset_19 (by decide) ?_
    refine ll_st2 X Z (by omega) dX1_reset_20 (fun H locs Z => ?_)
    refine lv_aload_n hx hb dX1_reset_21 rfl (lv_at hl 1 rfl) ?_
    refine ll_g4 X Z dX1_reset_22 ?_
    refine lv_iload_n hx hb dX1_reset_25 rfl (lv_at hl 0 rfl) ?_
    refine nw_iconst hx hb 0 dX1_reset_26 (by decide) ?_
    refine ll_st4 X Z (by omega) dX1_reset_27 (fun H locs Z => ?_)
    refine lv_aload_n hx hb dX1_reset_28 rfl (lv_at hl 1 rfl) ?_
    refine ll_g5 X Z dX1_reset_29 ?_
    refine lv_iload_n hx hb dX1_reset_32 rfl (lv_at hl 0 rfl) ?_
    refine nw_iconst hx hb 0 dX1_reset_33 (by decide) ?_
    refine ll_st5 X Z (by omega) dX1_reset_34 (fun H locs Z => ?_)
    refine lv_aload_n hx hb dX1_reset_35 rfl (lv_at hl 1 rfl) ?_
    refine ll_g6 X Z dX1_reset_36 ?_
    refine lv_iload_n hx hb dX1_reset_39 rfl (lv_at hl 0 rfl) ?_
    refine nw_iconst hx hb 0 dX1_reset_40 (by decide) ?_
    refine ll_st6 X Z (by omega) dX1_reset_41 (fun H locs Z => ?_)
    refine lv_aload_n hx hb dX1_reset_42 rfl (lv_at hl 1 rfl) ?_
    refine ll_g7 X Z dX1_reset_43 ?_
    refine lv_iload_n hx hb dX1_reset_46 rfl (lv_at hl 0 rfl) ?_
    refine nw_iconst hx hb 0 dX1_reset_47 (by decide) ?_
    refine ll_st7 X Z (by omega) (by omega) dX1_reset_48 (fun H locs Z => ?_)
    refine lv_aload_n hx hb dX1_reset_49 rfl (lv_at hl 1 rfl) ?_
    refine ll_g8 X Z dX1_reset_50 ?_
    refine lv_iload_n hx hb dX1_reset_53 rfl (lv_at hl 0 rfl) ?_
    refine nw_iconst hx hb 0 dX1_reset_54 (by decide) ?_
    refine ll_st8 X Z (by omega) (by omega) dX1_reset_55 (fun H locs Z => ?_)
    refine lv_aload_n hx hb dX1_reset_56 rfl (lv_at hl 1 rfl) ?_
    refine ll_g9 X Z dX1_reset_57 ?_
    refine lv_iload_n hx hb dX1_reset_60 rfl (lv_at hl 0 rfl) ?_
    refine nw_iconst hx hb 0 dX1_reset_61 (by decide) ?_
    refine ll_st9 X Z (by omega) dX1_reset_62 (fun H locs Z => ?_)
    refine lv_aload_n hx hb dX1_reset_63 rfl (lv_at hl 1 rfl) ?_
    refine ll_g10 X Z dX1_reset_64 ?_
    refine lv_iload_n hx hb dX1_reset_67 rfl (lv_at hl 0 rfl) ?_
    refine nw_iconst hx hb 0 dX1_reset_68 (by decide) ?_
    refine ll_st10 X Z (by omega) dX1_reset_69 (fun H locs Z => ?_)
    refine lv_aload_n hx hb dX1_reset_70 rfl (lv_at hl 1 rfl) ?_
    refine ll_g12 X Z dX1_reset_71 ?_
    refine lv_iload_n hx hb dX1_reset_74 rfl (lv_at hl 0 rfl) ?_
    refine nw_iconst hx hb 0 dX1_reset_75 (by decide) ?_
    refine ll_st12 X Z (by omega) dX1_reset_76 (fun H locs Z => ?_)
    refine lv_aload_n hx hb dX1_reset_77 rfl (lv_at hl 1 rfl) ?_
    refine ll_g13 X Z dX1_reset_78 ?_
    refine lv_iload_n hx hb dX1_reset_81 rfl (lv_at hl 0 rfl) ?_
    refine nw_iconst hx hb 0 dX1_reset_82 (by decide) ?_
    refine ll_st13 X Z (by omega) dX1_reset_83 (fun H locs Z => ?_)
    refine lv_iinc (v := (nI 1)) (lv' := [(1, .int (nI 1)), (0, .ref h)]) hx hb dX1_reset_84 hl (k := 0) rfl (nI_1 _) (by decide) rfl (fun ls hl => ?_)
    refine lv_goto (tgt := 2) hx hb dX1_reset_87 (by decide) ?_
    exact ll_l_reset1 X hr hlk _ H locs Z ls hl
set_option maxHeartbeats 4000000 in
set_option maxRecDepth 100000 in
theorem ll_k_reset (l : Launch) {σ : ll_St} : ll_Mv l yX1_reset wsX1_reset rmX1_reset [] σ (ll_rs1 1 (ll_rs1 0 σ)) := by
  refine ll_ofWv (Nat.le_of_ble_eq_true rfl) (fun p e st m args below meth c D h ad cI cZ A X hr hlk Z ls hl => ?_)
  have hx := X.1
  have hb := X.2.1
  have hl : lv_has ls 2 [(0, .ref h)] := hl
  refine nw_iconst hx hb 0 dX1_reset_0 (by decide) ?_
  refine lv_istore_n (lv' := [(1, .int (nI 0)), (0, .ref h)]) hx hb dX1_reset_1 rfl hl (by decide) rfl (fun ls hl => ?_)
  exact ll_l_reset0 X hr hlk σ _ _ Z ls hl
set_option maxHeartbeats 4000000 in
set_option maxRecDepth 100000 in
theorem ll_k_fire (l : Launch) {σ : ll_St} (hok : ll_ok σ) {s : Nat} (hs : s < 2) : ll_Mi l yX1_fire wsX1_fire rmX1_fire [.int (nI s)] σ (ll_gb s (ll_set σ 7 s 0)) (nI 0) := by
  refine ll_ofWi (Nat.le_of_ble_eq_true rfl) (fun p e st m args below meth c D h ad cI cZ A X hr hlk Z ls hl => ?_)
  have hx := X.1
  have hb := X.2.1
  have hl : lv_has ls 2 [(0, .ref h), (1, .int (nI s))] := hl
  refine lv_iload_n hx hb dX1_fire_0 rfl (lv_at hl 1 rfl) ?_
  refine ll_calls X Z (ll_k_bad0 l hs) (cwX1_bad X.2.2.2.2 ⟨by decide, by decide⟩) rfl hl.1 rfl (Nat.le_of_ble_eq_true rfl) ⟨Nat.le_refl _, Nat.le_refl _⟩ dX1_fire_1 (fun H locs Z => ?_)
  refine nw_if_eq (tgt := 9) hx hb (by omega) dX1_fire_4 (by decide) (fun h_4 => ?_) (fun h_4 => ?_)
  · skip
    refine lv_aload_n hx hb dX1_fire_9 rfl (lv_at hl 0 rfl) ?_
    refine ll_g7 X Z dX1_fire_10 ?_
    refine lv_iload_n hx hb dX1_fire_13 rfl (lv_at hl 1 rfl) ?_
    refine nw_iconst hx hb 0 dX1_fire_14 (by decide) ?_
    refine ll_st7 X Z (by omega) (by omega) dX1_fire_15 (fun H locs Z => ?_)
    refine lv_aload_n hx hb dX1_fire_16 rfl (lv_at hl 0 rfl) ?_
    refine lv_iload_n hx hb dX1_fire_17 rfl (lv_at hl 1 rfl) ?_
    refine ll_callv X Z (ll_k_goBack l (σ := ll_set σ 7 s 0) (ll_ok_set' hok (by decide) (fun _ _ => by decide)) hs) (cwX1_goBack X.2.2.2.2 ⟨by decide, by decide⟩) rfl hl.1 rfl (Nat.le_of_ble_eq_true rfl) ⟨Nat.le_refl _, Nat.le_refl _⟩ dX1_fire_18 (fun H locs Z => ?_)
    refine nw_iconst hx hb 0 dX1_fire_21 (by decide) ?_
    exact ll_reti X hr hlk Z rfl rfl dX1_fire_22
  · skip
    exact absurd rfl h_4
set_option maxHeartbeats 4000000 in
set_option maxRecDepth 100000 in
theorem ll_k_waiting (l : Launch) {σ : ll_St} (hok : ll_ok σ) {s : Nat} (hs : s < 2) : ll_Mi l yX1_waiting wsX1_waiting rmX1_waiting [.int (nI s)] σ (ll_stl 200 σ) (nI ((ll_stl 200 σ) 10 s)) := by
  refine ll_ofWi (Nat.le_of_ble_eq_true rfl) (fun p e st m args below meth c D h ad cI cZ A X hr hlk Z ls hl => ?_)
  have hx := X.1
  have hb := X.2.1
  have hl : lv_has ls 2 [(0, .ref h), (1, .int (nI s))] := hl
  refine lv_iload_n hx hb dX1_waiting_0 rfl (lv_at hl 1 rfl) ?_
  refine ll_calls X Z (ll_k_bad0 l hs) (cwX1_bad X.2.2.2.2 ⟨by decide, by decide⟩) rfl hl.1 rfl (Nat.le_of_ble_eq_true rfl) ⟨Nat.le_refl _, Nat.le_refl _⟩ dX1_waiting_1 (fun H locs Z => ?_)
  refine nw_if_eq (tgt := 11) hx hb (by omega) dX1_waiting_4 (by decide) (fun h_4 => ?_) (fun h_4 => ?_)
  · skip
    refine lv_aload_n hx hb dX1_waiting_11 rfl (lv_at hl 0 rfl) ?_
    refine lv_iload_n hx hb dX1_waiting_12 rfl (lv_at hl 1 rfl) ?_
    refine ll_calli X Z (ll_k_waitingFor l hok hs) (cwX1_waitingFor X.2.2.2.2 ⟨by decide, by decide⟩) rfl hl.1 rfl (Nat.le_of_ble_eq_true rfl) ⟨Nat.le_refl _, Nat.le_refl _⟩ dX1_waiting_13 (fun H locs Z => ?_)
    exact ll_reti X hr hlk Z rfl rfl dX1_waiting_16
  · skip
    exact absurd rfl h_4
set_option maxHeartbeats 4000000 in
set_option maxRecDepth 100000 in
theorem ll_k_messages (l : Launch) {σ : ll_St} (hok : ll_ok σ) {s : Nat} (hs : s < 2) (hg : (ll_stl 200 σ) 10 s < 2 ^ 31) : ll_Mi l yX1_messages wsX1_messages rmX1_messages [.int (nI s)] σ (ll_stl 200 σ) (nI (ll_mkL s (ll_stl 200 σ) ((ll_stl 200 σ) 10 s) 0 0)) := by
  refine ll_ofWi (Nat.le_of_ble_eq_true rfl) (fun p e st m args below meth c D h ad cI cZ A X hr hlk Z ls hl => ?_)
  have hx := X.1
  have hb := X.2.1
  have hl : lv_has ls 2 [(0, .ref h), (1, .int (nI s))] := hl
  refine lv_iload_n hx hb dX1_messages_0 rfl (lv_at hl 1 rfl) ?_
  refine ll_calls X Z (ll_k_bad0 l hs) (cwX1_bad X.2.2.2.2 ⟨by decide, by decide⟩) rfl hl.1 rfl (Nat.le_of_ble_eq_true rfl) ⟨Nat.le_refl _, Nat.le_refl _⟩ dX1_messages_1 (fun H locs Z => ?_)
  refine nw_if_eq (tgt := 9) hx hb (by omega) dX1_messages_4 (by decide) (fun h_4 => ?_) (fun h_4 => ?_)
  · skip
    refine lv_aload_n hx hb dX1_messages_9 rfl (lv_at hl 0 rfl) ?_
    refine ll_callv X Z (ll_k_settle l hok) (cwX1_settle X.2.2.2.2 ⟨by decide, by decide⟩) rfl hl.1 rfl (Nat.le_of_ble_eq_true rfl) ⟨Nat.le_refl _, Nat.le_refl _⟩ dX1_messages_10 (fun H locs Z => ?_)
    refine lv_aload_n hx hb dX1_messages_13 rfl (lv_at hl 0 rfl) ?_
    refine lv_iload_n hx hb dX1_messages_14 rfl (lv_at hl 1 rfl) ?_
    refine ll_calli X Z (ll_k_marked l (σ := (ll_stl 200 σ)) (ll_ok_stl 200 hok) hs hg) (cwX1_marked X.2.2.2.2 ⟨by decide, by decide⟩) rfl hl.1 rfl (Nat.le_of_ble_eq_true rfl) ⟨Nat.le_refl _, Nat.le_refl _⟩ dX1_messages_15 (fun H locs Z => ?_)
    exact ll_reti X hr hlk Z rfl rfl dX1_messages_18
  · skip
    exact absurd rfl h_4
set_option maxHeartbeats 4000000 in
set_option maxRecDepth 100000 in
theorem ll_k_done (l : Launch) {σ : ll_St} {s : Nat} (hs : s < 2) : ll_Mi l yX1_done wsX1_done rmX1_done [.int (nI s)] σ σ (nI (σ 12 s)) := by
  refine ll_ofWi (Nat.le_of_ble_eq_true rfl) (fun p e st m args below meth c D h ad cI cZ A X hr hlk Z ls hl => ?_)
  have hx := X.1
  have hb := X.2.1
  have hl : lv_has ls 2 [(0, .ref h), (1, .int (nI s))] := hl
  refine lv_iload_n hx hb dX1_done_0 rfl (lv_at hl 1 rfl) ?_
  refine ll_calls X Z (ll_k_bad0 l hs) (cwX1_bad X.2.2.2.2 ⟨by decide, by decide⟩) rfl hl.1 rfl (Nat.le_of_ble_eq_true rfl) ⟨Nat.le_refl _, Nat.le_refl _⟩ dX1_done_1 (fun H locs Z => ?_)
  refine nw_if_eq (tgt := 11) hx hb (by omega) dX1_done_4 (by decide) (fun h_4 => ?_) (fun h_4 => ?_)
  · skip
    refine lv_aload_n hx hb dX1_done_11 rfl (lv_at hl 0 rfl) ?_
    refine ll_g12 X Z dX1_done_12 ?_
    refine lv_iload_n hx hb dX1_done_15 rfl (lv_at hl 1 rfl) ?_
    refine ll_ld12 X Z (by omega) dX1_done_16 ?_
    exact ll_reti X hr hlk Z rfl rfl dX1_done_17
  · skip
    exact absurd rfl h_4
set_option maxHeartbeats 4000000 in
set_option maxRecDepth 100000 in
theorem ll_k_peek_e (l : Launch) {σ : ll_St} (hok : ll_ok σ) {s : Nat} {i : Int32} (hs : s < 2) (hg : (ll_stl 200 σ) 10 s < 2 ^ 31) (hi : i < 0 ∨ nI ((ll_stl 200 σ) 10 s) ≤ i) : ll_Mi l yX1_peek wsX1_peek rmX1_peek [.int (nI s), .int i] σ (ll_stl 200 σ) (-3) := by
  refine ll_ofWi (Nat.le_of_ble_eq_true rfl) (fun p e st m args below meth c D h ad cI cZ A X hr hlk Z ls hl => ?_)
  have hx := X.1
  have hb := X.2.1
  have hl : lv_has ls 4 [(0, .ref h), (1, .int (nI s)), (2, .int i)] := hl
  refine lv_iload_n hx hb dX1_peek_0 rfl (lv_at hl 1 rfl) ?_
  refine ll_calls X Z (ll_k_bad0 l hs) (cwX1_bad X.2.2.2.2 ⟨by decide, by decide⟩) rfl hl.1 rfl (Nat.le_of_ble_eq_true rfl) ⟨Nat.le_refl _, Nat.le_refl _⟩ dX1_peek_1 (fun H locs Z => ?_)
  refine nw_if_eq (tgt := 9) hx hb (by omega) dX1_peek_4 (by decide) (fun h_4 => ?_) (fun h_4 => ?_)
  · skip
    refine lv_aload_n hx hb dX1_peek_9 rfl (lv_at hl 0 rfl) ?_
    refine lv_iload_n hx hb dX1_peek_10 rfl (lv_at hl 1 rfl) ?_
    refine ll_calli X Z (ll_k_waitingFor l hok hs) (cwX1_waitingFor X.2.2.2.2 ⟨by decide, by decide⟩) rfl hl.1 rfl (Nat.le_of_ble_eq_true rfl) ⟨Nat.le_refl _, Nat.le_refl _⟩ dX1_peek_11 (fun H locs Z => ?_)
    refine lv_istore_n (lv' := [(3, .int (nI ((ll_stl 200 σ) 10 s))), (0, .ref h), (1, .int (nI s)), (2, .int i)]) hx hb dX1_peek_14 rfl hl (by decide) rfl (fun ls hl => ?_)
    refine lv_iload_n hx hb dX1_peek_15 rfl (lv_at hl 3 rfl) ?_
    refine lv_if_lt (tgt := 24) hx hb dX1_peek_16 (by decide) (fun h_16 => ?_) (fun h_16 => ?_)
    · skip
      refine lv_bipush (v := -3) hx hb dX1_peek_24 (by decide) ?_
      refine lv_goto (tgt := 39) hx hb dX1_peek_26 (by decide) ?_
      exact ll_reti X hr hlk Z rfl rfl dX1_peek_39
    · skip
      refine lv_iload_n hx hb dX1_peek_19 rfl (lv_at hl 3 rfl) ?_
      refine lv_iload_n hx hb dX1_peek_20 rfl (lv_at hl 0 rfl) ?_
      refine lv_icmp_lt (tgt := 29) hx hb dX1_peek_21 (by decide) (fun h_21 => ?_) (fun h_21 => ?_)
      · skip
        exact absurd h_21 (fun q => by rcases hi with z | z; exact h_16 z; exact Int32.lt_irrefl (Int32.lt_of_lt_of_le q z))
      · skip
        refine lv_bipush (v := -3) hx hb dX1_peek_24 (by decide) ?_
        refine lv_goto (tgt := 39) hx hb dX1_peek_26 (by decide) ?_
        exact ll_reti X hr hlk Z rfl rfl dX1_peek_39
  · skip
    exact absurd rfl h_4
set_option maxHeartbeats 4000000 in
set_option maxRecDepth 100000 in
theorem ll_k_peek_ok (l : Launch) {σ : ll_St} (hok : ll_ok σ) {s i : Nat} (hs : s < 2) (hg : (ll_stl 200 σ) 10 s < 2 ^ 31) (hi : i < (ll_stl 200 σ) 10 s) : ll_Mi l yX1_peek wsX1_peek rmX1_peek [.int (nI s), .int (nI i)] σ (ll_stl 200 σ) (nI (ll_ba s i (ll_stl 200 σ) % 256)) := by
  refine ll_ofWi (Nat.le_of_ble_eq_true rfl) (fun p e st m args below meth c D h ad cI cZ A X hr hlk Z ls hl => ?_)
  have hx := X.1
  have hb := X.2.1
  have hl : lv_has ls 4 [(0, .ref h), (1, .int (nI s)), (2, .int (nI i))] := hl
  refine lv_iload_n hx hb dX1_peek_0 rfl (lv_at hl 1 rfl) ?_
  refine ll_calls X Z (ll_k_bad0 l hs) (cwX1_bad X.2.2.2.2 ⟨by decide, by decide⟩) rfl hl.1 rfl (Nat.le_of_ble_eq_true rfl) ⟨Nat.le_refl _, Nat.le_refl _⟩ dX1_peek_1 (fun H locs Z => ?_)
  refine nw_if_eq (tgt := 9) hx hb (by omega) dX1_peek_4 (by decide) (fun h_4 => ?_) (fun h_4 => ?_)
  · skip
    refine lv_aload_n hx hb dX1_peek_9 rfl (lv_at hl 0 rfl) ?_
    refine lv_iload_n hx hb dX1_peek_10 rfl (lv_at hl 1 rfl) ?_
    refine ll_calli X Z (ll_k_waitingFor l hok hs) (cwX1_waitingFor X.2.2.2.2 ⟨by decide, by decide⟩) rfl hl.1 rfl (Nat.le_of_ble_eq_true rfl) ⟨Nat.le_refl _, Nat.le_refl _⟩ dX1_peek_11 (fun H locs Z => ?_)
    refine lv_istore_n (lv' := [(3, .int (nI ((ll_stl 200 σ) 10 s))), (0, .ref h), (1, .int (nI s)), (2, .int (nI i))]) hx hb dX1_peek_14 rfl hl (by decide) rfl (fun ls hl => ?_)
    refine lv_iload_n hx hb dX1_peek_15 rfl (lv_at hl 3 rfl) ?_
    refine nw_if_lt (tgt := 24) hx hb (by omega) dX1_peek_16 (by decide) ?_
    refine lv_iload_n hx hb dX1_peek_19 rfl (lv_at hl 3 rfl) ?_
    refine lv_iload_n hx hb dX1_peek_20 rfl (lv_at hl 0 rfl) ?_
    refine nw_icmp_lt (tgt := 29) hx hb (by omega) (by omega) dX1_peek_21 (by decide) (fun h_21 => ?_) (fun h_21 => ?_)
    · skip
      refine lv_aload_n hx hb dX1_peek_29 rfl (lv_at hl 1 rfl) ?_
      refine lv_iload_n hx hb dX1_peek_30 rfl (lv_at hl 2 rfl) ?_
      refine lv_iload_n hx hb dX1_peek_31 rfl (lv_at hl 3 rfl) ?_
      refine ll_calli X Z (ll_k_byteAt l (σ := (ll_stl 200 σ)) (i := i) hs) (cwX1_byteAt X.2.2.2.2 ⟨by decide, by decide⟩) rfl hl.1 rfl (Nat.le_of_ble_eq_true rfl) ⟨Nat.le_refl _, Nat.le_refl _⟩ dX1_peek_32 (fun H locs Z => ?_)
      refine nw_sipush hx hb 255 dX1_peek_35 (by decide) ?_
      refine nw_iand hx hb 256 8 rfl rfl (by decide) dX1_peek_38 ?_
      exact ll_reti X hr hlk Z rfl rfl dX1_peek_39
    · skip
      exact absurd hi h_21
  · skip
    exact absurd rfl h_4
set_option maxHeartbeats 4000000 in
set_option maxRecDepth 100000 in
theorem ll_k_ends_e (l : Launch) {σ : ll_St} (hok : ll_ok σ) {s : Nat} {i : Int32} (hs : s < 2) (hg : (ll_stl 200 σ) 10 s < 2 ^ 31) (hi : i < 0 ∨ nI ((ll_stl 200 σ) 10 s) ≤ i) : ll_Mi l yX1_ends wsX1_ends rmX1_ends [.int (nI s), .int i] σ (ll_stl 200 σ) (nI 0) := by
  refine ll_ofWi (Nat.le_of_ble_eq_true rfl) (fun p e st m args below meth c D h ad cI cZ A X hr hlk Z ls hl => ?_)
  have hx := X.1
  have hb := X.2.1
  have hl : lv_has ls 4 [(0, .ref h), (1, .int (nI s)), (2, .int i)] := hl
  refine lv_iload_n hx hb dX1_ends_0 rfl (lv_at hl 1 rfl) ?_
  refine ll_calls X Z (ll_k_bad0 l hs) (cwX1_bad X.2.2.2.2 ⟨by decide, by decide⟩) rfl hl.1 rfl (Nat.le_of_ble_eq_true rfl) ⟨Nat.le_refl _, Nat.le_refl _⟩ dX1_ends_1 (fun H locs Z => ?_)
  refine nw_if_eq (tgt := 9) hx hb (by omega) dX1_ends_4 (by decide) (fun h_4 => ?_) (fun h_4 => ?_)
  · skip
    refine lv_aload_n hx hb dX1_ends_9 rfl (lv_at hl 0 rfl) ?_
    refine lv_iload_n hx hb dX1_ends_10 rfl (lv_at hl 1 rfl) ?_
    refine ll_calli X Z (ll_k_waitingFor l hok hs) (cwX1_waitingFor X.2.2.2.2 ⟨by decide, by decide⟩) rfl hl.1 rfl (Nat.le_of_ble_eq_true rfl) ⟨Nat.le_refl _, Nat.le_refl _⟩ dX1_ends_11 (fun H locs Z => ?_)
    refine lv_istore_n (lv' := [(3, .int (nI ((ll_stl 200 σ) 10 s))), (0, .ref h), (1, .int (nI s)), (2, .int i)]) hx hb dX1_ends_14 rfl hl (by decide) rfl (fun ls hl => ?_)
    refine lv_iload_n hx hb dX1_ends_15 rfl (lv_at hl 3 rfl) ?_
    refine lv_if_lt (tgt := 40) hx hb dX1_ends_16 (by decide) (fun h_16 => ?_) (fun h_16 => ?_)
    · skip
      refine nw_iconst hx hb 0 dX1_ends_40 (by decide) ?_
      exact ll_retz X hr hlk Z rfl (by decide) rfl dX1_ends_41
    · skip
      refine lv_iload_n hx hb dX1_ends_19 rfl (lv_at hl 3 rfl) ?_
      refine lv_iload_n hx hb dX1_ends_20 rfl (lv_at hl 0 rfl) ?_
      refine lv_icmp_ge (tgt := 40) hx hb dX1_ends_21 (by decide) (fun h_21 => ?_) (fun h_21 => ?_)
      · skip
        refine nw_iconst hx hb 0 dX1_ends_40 (by decide) ?_
        exact ll_retz X hr hlk Z rfl (by decide) rfl dX1_ends_41
      · skip
        exact absurd (by rcases hi with z | z; exact absurd z h_16; exact z) h_21
  · skip
    exact absurd rfl h_4
set_option maxHeartbeats 4000000 in
set_option maxRecDepth 100000 in
theorem ll_k_ends_ok (l : Launch) {σ : ll_St} (hok : ll_ok σ) {s i : Nat} (hs : s < 2) (hg : (ll_stl 200 σ) 10 s < 2 ^ 31) (hi : i < (ll_stl 200 σ) 10 s) : ll_Mi l yX1_ends wsX1_ends rmX1_ends [.int (nI s), .int (nI i)] σ (ll_stl 200 σ) (nI (if ll_ba s i (ll_stl 200 σ) ≤ 255 then 0 else 1)) := by
  refine ll_ofWi (Nat.le_of_ble_eq_true rfl) (fun p e st m args below meth c D h ad cI cZ A X hr hlk Z ls hl => ?_)
  have hx := X.1
  have hb := X.2.1
  have hl : lv_has ls 4 [(0, .ref h), (1, .int (nI s)), (2, .int (nI i))] := hl
  have hba : ll_ba s i (ll_stl 200 σ) < 512 := (ll_ok_stl 200 hok).1 11 _ (by decide) (by decide)
  refine lv_iload_n hx hb dX1_ends_0 rfl (lv_at hl 1 rfl) ?_
  refine ll_calls X Z (ll_k_bad0 l hs) (cwX1_bad X.2.2.2.2 ⟨by decide, by decide⟩) rfl hl.1 rfl (Nat.le_of_ble_eq_true rfl) ⟨Nat.le_refl _, Nat.le_refl _⟩ dX1_ends_1 (fun H locs Z => ?_)
  refine nw_if_eq (tgt := 9) hx hb (by omega) dX1_ends_4 (by decide) (fun h_4 => ?_) (fun h_4 => ?_)
  · skip
    refine lv_aload_n hx hb dX1_ends_9 rfl (lv_at hl 0 rfl) ?_
    refine lv_iload_n hx hb dX1_ends_10 rfl (lv_at hl 1 rfl) ?_
    refine ll_calli X Z (ll_k_waitingFor l hok hs) (cwX1_waitingFor X.2.2.2.2 ⟨by decide, by decide⟩) rfl hl.1 rfl (Nat.le_of_ble_eq_true rfl) ⟨Nat.le_refl _, Nat.le_refl _⟩ dX1_ends_11 (fun H locs Z => ?_)
    refine lv_istore_n (lv' := [(3, .int (nI ((ll_stl 200 σ) 10 s))), (0, .ref h), (1, .int (nI s)), (2, .int (nI i))]) hx hb dX1_ends_14 rfl hl (by decide) rfl (fun ls hl => ?_)
    refine lv_iload_n hx hb dX1_ends_15 rfl (lv_at hl 3 rfl) ?_
    refine nw_if_lt (tgt := 40) hx hb (by omega) dX1_ends_16 (by decide) ?_
    refine lv_iload_n hx hb dX1_ends_19 rfl (lv_at hl 3 rfl) ?_
    refine lv_iload_n hx hb dX1_ends_20 rfl (lv_at hl 0 rfl) ?_
    refine nw_icmp_ge (tgt := 40) hx hb (by omega) (by omega) dX1_ends_21 (by decide) (fun h_21 => ?_) (fun h_21 => ?_)
    · skip
      exact absurd h_21 (by omega)
    · skip
      refine lv_aload_n hx hb dX1_ends_24 rfl (lv_at hl 1 rfl) ?_
      refine lv_iload_n hx hb dX1_ends_25 rfl (lv_at hl 2 rfl) ?_
      refine lv_iload_n hx hb dX1_ends_26 rfl (lv_at hl 3 rfl) ?_
      refine ll_calli X Z (ll_k_byteAt l (σ := (ll_stl 200 σ)) (i := i) hs) (cwX1_byteAt X.2.2.2.2 ⟨by decide, by decide⟩) rfl hl.1 rfl (Nat.le_of_ble_eq_true rfl) ⟨Nat.le_refl _, Nat.le_refl _⟩ dX1_ends_27 (fun H locs Z => ?_)
      refine nw_sipush hx hb 255 dX1_ends_30 (by decide) ?_
      refine nw_icmp_le (tgt := 40) hx hb (by omega) (by omega) dX1_ends_33 (by decide) (fun h_33 => ?_) (fun h_33 => ?_)
      · skip
        refine nw_iconst hx hb 0 dX1_ends_40 (by decide) ?_
        exact ll_retz X hr hlk Z rfl (by decide) (by rw [if_pos h_33]) dX1_ends_41
      · skip
        refine nw_iconst hx hb 1 dX1_ends_36 (by decide) ?_
        refine lv_goto (tgt := 41) hx hb dX1_ends_37 (by decide) ?_
        exact ll_retz X hr hlk Z rfl (by decide) (by rw [if_neg h_33]) dX1_ends_41
  · skip
    exact absurd rfl h_4
set_option maxHeartbeats 4000000 in
set_option maxRecDepth 100000 in
theorem ll_l_sum {p : Program} {l : Launch} {e : Env} {st : State} {m : MethodId} {args : Array Value} {below : List Frame} {meth : Method} {c : Code} {D : va_G} {h : Nat} {ad : Nat → Nat} {cI cZ : ClassId} {A : Nat → Prop} {s N : Nat} {σ : ll_St} (hs : s < 2) (hN : N < 2 ^ 31) (X : ll_C p m c cX1_sum 5 st args) (hr : meth.sig.returnType = some .int) (hlk : meth.locks = false) : ∀ (n i a : Nat), i + n = N → ∀ (H : Heap) (locs : List Loc), ll_Z D h ad cI cZ A st σ H locs → ∀ ls : Array Slot, lv_has ls 5 [(4, .int (nI i)), (3, .int (nI a)), (2, .int (nI N)), (0, .ref h), (1, .int (nI s))] → W p l e rmX1_sum st m args below meth c H locs 0 0 (ll_Ei D h ad cI cZ A below args st σ (nI (ll_smL s σ n i a))) (F0 m 20 ls []) := by
  have hx := X.1
  have hb := X.2.1
  intro n
  induction n with
  | zero =>
    intro i a hn H locs Z ls hl
    refine lv_iload hx hb dX1_sum_20 (lv_at hl 0 rfl) ?_
    refine lv_iload_n hx hb dX1_sum_22 rfl (lv_at hl 2 rfl) ?_
    refine nw_icmp_ge (tgt := 46) hx hb (by omega) (by omega) dX1_sum_23 (by decide) (fun h_23 => ?_) (fun h_23 => ?_)
    · skip
      refine lv_iload_n hx hb dX1_sum_46 rfl (lv_at hl 1 rfl) ?_
      exact ll_reti X hr hlk Z rfl rfl dX1_sum_47
    · skip
      exact absurd (show N ≤ i by omega) h_23
  | succ n ih =>
    intro i a hn H locs Z ls hl
    refine lv_iload hx hb dX1_sum_20 (lv_at hl 0 rfl) ?_
    refine lv_iload_n hx hb dX1_sum_22 rfl (lv_at hl 2 rfl) ?_
    refine nw_icmp_ge (tgt := 46) hx hb (by omega) (by omega) dX1_sum_23 (by decide) (fun h_23 => ?_) (fun h_23 => ?_)
    · skip
      exact absurd h_23 (by omega)
    · skip
      refine lv_iload_n hx hb dX1_sum_26 rfl (lv_at hl 1 rfl) ?_
      refine lv_aload_n hx hb dX1_sum_27 rfl (lv_at hl 3 rfl) ?_
      refine lv_iload_n hx hb dX1_sum_28 rfl (lv_at hl 4 rfl) ?_
      refine lv_iload hx hb dX1_sum_29 (lv_at hl 0 rfl) ?_
      refine ll_calli X Z (ll_k_byteAt l (σ := σ) (i := i) hs) (cwX1_byteAt X.2.2.2.2 ⟨by decide, by decide⟩) rfl hl.1 rfl (Nat.le_of_ble_eq_true rfl) ⟨Nat.le_refl _, Nat.le_refl _⟩ dX1_sum_31 (fun H locs Z => ?_)
      refine nw_sipush hx hb 255 dX1_sum_34 (by decide) ?_
      refine nw_iand hx hb 256 8 rfl rfl (by decide) dX1_sum_37 ?_
      refine nw_iadd hx hb dX1_sum_38 ?_
      refine lv_istore_n (lv' := [(3, .int (nI (a + ((ll_ba s i σ) % 256)))), (4, .int (nI i)), (2, .int (nI N)), (0, .ref h), (1, .int (nI s))]) hx hb dX1_sum_39 rfl hl (by decide) rfl (fun ls hl => ?_)
      refine lv_iinc (v := (nI (i + 1))) (lv' := [(4, .int (nI (i + 1))), (3, .int (nI (a + ((ll_ba s i σ) % 256)))), (2, .int (nI N)), (0, .ref h), (1, .int (nI s))]) hx hb dX1_sum_40 hl (k := 1) rfl (nI_1 _) (by decide) rfl (fun ls hl => ?_)
      refine lv_goto (tgt := 20) hx hb dX1_sum_43 (by decide) ?_
      exact ih (i + 1) _ (by omega) H locs Z ls (lv_sub hl [0, 1, 2, 3, 4] rfl)
set_option maxHeartbeats 4000000 in
set_option maxRecDepth 100000 in
theorem ll_k_sum (l : Launch) {σ : ll_St} (hok : ll_ok σ) {s : Nat} (hs : s < 2) (hg : (ll_stl 200 σ) 10 s < 2 ^ 31) : ll_Mi l yX1_sum wsX1_sum rmX1_sum [.int (nI s)] σ (ll_stl 200 σ) (nI (ll_smL s (ll_stl 200 σ) ((ll_stl 200 σ) 10 s) 0 0)) := by
  refine ll_ofWi (Nat.le_of_ble_eq_true rfl) (fun p e st m args below meth c D h ad cI cZ A X hr hlk Z ls hl => ?_)
  have hx := X.1
  have hb := X.2.1
  have hl : lv_has ls 5 [(0, .ref h), (1, .int (nI s))] := hl
  refine lv_iload_n hx hb dX1_sum_0 rfl (lv_at hl 1 rfl) ?_
  refine ll_calls X Z (ll_k_bad0 l hs) (cwX1_bad X.2.2.2.2 ⟨by decide, by decide⟩) rfl hl.1 rfl (Nat.le_of_ble_eq_true rfl) ⟨Nat.le_refl _, Nat.le_refl _⟩ dX1_sum_1 (fun H locs Z => ?_)
  refine nw_if_eq (tgt := 9) hx hb (by omega) dX1_sum_4 (by decide) (fun h_4 => ?_) (fun h_4 => ?_)
  · skip
    refine lv_aload_n hx hb dX1_sum_9 rfl (lv_at hl 0 rfl) ?_
    refine lv_iload_n hx hb dX1_sum_10 rfl (lv_at hl 1 rfl) ?_
    refine ll_calli X Z (ll_k_waitingFor l hok hs) (cwX1_waitingFor X.2.2.2.2 ⟨by decide, by decide⟩) rfl hl.1 rfl (Nat.le_of_ble_eq_true rfl) ⟨Nat.le_refl _, Nat.le_refl _⟩ dX1_sum_11 (fun H locs Z => ?_)
    refine lv_istore_n (lv' := [(2, .int (nI ((ll_stl 200 σ) 10 s))), (0, .ref h), (1, .int (nI s))]) hx hb dX1_sum_14 rfl hl (by decide) rfl (fun ls hl => ?_)
    refine nw_iconst hx hb 0 dX1_sum_15 (by decide) ?_
    refine lv_istore_n (lv' := [(3, .int (nI 0)), (2, .int (nI ((ll_stl 200 σ) 10 s))), (0, .ref h), (1, .int (nI s))]) hx hb dX1_sum_16 rfl hl (by decide) rfl (fun ls hl => ?_)
    refine nw_iconst hx hb 0 dX1_sum_17 (by decide) ?_
    refine lv_istore (lv' := [(4, .int (nI 0)), (3, .int (nI 0)), (2, .int (nI ((ll_stl 200 σ) 10 s))), (0, .ref h), (1, .int (nI s))]) hx hb dX1_sum_18 hl (by decide) rfl (fun ls hl => ?_)
    exact ll_l_sum hs hg X hr hlk ((ll_stl 200 σ) 10 s) 0 0 (by omega) H locs Z ls (lv_sub hl [0, 1, 2, 3, 4] rfl)
  · skip
    exact absurd rfl h_4
end
section
/-- the place of the bit that a fault turns -/
def ll_bit (x : Int32) : Nat := (x.toInt % 25).toNat
theorem ll_bit_lt (x : Int32) : ll_bit x < 25 := by
  unfold ll_bit
  omega
theorem ll_tm (z : Int) : z.tmod 25 + 25 * z.tdiv 25 = z ∧ (0 ≤ z → 0 ≤ z.tmod 25 ∧ z.tmod 25 < 25) ∧ (z < 0 → -25 < z.tmod 25 ∧ z.tmod 25 ≤ 0) := by
  refine ⟨Int.tmod_add_mul_tdiv z 25, fun h => ⟨Int.tmod_nonneg 25 h, Int.tmod_lt_of_pos z (by decide)⟩, fun h => ?_⟩
  have h1 := Int.tmod_nonneg (a := -z) 25 (by omega)
  have h2 := Int.tmod_lt_of_pos (-z) (b := 25) (by decide)
  rw [Int.neg_tmod] at h1 h2
  omega
theorem ll_rem_toInt (x : Int32) : (x - x / nI 25 * nI 25).toInt = x.toInt.tmod 25 := by
  have h25 : (nI 25).toInt = 25 := by decide
  have h0 : nI 25 ≠ 0 := by decide
  have hlo := Int32.le_toInt x
  have hhi := Int32.toInt_lt x
  have hq : (x / nI 25).toInt = x.toInt.tdiv 25 := by
    rw [Int32.toInt_div, h25]
    have := ll_tm x.toInt
    apply Int.bmod_eq_of_le <;> omega
  rw [Int32.toInt_sub, Int32.toInt_mul, hq, h25]
  have e := ll_tm x.toInt
  have hb : (x.toInt.tdiv 25 * 25).bmod (2 ^ 32) = x.toInt.tdiv 25 * 25 := by
    apply Int.bmod_eq_of_le <;> omega
  rw [hb]
  have : x.toInt - x.toInt.tdiv 25 * 25 = x.toInt.tmod 25 := by omega
  rw [this]
  apply Int.bmod_eq_of_le <;> omega
theorem ll_bit_pos {x : Int32} (h : 0 ≤ x - x / nI 25 * nI 25) : x - x / nI 25 * nI 25 = nI (ll_bit x) := by
  have e := ll_rem_toInt x
  have h' : (0 : Int32).toInt ≤ (x - x / nI 25 * nI 25).toInt := Int32.le_iff_toInt_le.mp h
  rw [e] at h'
  have h' : 0 ≤ x.toInt.tmod 25 := h'
  apply Int32.toInt_inj.mp
  rw [e, nI_toInt (Nat.lt_trans (ll_bit_lt x) (by decide))]
  unfold ll_bit
  have e1 := ll_tm x.toInt
  have e2 := Int.emod_add_mul_ediv x.toInt 25
  omega
theorem ll_bit_neg {x : Int32} (h : ¬ 0 ≤ x - x / nI 25 * nI 25) : x - x / nI 25 * nI 25 + nI 25 = nI (ll_bit x) := by
  have e := ll_rem_toInt x
  have h' : ¬ (0 : Int32).toInt ≤ (x - x / nI 25 * nI 25).toInt := fun q => h (Int32.le_iff_toInt_le.mpr q)
  rw [e] at h'
  have h' : ¬ 0 ≤ x.toInt.tmod 25 := h'
  have h25 : (nI 25).toInt = 25 := by decide
  apply Int32.toInt_inj.mp
  rw [Int32.toInt_add, e, h25, nI_toInt (Nat.lt_trans (ll_bit_lt x) (by decide))]
  unfold ll_bit
  have e1 := ll_tm x.toInt
  have e2 := Int.emod_add_mul_ediv x.toInt 25
  have : (x.toInt.tmod 25 + 25).bmod (2 ^ 32) = x.toInt.tmod 25 + 25 := by
    apply Int.bmod_eq_of_le <;> omega
  rw [this]
  omega
set_option maxHeartbeats 4000000 in
set_option maxRecDepth 100000 in
theorem ll_k_carry_0 (l : Launch) {σ : ll_St} {s : Nat} {fl bi : Int32} (hs : s < 2) (hfr : σ 13 s = 0) : ll_Mi l yX1_carry wsX1_carry rmX1_carry [.int (nI s), .int fl, .int bi] σ σ (nI 0) := by
  refine ll_ofWi (Nat.le_of_ble_eq_true rfl) (fun p e st m args below meth c D h ad cI cZ A X hr hlk Z ls hl => ?_)
  have hx := X.1
  have hb := X.2.1
  have hl : lv_has ls 5 [(0, .ref h), (1, .int (nI s)), (2, .int fl), (3, .int bi)] := hl
  refine lv_iload_n hx hb dX1_carry_0 rfl (lv_at hl 1 rfl) ?_
  refine ll_calls X Z (ll_k_bad0 l hs) (cwX1_bad X.2.2.2.2 ⟨by decide, by decide⟩) rfl hl.1 rfl (Nat.le_of_ble_eq_true rfl) ⟨Nat.le_refl _, Nat.le_refl _⟩ dX1_carry_1 (fun H locs Z => ?_)
  refine nw_if_eq (tgt := 9) hx hb (by omega) dX1_carry_4 (by decide) (fun h_4 => ?_) (fun h_4 => ?_)
  · skip
    refine lv_aload_n hx hb dX1_carry_9 rfl (lv_at hl 0 rfl) ?_
    refine ll_g13 X Z dX1_carry_10 ?_
    refine lv_iload_n hx hb dX1_carry_13 rfl (lv_at hl 1 rfl) ?_
    refine ll_ld13 X Z (by omega) dX1_carry_14 ?_
    refine nw_if_ne (tgt := 20) hx hb (by rw [hfr]; decide) dX1_carry_15 (by decide) (fun h_15 => ?_) (fun h_15 => ?_)
    · skip
      exact absurd hfr h_15
    · skip
      refine nw_iconst hx hb 0 dX1_carry_18 (by decide) ?_
      exact ll_reti X hr hlk Z rfl rfl dX1_carry_19
  · skip
    exact absurd rfl h_4
set_option maxHeartbeats 4000000 in
set_option maxRecDepth 100000 in
theorem ll_k_carry_1 (l : Launch) {σ : ll_St} (hok : ll_ok σ) {s : Nat} {bi : Int32} (hs : s < 2) (hfr : ¬ σ 13 s = 0) : ll_Mi l yX1_carry wsX1_carry rmX1_carry [.int (nI s), .int (nI 1), .int bi] σ (ll_tf s σ) (nI 0) := by
  refine ll_ofWi (Nat.le_of_ble_eq_true rfl) (fun p e st m args below meth c D h ad cI cZ A X hr hlk Z ls hl => ?_)
  have hx := X.1
  have hb := X.2.1
  have hl : lv_has ls 5 [(0, .ref h), (1, .int (nI s)), (2, .int (nI 1)), (3, .int bi)] := hl
  have o13 : σ 13 s < 17 := hok.1 13 s (by decide) (by decide)
  refine lv_iload_n hx hb dX1_carry_0 rfl (lv_at hl 1 rfl) ?_
  refine ll_calls X Z (ll_k_bad0 l hs) (cwX1_bad X.2.2.2.2 ⟨by decide, by decide⟩) rfl hl.1 rfl (Nat.le_of_ble_eq_true rfl) ⟨Nat.le_refl _, Nat.le_refl _⟩ dX1_carry_1 (fun H locs Z => ?_)
  refine nw_if_eq (tgt := 9) hx hb (by omega) dX1_carry_4 (by decide) (fun h_4 => ?_) (fun h_4 => ?_)
  · skip
    refine lv_aload_n hx hb dX1_carry_9 rfl (lv_at hl 0 rfl) ?_
    refine ll_g13 X Z dX1_carry_10 ?_
    refine lv_iload_n hx hb dX1_carry_13 rfl (lv_at hl 1 rfl) ?_
    refine ll_ld13 X Z (by omega) dX1_carry_14 ?_
    refine nw_if_ne (tgt := 20) hx hb (by omega) dX1_carry_15 (by decide) (fun h_15 => ?_) (fun h_15 => ?_)
    · skip
      refine lv_iload_n hx hb dX1_carry_20 rfl (lv_at hl 2 rfl) ?_
      refine nw_iconst hx hb 1 dX1_carry_21 (by decide) ?_
      refine nw_icmp_ne (tgt := 34) hx hb (by omega) (by omega) dX1_carry_22 (by decide) (fun h_22 => ?_) (fun h_22 => ?_)
      · skip
        exact absurd rfl h_22
      · skip
        refine lv_aload_n hx hb dX1_carry_25 rfl (lv_at hl 0 rfl) ?_
        refine lv_iload_n hx hb dX1_carry_26 rfl (lv_at hl 1 rfl) ?_
        refine ll_calli X Z (ll_k_takeFrame l hok hs (by omega)) (cwX1_takeFrame X.2.2.2.2 ⟨by decide, by decide⟩) rfl hl.1 rfl (Nat.le_of_ble_eq_true rfl) ⟨Nat.le_refl _, Nat.le_refl _⟩ dX1_carry_27 (fun H locs Z => ?_)
        refine lv_pop hx hb dX1_carry_30 rfl ?_
        refine lv_goto (tgt := 118) hx hb dX1_carry_31 (by decide) ?_
        refine nw_iconst hx hb 0 dX1_carry_118 (by decide) ?_
        exact ll_reti X hr hlk Z rfl rfl dX1_carry_119
    · skip
      exact absurd h_15 hfr
  · skip
    exact absurd rfl h_4
set_option maxHeartbeats 4000000 in
set_option maxRecDepth 100000 in
theorem ll_k_carry_2 (l : Launch) {σ : ll_St} (hok : ll_ok σ) {s : Nat} {bi : Int32} (hs : s < 2) (hfr : ¬ σ 13 s = 0) : ll_Mi l yX1_carry wsX1_carry rmX1_carry [.int (nI s), .int (nI 2), .int bi] σ (ll_co s (ll_set σ 14 (s * 16) (σ 14 (s * 16) ^^^ (1 * 2 ^ ll_bit bi)))) (nI 0) := by
  refine ll_ofWi (Nat.le_of_ble_eq_true rfl) (fun p e st m args below meth c D h ad cI cZ A X hr hlk Z ls hl => ?_)
  have hx := X.1
  have hb := X.2.1
  have hl : lv_has ls 5 [(0, .ref h), (1, .int (nI s)), (2, .int (nI 2)), (3, .int bi)] := hl
  have o13 : σ 13 s < 17 := hok.1 13 s (by decide) (by decide)
  have hbl := ll_bit_lt bi
  have hxl : σ 14 (s * 16) ^^^ (1 * 2 ^ ll_bit bi) < 33554432 := by
    refine Nat.xor_lt_two_pow (n := 25) (hok.1 14 _ (by decide) (by decide)) ?_
    have := Nat.pow_lt_pow_right (a := 2) (by decide) hbl
    omega
  have hok2 : ll_ok (ll_set σ 14 (s * 16) (σ 14 (s * 16) ^^^ (1 * 2 ^ ll_bit bi))) := ll_ok_set' hok (by decide) (fun _ _ => hxl)
  have hf2 : (ll_set σ 14 (s * 16) (σ 14 (s * 16) ^^^ (1 * 2 ^ ll_bit bi))) 13 s = σ 13 s := ll_c _ (by decide)
  refine lv_iload_n hx hb dX1_carry_0 rfl (lv_at hl 1 rfl) ?_
  refine ll_calls X Z (ll_k_bad0 l hs) (cwX1_bad X.2.2.2.2 ⟨by decide, by decide⟩) rfl hl.1 rfl (Nat.le_of_ble_eq_true rfl) ⟨Nat.le_refl _, Nat.le_refl _⟩ dX1_carry_1 (fun H locs Z => ?_)
  refine nw_if_eq (tgt := 9) hx hb (by omega) dX1_carry_4 (by decide) (fun h_4 => ?_) (fun h_4 => ?_)
  · skip
    refine lv_aload_n hx hb dX1_carry_9 rfl (lv_at hl 0 rfl) ?_
    refine ll_g13 X Z dX1_carry_10 ?_
    refine lv_iload_n hx hb dX1_carry_13 rfl (lv_at hl 1 rfl) ?_
    refine ll_ld13 X Z (by omega) dX1_carry_14 ?_
    refine nw_if_ne (tgt := 20) hx hb (by omega) dX1_carry_15 (by decide) (fun h_15 => ?_) (fun h_15 => ?_)
    · skip
      refine lv_iload_n hx hb dX1_carry_20 rfl (lv_at hl 2 rfl) ?_
      refine nw_iconst hx hb 1 dX1_carry_21 (by decide) ?_
      refine nw_icmp_ne (tgt := 34) hx hb (by omega) (by omega) dX1_carry_22 (by decide) (fun h_22 => ?_) (fun h_22 => ?_)
      · skip
        refine lv_iload_n hx hb dX1_carry_34 rfl (lv_at hl 2 rfl) ?_
        refine nw_iconst hx hb 2 dX1_carry_35 (by decide) ?_
        refine nw_icmp_ne (tgt := 82) hx hb (by omega) (by omega) dX1_carry_36 (by decide) (fun h_36 => ?_) (fun h_36 => ?_)
        · skip
          exact absurd rfl h_36
        · skip
          refine lv_iload_n hx hb dX1_carry_39 rfl (lv_at hl 3 rfl) ?_
          refine nw_bipush hx hb 25 dX1_carry_40 (by decide) ?_
          refine lv_irem hx hb dX1_carry_42 (by decide) ?_
          refine lv_istore (lv' := [(4, .int (bi - bi / nI 25 * nI 25)), (0, .ref h), (1, .int (nI s)), (2, .int (nI 2)), (3, .int bi)]) hx hb dX1_carry_43 hl (by decide) rfl (fun ls hl => ?_)
          refine lv_aload_n hx hb dX1_carry_45 rfl (lv_at hl 1 rfl) ?_
          refine ll_g14 X Z dX1_carry_46 ?_
          refine lv_iload_n hx hb dX1_carry_49 rfl (lv_at hl 2 rfl) ?_
          refine nw_bipush hx hb 16 dX1_carry_50 (by decide) ?_
          refine nw_imul hx hb dX1_carry_52 ?_
          refine lv_dup2_11 hx hb dX1_carry_53 rfl rfl ?_
          refine ll_ld14 X Z (by omega) dX1_carry_54 ?_
          refine nw_iconst hx hb 1 dX1_carry_55 (by decide) ?_
          refine lv_iload hx hb dX1_carry_56 (lv_at hl 0 rfl) ?_
          refine lv_if_ge (tgt := 69) hx hb dX1_carry_58 (by decide) (fun h_58 => ?_) (fun h_58 => ?_)
          · skip
            refine lv_iload hx hb dX1_carry_69 (lv_at hl 0 rfl) ?_
            refine nw_asx (nI (ll_bit bi)) (ll_bit_pos h_58) ?_
            refine nw_ishl hx hb (by omega) dX1_carry_71 ?_
            refine nw_ixor hx hb dX1_carry_72 ?_
            refine ll_st14 X Z (by omega) dX1_carry_73 (fun H locs Z => ?_)
            refine lv_aload_n hx hb dX1_carry_74 rfl (lv_at hl 1 rfl) ?_
            refine lv_iload_n hx hb dX1_carry_75 rfl (lv_at hl 2 rfl) ?_
            refine ll_callv X Z (ll_k_carryOne l hok2 hs (by omega)) (cwX1_carryOne X.2.2.2.2 ⟨by decide, by decide⟩) rfl hl.1 rfl (Nat.le_of_ble_eq_true rfl) ⟨Nat.le_refl _, Nat.le_refl _⟩ dX1_carry_76 (fun H locs Z => ?_)
            refine lv_goto (tgt := 118) hx hb dX1_carry_79 (by decide) ?_
            refine nw_iconst hx hb 0 dX1_carry_118 (by decide) ?_
            exact ll_reti X hr hlk Z rfl rfl dX1_carry_119
          · skip
            refine lv_iload hx hb dX1_carry_61 (lv_at hl 0 rfl) ?_
            refine nw_bipush hx hb 25 dX1_carry_63 (by decide) ?_
            refine lv_iadd hx hb dX1_carry_65 ?_
            refine nw_asx (nI (ll_bit bi)) (ll_bit_neg h_58) ?_
            refine lv_goto (tgt := 71) hx hb dX1_carry_66 (by decide) ?_
            refine nw_ishl hx hb (by omega) dX1_carry_71 ?_
            refine nw_ixor hx hb dX1_carry_72 ?_
            refine ll_st14 X Z (by omega) dX1_carry_73 (fun H locs Z => ?_)
            refine lv_aload_n hx hb dX1_carry_74 rfl (lv_at hl 1 rfl) ?_
            refine lv_iload_n hx hb dX1_carry_75 rfl (lv_at hl 2 rfl) ?_
            refine ll_callv X Z (ll_k_carryOne l hok2 hs (by omega)) (cwX1_carryOne X.2.2.2.2 ⟨by decide, by decide⟩) rfl hl.1 rfl (Nat.le_of_ble_eq_true rfl) ⟨Nat.le_refl _, Nat.le_refl _⟩ dX1_carry_76 (fun H locs Z => ?_)
            refine lv_goto (tgt := 118) hx hb dX1_carry_79 (by decide) ?_
            refine nw_iconst hx hb 0 dX1_carry_118 (by decide) ?_
            exact ll_reti X hr hlk Z rfl rfl dX1_carry_119
      · skip
        exact absurd h_22 (by decide)
    · skip
      exact absurd h_15 hfr
  · skip
    exact absurd rfl h_4
set_option maxHeartbeats 4000000 in
set_option maxRecDepth 100000 in
theorem ll_k_carry_3 (l : Launch) {σ : ll_St} (hok : ll_ok σ) {s : Nat} {bi : Int32} (hs : s < 2) (hfr : ¬ σ 13 s = 0) : ll_Mi l yX1_carry wsX1_carry rmX1_carry [.int (nI s), .int (nI 3), .int bi] σ (ll_pd (1 - s) (ll_ar (1 - s) (σ 14 (s * 16)) σ)) (nI 0) := by
  refine ll_ofWi (Nat.le_of_ble_eq_true rfl) (fun p e st m args below meth c D h ad cI cZ A X hr hlk Z ls hl => ?_)
  have hx := X.1
  have hb := X.2.1
  have hl : lv_has ls 5 [(0, .ref h), (1, .int (nI s)), (2, .int (nI 3)), (3, .int bi)] := hl
  have o13 : σ 13 s < 17 := hok.1 13 s (by decide) (by decide)
  refine lv_iload_n hx hb dX1_carry_0 rfl (lv_at hl 1 rfl) ?_
  refine ll_calls X Z (ll_k_bad0 l hs) (cwX1_bad X.2.2.2.2 ⟨by decide, by decide⟩) rfl hl.1 rfl (Nat.le_of_ble_eq_true rfl) ⟨Nat.le_refl _, Nat.le_refl _⟩ dX1_carry_1 (fun H locs Z => ?_)
  refine nw_if_eq (tgt := 9) hx hb (by omega) dX1_carry_4 (by decide) (fun h_4 => ?_) (fun h_4 => ?_)
  · skip
    refine lv_aload_n hx hb dX1_carry_9 rfl (lv_at hl 0 rfl) ?_
    refine ll_g13 X Z dX1_carry_10 ?_
    refine lv_iload_n hx hb dX1_carry_13 rfl (lv_at hl 1 rfl) ?_
    refine ll_ld13 X Z (by omega) dX1_carry_14 ?_
    refine nw_if_ne (tgt := 20) hx hb (by omega) dX1_carry_15 (by decide) (fun h_15 => ?_) (fun h_15 => ?_)
    · skip
      refine lv_iload_n hx hb dX1_carry_20 rfl (lv_at hl 2 rfl) ?_
      refine nw_iconst hx hb 1 dX1_carry_21 (by decide) ?_
      refine nw_icmp_ne (tgt := 34) hx hb (by omega) (by omega) dX1_carry_22 (by decide) (fun h_22 => ?_) (fun h_22 => ?_)
      · skip
        refine lv_iload_n hx hb dX1_carry_34 rfl (lv_at hl 2 rfl) ?_
        refine nw_iconst hx hb 2 dX1_carry_35 (by decide) ?_
        refine nw_icmp_ne (tgt := 82) hx hb (by omega) (by omega) dX1_carry_36 (by decide) (fun h_36 => ?_) (fun h_36 => ?_)
        · skip
          refine lv_iload_n hx hb dX1_carry_82 rfl (lv_at hl 2 rfl) ?_
          refine nw_iconst hx hb 3 dX1_carry_83 (by decide) ?_
          refine nw_icmp_ne (tgt := 113) hx hb (by omega) (by omega) dX1_carry_84 (by decide) (fun h_84 => ?_) (fun h_84 => ?_)
          · skip
            exact absurd rfl h_84
          · skip
            refine lv_aload_n hx hb dX1_carry_87 rfl (lv_at hl 0 rfl) ?_
            refine nw_iconst hx hb 1 dX1_carry_88 (by decide) ?_
            refine lv_iload_n hx hb dX1_carry_89 rfl (lv_at hl 1 rfl) ?_
            refine nw_isub hx hb (by omega) dX1_carry_90 ?_
            refine lv_aload_n hx hb dX1_carry_91 rfl (lv_at hl 0 rfl) ?_
            refine ll_g14 X Z dX1_carry_92 ?_
            refine lv_iload_n hx hb dX1_carry_95 rfl (lv_at hl 1 rfl) ?_
            refine nw_bipush hx hb 16 dX1_carry_96 (by decide) ?_
            refine nw_imul hx hb dX1_carry_98 ?_
            refine ll_ld14 X Z (by omega) dX1_carry_99 ?_
            refine ll_callv X Z (ll_k_arrive l (s := 1 - s) (f := σ 14 (s * 16)) hok (by omega) (hok.1 14 _ (by decide) (by decide))) (cwX1_arrive X.2.2.2.2 ⟨by decide, by decide⟩) rfl hl.1 rfl (Nat.le_of_ble_eq_true rfl) ⟨Nat.le_refl _, Nat.le_refl _⟩ dX1_carry_100 (fun H locs Z => ?_)
            refine lv_aload_n hx hb dX1_carry_103 rfl (lv_at hl 0 rfl) ?_
            refine nw_iconst hx hb 1 dX1_carry_104 (by decide) ?_
            refine lv_iload_n hx hb dX1_carry_105 rfl (lv_at hl 1 rfl) ?_
            refine nw_isub hx hb (by omega) dX1_carry_106 ?_
            refine ll_callv X Z (ll_k_payDebt l (s := 1 - s) (ll_ok_ar hok) (by omega)) (cwX1_payDebt X.2.2.2.2 ⟨by decide, by decide⟩) rfl hl.1 rfl (Nat.le_of_ble_eq_true rfl) ⟨Nat.le_refl _, Nat.le_refl _⟩ dX1_carry_107 (fun H locs Z => ?_)
            refine lv_goto (tgt := 118) hx hb dX1_carry_110 (by decide) ?_
            refine nw_iconst hx hb 0 dX1_carry_118 (by decide) ?_
            exact ll_reti X hr hlk Z rfl rfl dX1_carry_119
        · skip
          exact absurd h_36 (by decide)
      · skip
        exact absurd h_22 (by decide)
    · skip
      exact absurd h_15 hfr
  · skip
    exact absurd rfl h_4
set_option maxHeartbeats 4000000 in
set_option maxRecDepth 100000 in
theorem ll_k_carry_4 (l : Launch) {σ : ll_St} (hok : ll_ok σ) {s : Nat} {fl bi : Int32} (hs : s < 2) (hfr : ¬ σ 13 s = 0) (h1 : fl ≠ 1) (h2 : fl ≠ 2) (h3 : fl ≠ 3) : ll_Mi l yX1_carry wsX1_carry rmX1_carry [.int (nI s), .int fl, .int bi] σ (ll_co s σ) (nI 0) := by
  refine ll_ofWi (Nat.le_of_ble_eq_true rfl) (fun p e st m args below meth c D h ad cI cZ A X hr hlk Z ls hl => ?_)
  have hx := X.1
  have hb := X.2.1
  have hl : lv_has ls 5 [(0, .ref h), (1, .int (nI s)), (2, .int fl), (3, .int bi)] := hl
  have o13 : σ 13 s < 17 := hok.1 13 s (by decide) (by decide)
  refine lv_iload_n hx hb dX1_carry_0 rfl (lv_at hl 1 rfl) ?_
  refine ll_calls X Z (ll_k_bad0 l hs) (cwX1_bad X.2.2.2.2 ⟨by decide, by decide⟩) rfl hl.1 rfl (Nat.le_of_ble_eq_true rfl) ⟨Nat.le_refl _, Nat.le_refl _⟩ dX1_carry_1 (fun H locs Z => ?_)
  refine nw_if_eq (tgt := 9) hx hb (by omega) dX1_carry_4 (by decide) (fun h_4 => ?_) (fun h_4 => ?_)
  · skip
    refine lv_aload_n hx hb dX1_carry_9 rfl (lv_at hl 0 rfl) ?_
    refine ll_g13 X Z dX1_carry_10 ?_
    refine lv_iload_n hx hb dX1_carry_13 rfl (lv_at hl 1 rfl) ?_
    refine ll_ld13 X Z (by omega) dX1_carry_14 ?_
    refine nw_if_ne (tgt := 20) hx hb (by omega) dX1_carry_15 (by decide) (fun h_15 => ?_) (fun h_15 => ?_)
    · skip
      refine lv_iload_n hx hb dX1_carry_20 rfl (lv_at hl 2 rfl) ?_
      refine nw_iconst hx hb 1 dX1_carry_21 (by decide) ?_
      refine lv_icmp_ne (tgt := 34) hx hb dX1_carry_22 (by decide) (fun h_22 => ?_) (fun h_22 => ?_)
      · skip
        refine lv_iload_n hx hb dX1_carry_34 rfl (lv_at hl 2 rfl) ?_
        refine nw_iconst hx hb 2 dX1_carry_35 (by decide) ?_
        refine lv_icmp_ne (tgt := 82) hx hb dX1_carry_36 (by decide) (fun h_36 => ?_) (fun h_36 => ?_)
        · skip
          refine lv_iload_n hx hb dX1_carry_82 rfl (lv_at hl 2 rfl) ?_
          refine nw_iconst hx hb 3 dX1_carry_83 (by decide) ?_
          refine lv_icmp_ne (tgt := 113) hx hb dX1_carry_84 (by decide) (fun h_84 => ?_) (fun h_84 => ?_)
          · skip
            refine lv_aload_n hx hb dX1_carry_113 rfl (lv_at hl 0 rfl) ?_
            refine lv_iload_n hx hb dX1_carry_114 rfl (lv_at hl 1 rfl) ?_
            refine ll_callv X Z (ll_k_carryOne l hok hs (by omega)) (cwX1_carryOne X.2.2.2.2 ⟨by decide, by decide⟩) rfl hl.1 rfl (Nat.le_of_ble_eq_true rfl) ⟨Nat.le_refl _, Nat.le_refl _⟩ dX1_carry_115 (fun H locs Z => ?_)
            refine nw_iconst hx hb 0 dX1_carry_118 (by decide) ?_
            exact ll_reti X hr hlk Z rfl rfl dX1_carry_119
          · skip
            exact absurd h_84 h3
        · skip
          exact absurd h_36 h2
      · skip
        exact absurd h_22 h1
    · skip
      exact absurd h_15 hfr
  · skip
    exact absurd rfl h_4
end
section
set_option maxRecDepth 100000
/-! the world of a LossyLinkModel: 0 bytes, 1 marked, 2 counts, 3 gone -/
def mm_W (h : Nat) (ad : Nat → Nat) (cI cZ : ClassId) (σ : ll_St) : va_W := [(h, .inr (1, [.ref (ad 0), .ref (ad 1), .ref (ad 2), .ref (ad 3)])), (ad 0, .inl (cI, 60, .inl (fun i => nI (σ 0 i)))), (ad 1, .inl (cZ, 60, .inl (fun i => nI (σ 1 i)))), (ad 2, .inl (cI, 2, .inl (fun i => nI (σ 2 i)))), (ad 3, .inl (cI, 2, .inl (fun i => nI (σ 3 i))))]
theorem mm_W0 (h : Nat) (ad : Nat → Nat) (cI cZ : ClassId) (σ : ll_St) (j x : Nat) : (mm_W h ad cI cZ σ).set 1 (ad 0, .inl (cI, 60, .inl (upd (fun i => nI (σ 0 i)) j (nI x)))) = mm_W h ad cI cZ (ll_set σ 0 j x) := by
  unfold mm_W
  rw [ll_i σ 0 j x, ll_o σ (a := 1) (k := 0) (by decide), ll_o σ (a := 2) (k := 0) (by decide), ll_o σ (a := 3) (k := 0) (by decide)]
  rfl
theorem mm_W1 (h : Nat) (ad : Nat → Nat) (cI cZ : ClassId) (σ : ll_St) (j x : Nat) : (mm_W h ad cI cZ σ).set 2 (ad 1, .inl (cZ, 60, .inl (upd (fun i => nI (σ 1 i)) j (nI x)))) = mm_W h ad cI cZ (ll_set σ 1 j x) := by
  unfold mm_W
  rw [ll_i σ 1 j x, ll_o σ (a := 0) (k := 1) (by decide), ll_o σ (a := 2) (k := 1) (by decide), ll_o σ (a := 3) (k := 1) (by decide)]
  rfl
theorem mm_W2 (h : Nat) (ad : Nat → Nat) (cI cZ : ClassId) (σ : ll_St) (j x : Nat) : (mm_W h ad cI cZ σ).set 3 (ad 2, .inl (cI, 2, .inl (upd (fun i => nI (σ 2 i)) j (nI x)))) = mm_W h ad cI cZ (ll_set σ 2 j x) := by
  unfold mm_W
  rw [ll_i σ 2 j x, ll_o σ (a := 0) (k := 2) (by decide), ll_o σ (a := 1) (k := 2) (by decide), ll_o σ (a := 3) (k := 2) (by decide)]
  rfl
theorem mm_W3 (h : Nat) (ad : Nat → Nat) (cI cZ : ClassId) (σ : ll_St) (j x : Nat) : (mm_W h ad cI cZ σ).set 4 (ad 3, .inl (cI, 2, .inl (upd (fun i => nI (σ 3 i)) j (nI x)))) = mm_W h ad cI cZ (ll_set σ 3 j x) := by
  unfold mm_W
  rw [ll_i σ 3 j x, ll_o σ (a := 0) (k := 3) (by decide), ll_o σ (a := 1) (k := 3) (by decide), ll_o σ (a := 2) (k := 3) (by decide)]
  rfl
def mm_C (p : Program) (m : MethodId) (c : Code) (cc : ByteArray) (nL : Nat) (s : State) (args : Array Value) : Prop := CallFix p m c cc nL s args lw_all RX2
def mm_Z (D : va_G) (h : Nat) (ad : Nat → Nat) (cI cZ : ClassId) (A : Nat → Prop) (s : State) (σ : ll_St) (H : Heap) (locs : List Loc) : Prop := va_K D vwCl (ll_ty cI cZ) s ∧ va_P D vwCl (mm_W h ad cI cZ σ) H ∧ va_D A (mm_W h ad cI cZ σ) ∧ va_S A s.heap H locs ∧ ∀ q, s.heap.size ≤ q → A q
section MM
variable {p : Program} {l : Launch} {e : Env} {R : Room} {s : State} {m : MethodId} {args : Array Value} {below : List Frame} {meth : Method} {c : Code} {H : Heap} {locs : List Loc} {cells slots : Nat} {Q : State → Prop} {cc : ByteArray} {pc : Nat} {ls : Array Slot} {rest : List Value} {nL : Nat} {D : va_G} {h : Nat} {ad : Nat → Nat} {cI cZ : ClassId} {A : Nat → Prop} {σ : ll_St}
theorem mm_g0 (X : mm_C p m c cc nL s args) (Z : mm_Z D h ad cI cZ A s σ H locs) (hdg : decode cc pc = .ok (.getfield 7, 3)) (kk : W p l e R s m args below meth c H locs cells slots Q (F0 m (pc + 3) ls (.ref (ad 0) :: rest))) : W p l e R s m args below meth c H locs cells slots Q (F0 m pc ls (.ref h :: rest)) := va_get (D := D) (ci := 1) (v := .ref (ad 0)) (C := RX2) (T := TX2) (N := 4) X.1 X.2.1 X.2.2.2.2 in_X2 X.2.2.2.1 Z.1 Z.2.1 0 rfl rfl 0 (by decide) (X.2.2.2.2 _ q225) (fun _ h9 => h9) rfl hdg kk
theorem mm_g1 (X : mm_C p m c cc nL s args) (Z : mm_Z D h ad cI cZ A s σ H locs) (hdg : decode cc pc = .ok (.getfield 13, 3)) (kk : W p l e R s m args below meth c H locs cells slots Q (F0 m (pc + 3) ls (.ref (ad 1) :: rest))) : W p l e R s m args below meth c H locs cells slots Q (F0 m pc ls (.ref h :: rest)) := va_get (D := D) (ci := 1) (v := .ref (ad 1)) (C := RX2) (T := TX2) (N := 4) X.1 X.2.1 X.2.2.2.2 in_X2 X.2.2.2.1 Z.1 Z.2.1 0 rfl rfl 1 (by decide) (X.2.2.2.2 _ q226) (fun _ h9 => h9) rfl hdg kk
theorem mm_g2 (X : mm_C p m c cc nL s args) (Z : mm_Z D h ad cI cZ A s σ H locs) (hdg : decode cc pc = .ok (.getfield 17, 3)) (kk : W p l e R s m args below meth c H locs cells slots Q (F0 m (pc + 3) ls (.ref (ad 2) :: rest))) : W p l e R s m args below meth c H locs cells slots Q (F0 m pc ls (.ref h :: rest)) := va_get (D := D) (ci := 1) (v := .ref (ad 2)) (C := RX2) (T := TX2) (N := 4) X.1 X.2.1 X.2.2.2.2 in_X2 X.2.2.2.1 Z.1 Z.2.1 0 rfl rfl 2 (by decide) (X.2.2.2.2 _ q227) (fun _ h9 => h9) rfl hdg kk
theorem mm_g3 (X : mm_C p m c cc nL s args) (Z : mm_Z D h ad cI cZ A s σ H locs) (hdg : decode cc pc = .ok (.getfield 20, 3)) (kk : W p l e R s m args below meth c H locs cells slots Q (F0 m (pc + 3) ls (.ref (ad 3) :: rest))) : W p l e R s m args below meth c H locs cells slots Q (F0 m pc ls (.ref h :: rest)) := va_get (D := D) (ci := 1) (v := .ref (ad 3)) (C := RX2) (T := TX2) (N := 4) X.1 X.2.1 X.2.2.2.2 in_X2 X.2.2.2.1 Z.1 Z.2.1 0 rfl rfl 3 (by decide) (X.2.2.2.2 _ q228) (fun _ h9 => h9) rfl hdg kk
theorem mm_ld0 (X : mm_C p m c cc nL s args) (Z : mm_Z D h ad cI cZ A s σ H locs) {j : Nat} (hj : j < 60) (hdg : decode cc pc = .ok (.iaload, 1)) (kk : W p l e R s m args below meth c H locs cells slots Q (F0 m (pc + 1) ls (.int (nI (σ 0 j)) :: rest))) : W p l e R s m args below meth c H locs cells slots Q (F0 m pc ls (.int (nI j) :: .ref (ad 0) :: rest)) := by
  refine va_iald (D := D) X.1 X.2.1 Z.1 Z.2.1 1 0 (f := fun i => nI (σ 0 i)) (n := 60) rfl rfl (vp_in_nI hj (by decide)) hdg ?_
  rw [nI_clamp (by omega)]
  exact kk
theorem mm_ld1 (X : mm_C p m c cc nL s args) (Z : mm_Z D h ad cI cZ A s σ H locs) {j : Nat} (hj : j < 60) (hdg : decode cc pc = .ok (.baload, 1)) (kk : W p l e R s m args below meth c H locs cells slots Q (F0 m (pc + 1) ls (.int (nI (σ 1 j)) :: rest))) : W p l e R s m args below meth c H locs cells slots Q (F0 m pc ls (.int (nI j) :: .ref (ad 1) :: rest)) := by
  refine va_zald (D := D) X.1 X.2.1 Z.1 Z.2.1 2 1 (f := fun i => nI (σ 1 i)) (n := 60) rfl rfl (vp_in_nI hj (by decide)) hdg ?_
  rw [nI_clamp (by omega)]
  exact kk
theorem mm_ld2 (X : mm_C p m c cc nL s args) (Z : mm_Z D h ad cI cZ A s σ H locs) {j : Nat} (hj : j < 2) (hdg : decode cc pc = .ok (.iaload, 1)) (kk : W p l e R s m args below meth c H locs cells slots Q (F0 m (pc + 1) ls (.int (nI (σ 2 j)) :: rest))) : W p l e R s m args below meth c H locs cells slots Q (F0 m pc ls (.int (nI j) :: .ref (ad 2) :: rest)) := by
  refine va_iald (D := D) X.1 X.2.1 Z.1 Z.2.1 3 0 (f := fun i => nI (σ 2 i)) (n := 2) rfl rfl (vp_in_nI hj (by decide)) hdg ?_
  rw [nI_clamp (by omega)]
  exact kk
theorem mm_ld3 (X : mm_C p m c cc nL s args) (Z : mm_Z D h ad cI cZ A s σ H locs) {j : Nat} (hj : j < 2) (hdg : decode cc pc = .ok (.iaload, 1)) (kk : W p l e R s m args below meth c H locs cells slots Q (F0 m (pc + 1) ls (.int (nI (σ 3 j)) :: rest))) : W p l e R s m args below meth c H locs cells slots Q (F0 m pc ls (.int (nI j) :: .ref (ad 3) :: rest)) := by
  refine va_iald (D := D) X.1 X.2.1 Z.1 Z.2.1 4 0 (f := fun i => nI (σ 3 i)) (n := 2) rfl rfl (vp_in_nI hj (by decide)) hdg ?_
  rw [nI_clamp (by omega)]
  exact kk
theorem mm_st0 (X : mm_C p m c cc nL s args) (Z : mm_Z D h ad cI cZ A s σ H locs) {j x : Nat} (hj : j < 60) (hdg : decode cc pc = .ok (.iastore, 1)) (kk : ∀ (H1 : Heap) (locs1 : List Loc), mm_Z D h ad cI cZ A s (ll_set σ 0 j x) H1 locs1 → W p l e R s m args below meth c H1 locs1 cells slots Q (F0 m (pc + 1) ls rest)) : W p l e R s m args below meth c H locs cells slots Q (F0 m pc ls (.int (nI x) :: .int (nI j) :: .ref (ad 0) :: rest)) := by
  refine va_iast (D := D) X.1 X.2.1 Z.1 Z.2.1 Z.2.2.1 Z.2.2.2.1 1 0 (f := fun i => nI (σ 0 i)) (n := 60) rfl rfl (vp_in_nI hj (by decide)) hdg (fun H1 locs1 hP hD hS => ?_)
  rw [nI_clamp (by omega)] at hP hD
  rw [mm_W0] at hP hD
  exact kk H1 locs1 ⟨Z.1, hP, hD, hS, Z.2.2.2.2⟩
theorem mm_st1 (X : mm_C p m c cc nL s args) (Z : mm_Z D h ad cI cZ A s σ H locs) {j x : Nat} (hj : j < 60) (hx01 : x ≤ 1) (hdg : decode cc pc = .ok (.bastore, 1)) (kk : ∀ (H1 : Heap) (locs1 : List Loc), mm_Z D h ad cI cZ A s (ll_set σ 1 j x) H1 locs1 → W p l e R s m args below meth c H1 locs1 cells slots Q (F0 m (pc + 1) ls rest)) : W p l e R s m args below meth c H locs cells slots Q (F0 m pc ls (.int (nI x) :: .int (nI j) :: .ref (ad 1) :: rest)) := by
  refine va_zast (D := D) X.1 X.2.1 Z.1 Z.2.1 Z.2.2.1 Z.2.2.2.1 2 1 (f := fun i => nI (σ 1 i)) (n := 60) rfl rfl (vp_in_nI hj (by decide)) hdg (fun H1 locs1 hP hD hS => ?_)
  rw [nI_clamp (by omega)] at hP hD
  have e : vp_nar .boolean (nI x) = nI x := by
    rcases (show x = 0 ∨ x = 1 by omega) with rfl | rfl <;> rfl
  rw [e] at hP hD
  rw [mm_W1] at hP hD
  exact kk H1 locs1 ⟨Z.1, hP, hD, hS, Z.2.2.2.2⟩
theorem mm_st2 (X : mm_C p m c cc nL s args) (Z : mm_Z D h ad cI cZ A s σ H locs) {j x : Nat} (hj : j < 2) (hdg : decode cc pc = .ok (.iastore, 1)) (kk : ∀ (H1 : Heap) (locs1 : List Loc), mm_Z D h ad cI cZ A s (ll_set σ 2 j x) H1 locs1 → W p l e R s m args below meth c H1 locs1 cells slots Q (F0 m (pc + 1) ls rest)) : W p l e R s m args below meth c H locs cells slots Q (F0 m pc ls (.int (nI x) :: .int (nI j) :: .ref (ad 2) :: rest)) := by
  refine va_iast (D := D) X.1 X.2.1 Z.1 Z.2.1 Z.2.2.1 Z.2.2.2.1 3 0 (f := fun i => nI (σ 2 i)) (n := 2) rfl rfl (vp_in_nI hj (by decide)) hdg (fun H1 locs1 hP hD hS => ?_)
  rw [nI_clamp (by omega)] at hP hD
  rw [mm_W2] at hP hD
  exact kk H1 locs1 ⟨Z.1, hP, hD, hS, Z.2.2.2.2⟩
theorem mm_st3 (X : mm_C p m c cc nL s args) (Z : mm_Z D h ad cI cZ A s σ H locs) {j x : Nat} (hj : j < 2) (hdg : decode cc pc = .ok (.iastore, 1)) (kk : ∀ (H1 : Heap) (locs1 : List Loc), mm_Z D h ad cI cZ A s (ll_set σ 3 j x) H1 locs1 → W p l e R s m args below meth c H1 locs1 cells slots Q (F0 m (pc + 1) ls rest)) : W p l e R s m args below meth c H locs cells slots Q (F0 m pc ls (.int (nI x) :: .int (nI j) :: .ref (ad 3) :: rest)) := by
  refine va_iast (D := D) X.1 X.2.1 Z.1 Z.2.1 Z.2.2.1 Z.2.2.2.1 4 0 (f := fun i => nI (σ 3 i)) (n := 2) rfl rfl (vp_in_nI hj (by decide)) hdg (fun H1 locs1 hP hD hS => ?_)
  rw [nI_clamp (by omega)] at hP hD
  rw [mm_W3] at hP hD
  exact kk H1 locs1 ⟨Z.1, hP, hD, hS, Z.2.2.2.2⟩
end MM
/-! contracts -/
def mm_Mv (l : Launch) (y : MethodName) (ws : List Cond) (rm : Room) (as : List Value) (σ τ : ll_St) : Prop :=
  ∀ (D : va_G) (h : Nat) (ad : Nat → Nat) (cI cZ : ClassId) (sz : Nat), Met l y ws rm (va_Pc (.ref h :: as) (fun U => U.heap.size = sz ∧ va_P D vwCl (mm_W h ad cI cZ σ) U.heap ∧ va_K D vwCl (ll_ty cI cZ) U ∧ va_D (fun _ => True) (mm_W h ad cI cZ σ))) (va_Qv (fun u : ll_St => u = τ) (fun u t => va_P D vwCl (mm_W h ad cI cZ u) t.heap ∧ va_K D vwCl (ll_ty cI cZ) t ∧ va_D (va_A (mm_W h ad cI cZ σ) sz) (mm_W h ad cI cZ u)) (va_A (mm_W h ad cI cZ σ) sz)) 0 0 (va_A (mm_W h ad cI cZ σ) sz)
def mm_Mi (l : Launch) (y : MethodName) (ws : List Cond) (rm : Room) (as : List Value) (σ τ : ll_St) (ρ : Int32) : Prop :=
  ∀ (D : va_G) (h : Nat) (ad : Nat → Nat) (cI cZ : ClassId) (sz : Nat), Met l y ws rm (va_Pc (.ref h :: as) (fun U => U.heap.size = sz ∧ va_P D vwCl (mm_W h ad cI cZ σ) U.heap ∧ va_K D vwCl (ll_ty cI cZ) U ∧ va_D (fun _ => True) (mm_W h ad cI cZ σ))) (va_Qi (fun (r : Int32) (u : ll_St) => r = ρ ∧ u = τ) (fun u t => va_P D vwCl (mm_W h ad cI cZ u) t.heap ∧ va_K D vwCl (ll_ty cI cZ) t ∧ va_D (va_A (mm_W h ad cI cZ σ) sz) (mm_W h ad cI cZ u)) (va_A (mm_W h ad cI cZ σ) sz)) 0 0 (va_A (mm_W h ad cI cZ σ) sz)
/-- a static method that touches no cell -/
def mm_Ms (l : Launch) (y : MethodName) (ws : List Cond) (rm : Room) (as : List Value) (ρ : Int32) : Prop :=
  Met l y ws rm (va_Pc as (fun _ => True)) (va_Qi (fun (r : Int32) (_ : Unit) => r = ρ) (fun _ _ => True) (fun _ => False)) 0 0 (fun _ => False)
def mm_Ev (D : va_G) (h : Nat) (ad : Nat → Nat) (cI cZ : ClassId) (A : Nat → Prop) (below : List Frame) (args : Array Value) (s : State) (τ : ll_St) : State → Prop := MQ below (va_Qv (fun u : ll_St => u = τ) (fun u t => va_P D vwCl (mm_W h ad cI cZ u) t.heap ∧ va_K D vwCl (ll_ty cI cZ) t ∧ va_D A (mm_W h ad cI cZ u)) A) args s 0 0 A
def mm_Ei (D : va_G) (h : Nat) (ad : Nat → Nat) (cI cZ : ClassId) (A : Nat → Prop) (below : List Frame) (args : Array Value) (s : State) (τ : ll_St) (ρ : Int32) : State → Prop := MQ below (va_Qi (fun (r : Int32) (u : ll_St) => r = ρ ∧ u = τ) (fun u t => va_P D vwCl (mm_W h ad cI cZ u) t.heap ∧ va_K D vwCl (ll_ty cI cZ) t ∧ va_D A (mm_W h ad cI cZ u)) A) args s 0 0 A
def mm_Es (below : List Frame) (args : Array Value) (s : State) (ρ : Int32) : State → Prop := MQ below (va_Qi (fun (r : Int32) (_ : Unit) => r = ρ) (fun _ _ => True) (fun _ => False)) args s 0 0 (fun _ => False)
theorem mm_ofWv {l : Launch} {nm ds : String} {cc : ByteArray} {nL : Nat} {rm : Room} {as : List Value} {σ τ : ll_St} (hn : (lg_sl (.ref 0 :: as)).length ≤ nL)
    (body : ∀ (p : Program) (e : Env) (s : State) (m : MethodId) (args : Array Value) (below : List Frame) (meth : Method) (c : Code) (D : va_G) (h : Nat) (ad : Nat → Nat) (cI cZ : ClassId) (A : Nat → Prop), mm_C p m c cc nL s args → meth.sig.returnType = none → meth.locks = false → mm_Z D h ad cI cZ A s σ s.heap [] → ∀ ls : Array Slot, lv_has ls nL (lv_args 0 (.ref h :: as)) → W p l e rm s m args below meth c s.heap [] 0 0 (mm_Ev D h ad cI cZ A below args s τ) (F0 m 0 ls [])) :
    mm_Mv l ⟨RX2, nm, ds⟩ (ws_ ⟨RX2, nm, ds⟩ cc nL none) rm as σ τ := by
  intro D h ad cI cZ sz
  refine Met.ofW (cc := cc) (maxL := nL) (ret := none) (show plainName RX2 = true by decide) rfl ?_
  intro p e s m args below meth c s₁ B hml hv
  obtain ⟨rfl, hsz, hP, hK, hD0⟩ := hv
  have hts := atoms_spec (ws := ws_ ⟨RX2, nm, ds⟩ cc nL none) B.pre
  have hts : ∀ w ∈ lw_all, w.before _ s = true := fun w h => hts w (List.mem_cons_of_mem _ h)
  have hown : s.vm.findClass RX2 = some m.cls := findClass_of_methodNamed B.named
  subst hsz
  have hD := hD0.self (sz := s.heap.size)
  have hA : ∀ q : Nat, s.heap.size ≤ q → va_A (mm_W h ad cI cZ σ) s.heap.size q := fun q h => Or.inr h
  have hl := lv_entry (.ref h :: as) (n := nL) hn
  rw [lg_entry_eq]
  exact body p e s m _ below meth c D h ad cI cZ _ ⟨B.exec, B.bytes, hml, hown, hts⟩ B.returns B.notSynchronized ⟨hK, hP, hD, va_S.rf, hA⟩ _ hl
theorem mm_ofWi {l : Launch} {nm ds : String} {cc : ByteArray} {nL : Nat} {rm : Room} {as : List Value} {σ τ : ll_St} {ρ : Int32} {ty : FieldType} (hn : (lg_sl (.ref 0 :: as)).length ≤ nL)
    (body : ∀ (p : Program) (e : Env) (s : State) (m : MethodId) (args : Array Value) (below : List Frame) (meth : Method) (c : Code) (D : va_G) (h : Nat) (ad : Nat → Nat) (cI cZ : ClassId) (A : Nat → Prop), mm_C p m c cc nL s args → meth.sig.returnType = some ty → meth.locks = false → mm_Z D h ad cI cZ A s σ s.heap [] → ∀ ls : Array Slot, lv_has ls nL (lv_args 0 (.ref h :: as)) → W p l e rm s m args below meth c s.heap [] 0 0 (mm_Ei D h ad cI cZ A below args s τ ρ) (F0 m 0 ls [])) :
    mm_Mi l ⟨RX2, nm, ds⟩ (ws_ ⟨RX2, nm, ds⟩ cc nL (some ty)) rm as σ τ ρ := by
  intro D h ad cI cZ sz
  refine Met.ofW (cc := cc) (maxL := nL) (ret := some ty) (show plainName RX2 = true by decide) rfl ?_
  intro p e s m args below meth c s₁ B hml hv
  obtain ⟨rfl, hsz, hP, hK, hD0⟩ := hv
  have hts := atoms_spec (ws := ws_ ⟨RX2, nm, ds⟩ cc nL (some ty)) B.pre
  have hts : ∀ w ∈ lw_all, w.before _ s = true := fun w h => hts w (List.mem_cons_of_mem _ h)
  have hown : s.vm.findClass RX2 = some m.cls := findClass_of_methodNamed B.named
  subst hsz
  have hD := hD0.self (sz := s.heap.size)
  have hA : ∀ q : Nat, s.heap.size ≤ q → va_A (mm_W h ad cI cZ σ) s.heap.size q := fun q h => Or.inr h
  have hl := lv_entry (.ref h :: as) (n := nL) hn
  rw [lg_entry_eq]
  exact body p e s m _ below meth c D h ad cI cZ _ ⟨B.exec, B.bytes, hml, hown, hts⟩ B.returns B.notSynchronized ⟨hK, hP, hD, va_S.rf, hA⟩ _ hl
theorem mm_ofWs {l : Launch} {nm ds : String} {cc : ByteArray} {nL : Nat} {rm : Room} {as : List Value} {ρ : Int32} {ty : FieldType} (hn : (lg_sl as).length ≤ nL)
    (body : ∀ (p : Program) (e : Env) (s : State) (m : MethodId) (args : Array Value) (below : List Frame) (meth : Method) (c : Code), mm_C p m c cc nL s args → meth.sig.returnType = some ty → meth.locks = false → ∀ ls : Array Slot, lv_has ls nL (lv_args 0 as) → W p l e rm s m args below meth c s.heap [] 0 0 (mm_Es below args s ρ) (F0 m 0 ls [])) :
    mm_Ms l ⟨RX2, nm, ds⟩ (ws_ ⟨RX2, nm, ds⟩ cc nL (some ty)) rm as ρ := by
  refine Met.ofW (cc := cc) (maxL := nL) (ret := some ty) (show plainName RX2 = true by decide) rfl ?_
  intro p e s m args below meth c s₁ B hml hv
  obtain ⟨rfl, -⟩ := hv
  have hts := atoms_spec (ws := ws_ ⟨RX2, nm, ds⟩ cc nL (some ty)) B.pre
  have hts : ∀ w ∈ lw_all, w.before _ s = true := fun w h => hts w (List.mem_cons_of_mem _ h)
  have hown : s.vm.findClass RX2 = some m.cls := findClass_of_methodNamed B.named
  have hl := lv_entry as (n := nL) hn
  rw [lg_entry_eq]
  exact body p e s m _ below meth c ⟨B.exec, B.bytes, hml, hown, hts⟩ B.returns B.notSynchronized _ hl
section MMr
variable {p : Program} {l : Launch} {e : Env} {R : Room} {s : State} {m : MethodId} {args : Array Value} {below : List Frame} {meth : Method} {c : Code} {H : Heap} {locs : List Loc} {cells slots : Nat} {Q : State → Prop} {cc : ByteArray} {pc : Nat} {ls : Array Slot} {rest : List Value} {nL : Nat} {D : va_G} {h : Nat} {ad : Nat → Nat} {cI cZ : ClassId} {A : Nat → Prop} {σ τ : ll_St} {ρ : Int32}
theorem mm_retv (X : mm_C p m c cc nL s args) (hr : meth.sig.returnType = none) (hlk : meth.locks = false) (Z : mm_Z D h ad cI cZ A s σ H locs) (e0 : σ = τ) (hdg : decode cc pc = .ok (.return_, 1)) : W p l e R s m args below meth c H locs 0 0 (mm_Ev D h ad cI cZ A below args s τ) (F0 m pc ls []) :=
  W.vret X.1 X.2.1 hr (fun t ht hW => ⟨⟨σ, rfl, e0, by rw [ht]; exact Z.2.1, va_K.moved hW.alike Z.1, Z.2.2.1⟩, Z.2.2.2.1.F ht⟩) Z.2.2.2.1.2.2 hdg
theorem mm_reti {v : Int32} (X : mm_C p m c cc nL s args) (hr : meth.sig.returnType = some .int) (hlk : meth.locks = false) (Z : mm_Z D h ad cI cZ A s σ H locs) (e0 : σ = τ) (e1 : v = ρ) (hdg : decode cc pc = .ok (.ireturn, 1)) : W p l e R s m args below meth c H locs 0 0 (mm_Ei D h ad cI cZ A below args s τ ρ) (F0 m pc ls [.int v]) :=
  W.iret X.1 X.2.1 hr (fun t ht hW => ⟨⟨v, σ, rfl, ⟨e1, e0⟩, by rw [ht]; exact Z.2.1, va_K.moved hW.alike Z.1, Z.2.2.1⟩, Z.2.2.2.1.F ht⟩) Z.2.2.2.1.2.2 hdg
theorem mm_retz {x : Nat} (X : mm_C p m c cc nL s args) (hr : meth.sig.returnType = some .boolean) (hlk : meth.locks = false) (Z : mm_Z D h ad cI cZ A s σ H locs) (e0 : σ = τ) (hx : x ≤ 1) (e1 : nI x = ρ) (hdg : decode cc pc = .ok (.ireturn, 1)) : W p l e R s m args below meth c H locs 0 0 (mm_Ei D h ad cI cZ A below args s τ ρ) (F0 m pc ls [.int (nI x)]) :=
  W.zret X.1 X.2.1 hr (by rcases (show x = 0 ∨ x = 1 by omega) with rfl | rfl <;> rfl) (fun t ht hW => ⟨⟨nI x, σ, rfl, ⟨e1, e0⟩, by rw [ht]; exact Z.2.1, va_K.moved hW.alike Z.1, Z.2.2.1⟩, Z.2.2.2.1.F ht⟩) Z.2.2.2.1.2.2 hdg
theorem mm_retsi {v : Int32} (X : mm_C p m c cc nL s args) (hr : meth.sig.returnType = some .int) (hlk : meth.locks = false) (hS : va_S (fun _ => False) s.heap H locs) (e1 : v = ρ) (hdg : decode cc pc = .ok (.ireturn, 1)) : W p l e R s m args below meth c H locs 0 0 (mm_Es below args s ρ) (F0 m pc ls [.int v]) :=
  W.iret X.1 X.2.1 hr (fun t ht hW => ⟨⟨v, (), rfl, e1, trivial⟩, hS.F ht⟩) hS.2.2 hdg
theorem mm_retsz {x : Nat} (X : mm_C p m c cc nL s args) (hr : meth.sig.returnType = some .boolean) (hlk : meth.locks = false) (hS : va_S (fun _ => False) s.heap H locs) (hx : x ≤ 1) (e1 : nI x = ρ) (hdg : decode cc pc = .ok (.ireturn, 1)) : W p l e R s m args below meth c H locs 0 0 (mm_Es below args s ρ) (F0 m pc ls [.int (nI x)]) :=
  W.zret X.1 X.2.1 hr (by rcases (show x = 0 ∨ x = 1 by omega) with rfl | rfl <;> rfl) (fun t ht hW => ⟨⟨nI x, (), rfl, e1, trivial⟩, hS.F ht⟩) hS.2.2 hdg
theorem mm_blind (as : List Value) (sz : Nat) : FrameBlind (va_Pc as (fun U => U.heap.size = sz ∧ va_P D vwCl (mm_W h ad cI cZ σ) U.heap ∧ va_K D vwCl (ll_ty cI cZ) U ∧ va_D (fun _ => True) (mm_W h ad cI cZ σ))) := fun a U g mk q => by
  obtain ⟨q0, q1, qP, qK, qD⟩ := q
  exact ⟨q0, q1, qP, va_K.moved (u := U) (U := U.calling g mk a) (Vm.Alike.refl U.vm) qK, qD⟩
theorem mm_fr (Z : mm_Z D h ad cI cZ A s σ H locs) : ∀ q, va_A (mm_W h ad cI cZ σ) H.size q → A q := by
  intro q hq
  rcases hq with ⟨k, e, hk⟩ | hq
  · exact Z.2.2.1.2 k (q, e) hk
  · exact Z.2.2.2.2 q (Nat.le_trans Z.2.2.2.1.1 hq)
/-- a call of a method of its own, void -/
theorem mm_callv {y : MethodName} {bytes : ByteArray} {maxL n index : Nat} {rm : Room} {As : List Value} {st0 : List Value} (X : mm_C p m c cc nL s args) (Z : mm_Z D h ad cI cZ A s σ H locs) (hM : mm_Mv l y (ws_ y bytes maxL none) rm As σ τ) (cw : CallW R s args RX2 RX2 index y bytes maxL none (ws_ y bytes maxL none) rm 0 0 n) (hn : As.length = n) (hsz : ls.size = nL) (hst : st0 = As.reverse ++ .ref h :: rest) (hro : (rest.map fun v => v.category).sum ≤ 8) (hcap : cells ≤ R.cells ∧ slots ≤ R.slots) (hdg : decode cc pc = .ok (.invokevirtual index, 3))
    (kk : ∀ (H1 : Heap) (locs1 : List Loc), mm_Z D h ad cI cZ A s τ H1 locs1 → W p l e R s m args below meth c H1 locs1 cells slots Q (F0 m (pc + 3) ls rest)) : W p l e R s m args below meth c H locs cells slots Q (F0 m pc ls st0) := by
  have hF := mm_fr Z
  refine va_callv (va_runV (As := As) (rest := rest) X (hM D h ad cI cZ H.size) cw ⟨mm_blind _ _, va_recv Z.1 Z.2.1 (ci := 1) (q0 := 0) rfl rfl, fun U hU hW => ⟨rfl, by rw [hU], by rw [hU]; exact Z.2.1, va_K.moved hW.alike Z.1, Z.2.2.1.weaken (fun _ _ _ _ => trivial)⟩⟩ rfl hn hsz hst (lv_room hro) hdg hcap) Z.2.2.2.1 (fun q _ h => hF q h) hF (fun u t H1 locs1 ht hvm hu hB hz1 hk1 hS => ?_)
  obtain ⟨hP1, hK1, hD1⟩ := hB
  subst hu
  rw [ht] at hP1
  exact kk H1 locs1 ⟨Z.1, hP1, hD1.weaken (fun _ _ _ q => hF _ q), hS, Z.2.2.2.2⟩
/-- a call of a method of its own with an int (or a boolean) for an answer -/
theorem mm_calli {y : MethodName} {bytes : ByteArray} {maxL n index : Nat} {ty : FieldType} {rm : Room} {As : List Value} {st0 : List Value} (X : mm_C p m c cc nL s args) (Z : mm_Z D h ad cI cZ A s σ H locs) (hM : mm_Mi l y (ws_ y bytes maxL (some ty)) rm As σ τ ρ) (cw : CallW R s args RX2 RX2 index y bytes maxL (some ty) (ws_ y bytes maxL (some ty)) rm 0 0 n) (hn : As.length = n) (hsz : ls.size = nL) (hst : st0 = As.reverse ++ .ref h :: rest) (hro : (rest.map fun v => v.category).sum ≤ 8) (hcap : cells ≤ R.cells ∧ slots ≤ R.slots) (hdg : decode cc pc = .ok (.invokevirtual index, 3))
    (kk : ∀ (H1 : Heap) (locs1 : List Loc), mm_Z D h ad cI cZ A s τ H1 locs1 → W p l e R s m args below meth c H1 locs1 cells slots Q (F0 m (pc + 3) ls (.int ρ :: rest))) : W p l e R s m args below meth c H locs cells slots Q (F0 m pc ls st0) := by
  have hF := mm_fr Z
  refine va_calli (va_runV (As := As) (rest := rest) X (hM D h ad cI cZ H.size) cw ⟨mm_blind _ _, va_recv Z.1 Z.2.1 (ci := 1) (q0 := 0) rfl rfl, fun U hU hW => ⟨rfl, by rw [hU], by rw [hU]; exact Z.2.1, va_K.moved hW.alike Z.1, Z.2.2.1.weaken (fun _ _ _ _ => trivial)⟩⟩ rfl hn hsz hst (lv_room hro) hdg hcap) Z.2.2.2.1 (fun q _ h => hF q h) hF (fun r u t H1 locs1 ht hvm hu hB hz1 hk1 hS => ?_)
  obtain ⟨hP1, hK1, hD1⟩ := hB
  obtain ⟨hu0, hu⟩ := hu
  subst hu
  subst hu0
  rw [ht] at hP1
  exact kk H1 locs1 ⟨Z.1, hP1, hD1.weaken (fun _ _ _ q => hF _ q), hS, Z.2.2.2.2⟩
theorem mm_blindS (as : List Value) : FrameBlind (va_Pc as (fun _ => True)) := fun a U g mk q => q
/-- a static call out of a method with the world -/
theorem mm_calls {y : MethodName} {bytes : ByteArray} {maxL n index : Nat} {ty : FieldType} {rm : Room} {As : List Value} {st0 : List Value} (X : mm_C p m c cc nL s args) (Z : mm_Z D h ad cI cZ A s σ H locs) (hM : mm_Ms l y (ws_ y bytes maxL (some ty)) rm As ρ) (cw : CallB R s args RX2 index y bytes maxL (some ty) (ws_ y bytes maxL (some ty)) rm 0 0 n ∧ (Cond.static y).before args s = true) (hn : As.length = n) (hsz : ls.size = nL) (hst : st0 = As.reverse ++ rest) (hro : (rest.map fun v => v.category).sum ≤ 8) (hcap : cells ≤ R.cells ∧ slots ≤ R.slots) (hdg : decode cc pc = .ok (.invokestatic index, 3))
    (kk : ∀ (H1 : Heap) (locs1 : List Loc), mm_Z D h ad cI cZ A s σ H1 locs1 → W p l e R s m args below meth c H1 locs1 cells slots Q (F0 m (pc + 3) ls (.int ρ :: rest))) : W p l e R s m args below meth c H locs cells slots Q (F0 m pc ls st0) := by
  refine va_calli (va_runS (As := As) (rest := rest) X hM cw ⟨mm_blindS _, fun U hU hW => ⟨rfl, trivial⟩⟩ rfl hn hsz hst (lv_room hro) hdg hcap) Z.2.2.2.1 (fun q _ h => h.elim) (fun q h => h.elim) (fun r u t H1 locs1 ht hvm hu hB hz1 hk1 hS => ?_)
  subst hu
  exact kk H1 locs1 ⟨Z.1, Z.2.1.kept (fun k q hq => hk1 q.1 ((Z.2.1 k q hq).lt) (fun h => h)), Z.2.2.1, hS, Z.2.2.2.2⟩
/-- a static call out of a static method -/
theorem mm_callss {y : MethodName} {bytes : ByteArray} {maxL n index : Nat} {ty : FieldType} {rm : Room} {As : List Value} {st0 : List Value} (X : mm_C p m c cc nL s args) (hS0 : va_S A s.heap H locs) (hM : mm_Ms l y (ws_ y bytes maxL (some ty)) rm As ρ) (cw : CallB R s args RX2 index y bytes maxL (some ty) (ws_ y bytes maxL (some ty)) rm 0 0 n ∧ (Cond.static y).before args s = true) (hn : As.length = n) (hsz : ls.size = nL) (hst : st0 = As.reverse ++ rest) (hro : (rest.map fun v => v.category).sum ≤ 8) (hcap : cells ≤ R.cells ∧ slots ≤ R.slots) (hdg : decode cc pc = .ok (.invokestatic index, 3))
    (kk : ∀ (H1 : Heap) (locs1 : List Loc), va_S A s.heap H1 locs1 → W p l e R s m args below meth c H1 locs1 cells slots Q (F0 m (pc + 3) ls (.int ρ :: rest))) : W p l e R s m args below meth c H locs cells slots Q (F0 m pc ls st0) := by
  refine va_calli (va_runS (As := As) (rest := rest) X hM cw ⟨mm_blindS _, fun U hU hW => ⟨rfl, trivial⟩⟩ rfl hn hsz hst (lv_room hro) hdg hcap) hS0 (fun q _ h => h.elim) (fun q h => h.elim) (fun r u t H1 locs1 ht hvm hu hB hz1 hk1 hS => ?_)
  subst hu
  exact kk H1 locs1 hS
end MMr

abbrev rmX2_bad : Room := { frames := 0, cells := 0, slots := 0, locals := 0 }
abbrev wsX2_bad : List Cond := ws_ yX2_bad cX2_bad 2 (some .boolean)
abbrev rmX2_give : Room := { frames := 1, cells := 0, slots := 0, locals := 21 }
abbrev wsX2_give : List Cond := ws_ yX2_give cX2_give 5 (some .int)
abbrev rmX2_off : Room := { frames := 0, cells := 0, slots := 0, locals := 0 }
abbrev wsX2_off : List Cond := ws_ yX2_off cX2_off 4 none
abbrev rmX2_take : Room := { frames := 1, cells := 0, slots := 0, locals := 23 }
abbrev wsX2_take : List Cond := ws_ yX2_take cX2_take 3 (some .int)
abbrev rmX2_takeMessage : Room := { frames := 1, cells := 0, slots := 0, locals := 23 }
abbrev wsX2_takeMessage : List Cond := ws_ yX2_takeMessage cX2_takeMessage 3 (some .int)
abbrev rmX2_skip : Room := { frames := 1, cells := 0, slots := 0, locals := 23 }
abbrev wsX2_skip : List Cond := ws_ yX2_skip cX2_skip 3 (some .int)
abbrev rmX2_reset : Room := { frames := 0, cells := 0, slots := 0, locals := 0 }
abbrev wsX2_reset : List Cond := ws_ yX2_reset cX2_reset 1 none
abbrev rmX2_carry : Room := { frames := 1, cells := 0, slots := 0, locals := 21 }
abbrev wsX2_carry : List Cond := ws_ yX2_carry cX2_carry 4 (some .int)
abbrev rmX2_fire : Room := { frames := 1, cells := 0, slots := 0, locals := 21 }
abbrev wsX2_fire : List Cond := ws_ yX2_fire cX2_fire 2 (some .int)
abbrev rmX2_waiting : Room := { frames := 1, cells := 0, slots := 0, locals := 21 }
abbrev wsX2_waiting : List Cond := ws_ yX2_waiting cX2_waiting 2 (some .int)
abbrev rmX2_messages : Room := { frames := 1, cells := 0, slots := 0, locals := 21 }
abbrev wsX2_messages : List Cond := ws_ yX2_messages cX2_messages 4 (some .int)
abbrev rmX2_peek : Room := { frames := 1, cells := 0, slots := 0, locals := 21 }
abbrev wsX2_peek : List Cond := ws_ yX2_peek cX2_peek 3 (some .int)
abbrev rmX2_ends : Room := { frames := 1, cells := 0, slots := 0, locals := 21 }
abbrev wsX2_ends : List Cond := ws_ yX2_ends cX2_ends 3 (some .boolean)
abbrev rmX2_done : Room := { frames := 1, cells := 0, slots := 0, locals := 21 }
abbrev wsX2_done : List Cond := ws_ yX2_done cX2_done 2 (some .int)
abbrev rmX2_sum : Room := { frames := 1, cells := 0, slots := 0, locals := 21 }
abbrev wsX2_sum : List Cond := ws_ yX2_sum cX2_sum 4 (some .int)
theorem cwX2_bad {R : Room} {s : State} {args : Array Value} (hts : ∀ w ∈ lw_all, w.before args s = true) (hR : 0 + 1 ≤ R.frames ∧ 8 + (2 + 11) + 0 ≤ R.locals) : CallW R s args RX2 RX2 23 yX2_bad cX2_bad 2 (some .boolean) wsX2_bad rmX2_bad 0 0 1 := cwV 1 hts (lw_V q242 q244 qs18 q22 q245) rfl rfl rfl (by decide +kernel) hR
theorem cwX2_off {R : Room} {s : State} {args : Array Value} (hts : ∀ w ∈ lw_all, w.before args s = true) (hR : 0 + 1 ≤ R.frames ∧ 8 + (4 + 11) + 0 ≤ R.locals) : CallW R s args RX2 RX2 27 yX2_off cX2_off 4 none wsX2_off rmX2_off 0 0 2 := cwV 2 hts (lw_V q250 q252 qs19 q22 q253) rfl rfl rfl (by decide +kernel) hR
end
section
/-! what the methods of LossyLinkModel compute -/
def mm_offL (s n : Nat) : Nat → Nat → ll_St → ll_St
  | 0, _, σ => σ
  | k + 1, i, σ => mm_offL s n k (i + 1) (ll_set (ll_set σ 0 (s * 30 + i) (σ 0 (s * 30 + i + n))) 1 (s * 30 + i) (σ 1 (s * 30 + i + n)))
def mm_off (s n : Nat) (σ : ll_St) : ll_St := ll_set (ll_set (mm_offL s n (30 - n) 0 σ) 2 s (mm_offL s n (30 - n) 0 σ 2 s - n)) 3 s (mm_offL s n (30 - n) 0 σ 3 s + n)
def mm_gv (s b d : Nat) (σ : ll_St) : ll_St := ll_set (ll_set (ll_set σ 0 ((1 - s) * 30 + σ 2 (1 - s)) b) 1 ((1 - s) * 30 + σ 2 (1 - s)) d) 2 (1 - s) (σ 2 (1 - s) + 1)
def mm_mkL (s : Nat) (σ : ll_St) : Nat → Nat → Nat → Nat
  | 0, _, a => a
  | n + 1, i, a => mm_mkL s σ n (i + 1) (if σ 1 (s * 30 + i) = 0 then a else a + 1)
def mm_smL (s : Nat) (σ : ll_St) : Nat → Nat → Nat → Nat
  | 0, _, a => a
  | n + 1, i, a => mm_smL s σ n (i + 1) (a + σ 0 (s * 30 + i))
def mm_rs (σ : ll_St) : ll_St := ll_set (ll_set (ll_set (ll_set σ 2 0 0) 2 1 0) 3 0 0) 3 1 0
def mm_ok (σ : ll_St) : Prop := (∀ i, σ 1 i ≤ 1) ∧ ∀ i, σ 2 i ≤ 30
theorem mm_offL_o {s n : Nat} {a j : Nat} (h0 : a ≠ 0) (h1 : a ≠ 1) : ∀ (k i : Nat) (σ : ll_St), mm_offL s n k i σ a j = σ a j
  | 0, _, _ => rfl
  | k + 1, i, σ => by
    show mm_offL s n k (i + 1) _ a j = _
    rw [mm_offL_o h0 h1, ll_c _ h1, ll_c _ h0]
theorem mm_offL_1 {s n : Nat} : ∀ (k i : Nat) {σ : ll_St}, (∀ i, σ 1 i ≤ 1) → ∀ j, mm_offL s n k i σ 1 j ≤ 1
  | 0, _, _, h => h
  | k + 1, i, σ, h => by
    refine mm_offL_1 (s := s) (n := n) k (i + 1) (fun j => ?_)
    by_cases hj : j = s * 30 + i
    · rw [hj, ll_e]
      exact h _
    · rw [ll_n _ hj, ll_c _ (by decide)]
      exact h j
set_option maxHeartbeats 4000000 in
set_option maxRecDepth 100000 in
theorem mm_k_bad0 (l : Launch) {σ : ll_St} {s : Nat} (hs : s < 2) : mm_Mi l yX2_bad wsX2_bad rmX2_bad [.int (nI s)] σ σ (nI 0) := by
  refine mm_ofWi (Nat.le_of_ble_eq_true rfl) (fun p e st m args below meth c D h ad cI cZ A X hr hlk Z ls hl => ?_)
  have hx := X.1
  have hb := X.2.1
  have hl : lv_has ls 2 [(0, .ref h), (1, .int (nI s))] := hl
  refine lv_iload_n hx hb dX2_bad_0 rfl (lv_at hl 1 rfl) ?_
  refine nw_if_lt (tgt := 9) hx hb (by omega) dX2_bad_1 (by decide) ?_
  refine lv_iload_n hx hb dX2_bad_4 rfl (lv_at hl 1 rfl) ?_
  refine nw_iconst hx hb 1 dX2_bad_5 (by decide) ?_
  refine nw_icmp_le (tgt := 13) hx hb (by omega) (by omega) dX2_bad_6 (by decide) (fun h_6 => ?_) (fun h_6 => ?_)
  · skip
    refine nw_iconst hx hb 0 dX2_bad_13 (by decide) ?_
    exact mm_retz X hr hlk Z rfl (by decide) rfl dX2_bad_14
  · skip
    exact absurd (show s ≤ 1 by omega) h_6
set_option maxHeartbeats 4000000 in
set_option maxRecDepth 100000 in
theorem mm_k_bad1 (l : Launch) {σ : ll_St} {x : Int32} (hbad : x < 0 ∨ 1 < x) : mm_Mi l yX2_bad wsX2_bad rmX2_bad [.int x] σ σ (nI 1) := by
  refine mm_ofWi (Nat.le_of_ble_eq_true rfl) (fun p e st m args below meth c D h ad cI cZ A X hr hlk Z ls hl => ?_)
  have hx := X.1
  have hb := X.2.1
  have hl : lv_has ls 2 [(0, .ref h), (1, .int x)] := hl
  refine lv_iload_n hx hb dX2_bad_0 rfl (lv_at hl 1 rfl) ?_
  refine lv_if_lt (tgt := 9) hx hb dX2_bad_1 (by decide) (fun h_1 => ?_) (fun h_1 => ?_)
  · skip
    refine nw_iconst hx hb 1 dX2_bad_9 (by decide) ?_
    refine lv_goto (tgt := 14) hx hb dX2_bad_10 (by decide) ?_
    exact mm_retz X hr hlk Z rfl (by decide) rfl dX2_bad_14
  · skip
    refine lv_iload_n hx hb dX2_bad_4 rfl (lv_at hl 1 rfl) ?_
    refine nw_iconst hx hb 1 dX2_bad_5 (by decide) ?_
    refine lv_icmp_le (tgt := 13) hx hb dX2_bad_6 (by decide) (fun h_6 => ?_) (fun h_6 => ?_)
    · skip
      exact absurd h_6 (fun q => by rcases hbad with z | z; exact h_1 z; exact absurd (Int32.lt_of_lt_of_le z q) (by decide))
    · skip
      refine nw_iconst hx hb 1 dX2_bad_9 (by decide) ?_
      refine lv_goto (tgt := 14) hx hb dX2_bad_10 (by decide) ?_
      exact mm_retz X hr hlk Z rfl (by decide) rfl dX2_bad_14
set_option maxHeartbeats 4000000 in
set_option maxRecDepth 100000 in
theorem mm_k_give_bad (l : Launch) {σ : ll_St} {x b d : Int32} (hbad : x < 0 ∨ 1 < x) : mm_Mi l yX2_give wsX2_give rmX2_give [.int x, .int b, .int d] σ σ (-1) := by
  refine mm_ofWi (Nat.le_of_ble_eq_true rfl) (fun p e st m args below meth c D h ad cI cZ A X hr hlk Z ls hl => ?_)
  have hx := X.1
  have hb := X.2.1
  have hl : lv_has ls 5 [(0, .ref h), (1, .int x), (2, .int b), (3, .int d)] := hl
  refine lv_aload_n hx hb dX2_give_0 rfl (lv_at hl 0 rfl) ?_
  refine lv_iload_n hx hb dX2_give_1 rfl (lv_at hl 1 rfl) ?_
  refine mm_calli X Z (mm_k_bad1 l hbad) (cwX2_bad X.2.2.2.2 ⟨by decide, by decide⟩) rfl hl.1 rfl (Nat.le_of_ble_eq_true rfl) ⟨Nat.le_refl _, Nat.le_refl _⟩ dX2_give_2 (fun H locs Z => ?_)
  refine nw_if_eq (tgt := 10) hx hb (by omega) dX2_give_5 (by decide) (fun h_5 => ?_) (fun h_5 => ?_)
  · skip
    exact absurd h_5 (by decide)
  · skip
    refine lv_iconst (v := -1) hx hb dX2_give_8 (by decide) ?_
    exact mm_reti X hr hlk Z rfl rfl dX2_give_9
set_option maxHeartbeats 4000000 in
set_option maxRecDepth 100000 in
theorem mm_k_take_bad (l : Launch) {σ : ll_St} {x : Int32} (hbad : x < 0 ∨ 1 < x) : mm_Mi l yX2_take wsX2_take rmX2_take [.int x] σ σ (-1) := by
  refine mm_ofWi (Nat.le_of_ble_eq_true rfl) (fun p e st m args below meth c D h ad cI cZ A X hr hlk Z ls hl => ?_)
  have hx := X.1
  have hb := X.2.1
  have hl : lv_has ls 3 [(0, .ref h), (1, .int x)] := hl
  refine lv_aload_n hx hb dX2_take_0 rfl (lv_at hl 0 rfl) ?_
  refine lv_iload_n hx hb dX2_take_1 rfl (lv_at hl 1 rfl) ?_
  refine mm_calli X Z (mm_k_bad1 l hbad) (cwX2_bad X.2.2.2.2 ⟨by decide, by decide⟩) rfl hl.1 rfl (Nat.le_of_ble_eq_true rfl) ⟨Nat.le_refl _, Nat.le_refl _⟩ dX2_take_2 (fun H locs Z => ?_)
  refine nw_if_eq (tgt := 10) hx hb (by omega) dX2_take_5 (by decide) (fun h_5 => ?_) (fun h_5 => ?_)
  · skip
    exact absurd h_5 (by decide)
  · skip
    refine lv_iconst (v := -1) hx hb dX2_take_8 (by decide) ?_
    exact mm_reti X hr hlk Z rfl rfl dX2_take_9
set_option maxHeartbeats 4000000 in
set_option maxRecDepth 100000 in
theorem mm_k_takeMessage_bad (l : Launch) {σ : ll_St} {x : Int32} (hbad : x < 0 ∨ 1 < x) : mm_Mi l yX2_takeMessage wsX2_takeMessage rmX2_takeMessage [.int x] σ σ (-1) := by
  refine mm_ofWi (Nat.le_of_ble_eq_true rfl) (fun p e st m args below meth c D h ad cI cZ A X hr hlk Z ls hl => ?_)
  have hx := X.1
  have hb := X.2.1
  have hl : lv_has ls 3 [(0, .ref h), (1, .int x)] := hl
  refine lv_aload_n hx hb dX2_takeMessage_0 rfl (lv_at hl 0 rfl) ?_
  refine lv_iload_n hx hb dX2_takeMessage_1 rfl (lv_at hl 1 rfl) ?_
  refine mm_calli X Z (mm_k_bad1 l hbad) (cwX2_bad X.2.2.2.2 ⟨by decide, by decide⟩) rfl hl.1 rfl (Nat.le_of_ble_eq_true rfl) ⟨Nat.le_refl _, Nat.le_refl _⟩ dX2_takeMessage_2 (fun H locs Z => ?_)
  refine nw_if_eq (tgt := 10) hx hb (by omega) dX2_takeMessage_5 (by decide) (fun h_5 => ?_) (fun h_5 => ?_)
  · skip
    exact absurd h_5 (by decide)
  · skip
    refine lv_iconst (v := -1) hx hb dX2_takeMessage_8 (by decide) ?_
    exact mm_reti X hr hlk Z rfl rfl dX2_takeMessage_9
set_option maxHeartbeats 4000000 in
set_option maxRecDepth 100000 in
theorem mm_k_skip_bad (l : Launch) {σ : ll_St} {x : Int32} (hbad : x < 0 ∨ 1 < x) : mm_Mi l yX2_skip wsX2_skip rmX2_skip [.int x] σ σ (-1) := by
  refine mm_ofWi (Nat.le_of_ble_eq_true rfl) (fun p e st m args below meth c D h ad cI cZ A X hr hlk Z ls hl => ?_)
  have hx := X.1
  have hb := X.2.1
  have hl : lv_has ls 3 [(0, .ref h), (1, .int x)] := hl
  refine lv_aload_n hx hb dX2_skip_0 rfl (lv_at hl 0 rfl) ?_
  refine lv_iload_n hx hb dX2_skip_1 rfl (lv_at hl 1 rfl) ?_
  refine mm_calli X Z (mm_k_bad1 l hbad) (cwX2_bad X.2.2.2.2 ⟨by decide, by decide⟩) rfl hl.1 rfl (Nat.le_of_ble_eq_true rfl) ⟨Nat.le_refl _, Nat.le_refl _⟩ dX2_skip_2 (fun H locs Z => ?_)
  refine nw_if_eq (tgt := 10) hx hb (by omega) dX2_skip_5 (by decide) (fun h_5 => ?_) (fun h_5 => ?_)
  · skip
    exact absurd h_5 (by decide)
  · skip
    refine lv_iconst (v := -1) hx hb dX2_skip_8 (by decide) ?_
    exact mm_reti X hr hlk Z rfl rfl dX2_skip_9
set_option maxHeartbeats 4000000 in
set_option maxRecDepth 100000 in
theorem mm_k_carry_bad (l : Launch) {σ : ll_St} {x b d : Int32} (hbad : x < 0 ∨ 1 < x) : mm_Mi l yX2_carry wsX2_carry rmX2_carry [.int x, .int b, .int d] σ σ (-1) := by
  refine mm_ofWi (Nat.le_of_ble_eq_true rfl) (fun p e st m args below meth c D h ad cI cZ A X hr hlk Z ls hl => ?_)
  have hx := X.1
  have hb := X.2.1
  have hl : lv_has ls 4 [(0, .ref h), (1, .int x), (2, .int b), (3, .int d)] := hl
  refine lv_aload_n hx hb dX2_carry_0 rfl (lv_at hl 0 rfl) ?_
  refine lv_iload_n hx hb dX2_carry_1 rfl (lv_at hl 1 rfl) ?_
  refine mm_calli X Z (mm_k_bad1 l hbad) (cwX2_bad X.2.2.2.2 ⟨by decide, by decide⟩) rfl hl.1 rfl (Nat.le_of_ble_eq_true rfl) ⟨Nat.le_refl _, Nat.le_refl _⟩ dX2_carry_2 (fun H locs Z => ?_)
  refine nw_if_eq (tgt := 12) hx hb (by omega) dX2_carry_5 (by decide) (fun h_5 => ?_) (fun h_5 => ?_)
  · skip
    exact absurd h_5 (by decide)
  · skip
    refine lv_iconst (v := -1) hx hb dX2_carry_8 (by decide) ?_
    refine lv_goto (tgt := 13) hx hb dX2_carry_9 (by decide) ?_
    exact mm_reti X hr hlk Z rfl rfl dX2_carry_13
set_option maxHeartbeats 4000000 in
set_option maxRecDepth 100000 in
theorem mm_k_fire_bad (l : Launch) {σ : ll_St} {x : Int32} (hbad : x < 0 ∨ 1 < x) : mm_Mi l yX2_fire wsX2_fire rmX2_fire [.int x] σ σ (-1) := by
  refine mm_ofWi (Nat.le_of_ble_eq_true rfl) (fun p e st m args below meth c D h ad cI cZ A X hr hlk Z ls hl => ?_)
  have hx := X.1
  have hb := X.2.1
  have hl : lv_has ls 2 [(0, .ref h), (1, .int x)] := hl
  refine lv_aload_n hx hb dX2_fire_0 rfl (lv_at hl 0 rfl) ?_
  refine lv_iload_n hx hb dX2_fire_1 rfl (lv_at hl 1 rfl) ?_
  refine mm_calli X Z (mm_k_bad1 l hbad) (cwX2_bad X.2.2.2.2 ⟨by decide, by decide⟩) rfl hl.1 rfl (Nat.le_of_ble_eq_true rfl) ⟨Nat.le_refl _, Nat.le_refl _⟩ dX2_fire_2 (fun H locs Z => ?_)
  refine nw_if_eq (tgt := 12) hx hb (by omega) dX2_fire_5 (by decide) (fun h_5 => ?_) (fun h_5 => ?_)
  · skip
    exact absurd h_5 (by decide)
  · skip
    refine lv_iconst (v := -1) hx hb dX2_fire_8 (by decide) ?_
    refine lv_goto (tgt := 13) hx hb dX2_fire_9 (by decide) ?_
    exact mm_reti X hr hlk Z rfl rfl dX2_fire_13
set_option maxHeartbeats 4000000 in
set_option maxRecDepth 100000 in
theorem mm_k_waiting_bad (l : Launch) {σ : ll_St} {x : Int32} (hbad : x < 0 ∨ 1 < x) : mm_Mi l yX2_waiting wsX2_waiting rmX2_waiting [.int x] σ σ (-1) := by
  refine mm_ofWi (Nat.le_of_ble_eq_true rfl) (fun p e st m args below meth c D h ad cI cZ A X hr hlk Z ls hl => ?_)
  have hx := X.1
  have hb := X.2.1
  have hl : lv_has ls 2 [(0, .ref h), (1, .int x)] := hl
  refine lv_aload_n hx hb dX2_waiting_0 rfl (lv_at hl 0 rfl) ?_
  refine lv_iload_n hx hb dX2_waiting_1 rfl (lv_at hl 1 rfl) ?_
  refine mm_calli X Z (mm_k_bad1 l hbad) (cwX2_bad X.2.2.2.2 ⟨by decide, by decide⟩) rfl hl.1 rfl (Nat.le_of_ble_eq_true rfl) ⟨Nat.le_refl _, Nat.le_refl _⟩ dX2_waiting_2 (fun H locs Z => ?_)
  refine nw_if_eq (tgt := 12) hx hb (by omega) dX2_waiting_5 (by decide) (fun h_5 => ?_) (fun h_5 => ?_)
  · skip
    exact absurd h_5 (by decide)
  · skip
    refine lv_iconst (v := -1) hx hb dX2_waiting_8 (by decide) ?_
    refine lv_goto (tgt := 18) hx hb dX2_waiting_9 (by decide) ?_
    exact mm_reti X hr hlk Z rfl rfl dX2_waiting_18
set_option maxHeartbeats 4000000 in
set_option maxRecDepth 100000 in
theorem mm_k_messages_bad (l : Launch) {σ : ll_St} {x : Int32} (hbad : x < 0 ∨ 1 < x) : mm_Mi l yX2_messages wsX2_messages rmX2_messages [.int x] σ σ (-1) := by
  refine mm_ofWi (Nat.le_of_ble_eq_true rfl) (fun p e st m args below meth c D h ad cI cZ A X hr hlk Z ls hl => ?_)
  have hx := X.1
  have hb := X.2.1
  have hl : lv_has ls 4 [(0, .ref h), (1, .int x)] := hl
  refine lv_aload_n hx hb dX2_messages_0 rfl (lv_at hl 0 rfl) ?_
  refine lv_iload_n hx hb dX2_messages_1 rfl (lv_at hl 1 rfl) ?_
  refine mm_calli X Z (mm_k_bad1 l hbad) (cwX2_bad X.2.2.2.2 ⟨by decide, by decide⟩) rfl hl.1 rfl (Nat.le_of_ble_eq_true rfl) ⟨Nat.le_refl _, Nat.le_refl _⟩ dX2_messages_2 (fun H locs Z => ?_)
  refine nw_if_eq (tgt := 10) hx hb (by omega) dX2_messages_5 (by decide) (fun h_5 => ?_) (fun h_5 => ?_)
  · skip
    exact absurd h_5 (by decide)
  · skip
    refine lv_iconst (v := -1) hx hb dX2_messages_8 (by decide) ?_
    exact mm_reti X hr hlk Z rfl rfl dX2_messages_9
set_option maxHeartbeats 4000000 in
set_option maxRecDepth 100000 in
theorem mm_k_peek_bad (l : Launch) {σ : ll_St} {x b : Int32} (hbad : x < 0 ∨ 1 < x) : mm_Mi l yX2_peek wsX2_peek rmX2_peek [.int x, .int b] σ σ (-1) := by
  refine mm_ofWi (Nat.le_of_ble_eq_true rfl) (fun p e st m args below meth c D h ad cI cZ A X hr hlk Z ls hl => ?_)
  have hx := X.1
  have hb := X.2.1
  have hl : lv_has ls 3 [(0, .ref h), (1, .int x), (2, .int b)] := hl
  refine lv_aload_n hx hb dX2_peek_0 rfl (lv_at hl 0 rfl) ?_
  refine lv_iload_n hx hb dX2_peek_1 rfl (lv_at hl 1 rfl) ?_
  refine mm_calli X Z (mm_k_bad1 l hbad) (cwX2_bad X.2.2.2.2 ⟨by decide, by decide⟩) rfl hl.1 rfl (Nat.le_of_ble_eq_true rfl) ⟨Nat.le_refl _, Nat.le_refl _⟩ dX2_peek_2 (fun H locs Z => ?_)
  refine nw_if_eq (tgt := 10) hx hb (by omega) dX2_peek_5 (by decide) (fun h_5 => ?_) (fun h_5 => ?_)
  · skip
    exact absurd h_5 (by decide)
  · skip
    refine lv_iconst (v := -1) hx hb dX2_peek_8 (by decide) ?_
    exact mm_reti X hr hlk Z rfl rfl dX2_peek_9
set_option maxHeartbeats 4000000 in
set_option maxRecDepth 100000 in
theorem mm_k_ends_bad (l : Launch) {σ : ll_St} {x b : Int32} (hbad : x < 0 ∨ 1 < x) : mm_Mi l yX2_ends wsX2_ends rmX2_ends [.int x, .int b] σ σ (nI 0) := by
  refine mm_ofWi (Nat.le_of_ble_eq_true rfl) (fun p e st m args below meth c D h ad cI cZ A X hr hlk Z ls hl => ?_)
  have hx := X.1
  have hb := X.2.1
  have hl : lv_has ls 3 [(0, .ref h), (1, .int x), (2, .int b)] := hl
  refine lv_aload_n hx hb dX2_ends_0 rfl (lv_at hl 0 rfl) ?_
  refine lv_iload_n hx hb dX2_ends_1 rfl (lv_at hl 1 rfl) ?_
  refine mm_calli X Z (mm_k_bad1 l hbad) (cwX2_bad X.2.2.2.2 ⟨by decide, by decide⟩) rfl hl.1 rfl (Nat.le_of_ble_eq_true rfl) ⟨Nat.le_refl _, Nat.le_refl _⟩ dX2_ends_2 (fun H locs Z => ?_)
  refine nw_if_ne (tgt := 40) hx hb (by omega) dX2_ends_5 (by decide) (fun h_5 => ?_) (fun h_5 => ?_)
  · skip
    refine nw_iconst hx hb 0 dX2_ends_40 (by decide) ?_
    exact mm_retz X hr hlk Z rfl (by decide) rfl dX2_ends_41
  · skip
    exact absurd h_5 (by decide)
set_option maxHeartbeats 4000000 in
set_option maxRecDepth 100000 in
theorem mm_k_done_bad (l : Launch) {σ : ll_St} {x : Int32} (hbad : x < 0 ∨ 1 < x) : mm_Mi l yX2_done wsX2_done rmX2_done [.int x] σ σ (-1) := by
  refine mm_ofWi (Nat.le_of_ble_eq_true rfl) (fun p e st m args below meth c D h ad cI cZ A X hr hlk Z ls hl => ?_)
  have hx := X.1
  have hb := X.2.1
  have hl : lv_has ls 2 [(0, .ref h), (1, .int x)] := hl
  refine lv_aload_n hx hb dX2_done_0 rfl (lv_at hl 0 rfl) ?_
  refine lv_iload_n hx hb dX2_done_1 rfl (lv_at hl 1 rfl) ?_
  refine mm_calli X Z (mm_k_bad1 l hbad) (cwX2_bad X.2.2.2.2 ⟨by decide, by decide⟩) rfl hl.1 rfl (Nat.le_of_ble_eq_true rfl) ⟨Nat.le_refl _, Nat.le_refl _⟩ dX2_done_2 (fun H locs Z => ?_)
  refine nw_if_eq (tgt := 12) hx hb (by omega) dX2_done_5 (by decide) (fun h_5 => ?_) (fun h_5 => ?_)
  · skip
    exact absurd h_5 (by decide)
  · skip
    refine lv_iconst (v := -1) hx hb dX2_done_8 (by decide) ?_
    refine lv_goto (tgt := 18) hx hb dX2_done_9 (by decide) ?_
    exact mm_reti X hr hlk Z rfl rfl dX2_done_18
set_option maxHeartbeats 4000000 in
set_option maxRecDepth 100000 in
theorem mm_k_sum_bad (l : Launch) {σ : ll_St} {x : Int32} (hbad : x < 0 ∨ 1 < x) : mm_Mi l yX2_sum wsX2_sum rmX2_sum [.int x] σ σ (-1) := by
  refine mm_ofWi (Nat.le_of_ble_eq_true rfl) (fun p e st m args below meth c D h ad cI cZ A X hr hlk Z ls hl => ?_)
  have hx := X.1
  have hb := X.2.1
  have hl : lv_has ls 4 [(0, .ref h), (1, .int x)] := hl
  refine lv_aload_n hx hb dX2_sum_0 rfl (lv_at hl 0 rfl) ?_
  refine lv_iload_n hx hb dX2_sum_1 rfl (lv_at hl 1 rfl) ?_
  refine mm_calli X Z (mm_k_bad1 l hbad) (cwX2_bad X.2.2.2.2 ⟨by decide, by decide⟩) rfl hl.1 rfl (Nat.le_of_ble_eq_true rfl) ⟨Nat.le_refl _, Nat.le_refl _⟩ dX2_sum_2 (fun H locs Z => ?_)
  refine nw_if_eq (tgt := 10) hx hb (by omega) dX2_sum_5 (by decide) (fun h_5 => ?_) (fun h_5 => ?_)
  · skip
    exact absurd h_5 (by decide)
  · skip
    refine lv_iconst (v := -1) hx hb dX2_sum_8 (by decide) ?_
    exact mm_reti X hr hlk Z rfl rfl dX2_sum_9
end
section
set_option maxHeartbeats 4000000 in
set_option maxRecDepth 100000 in
theorem mm_k_give_byte (l : Launch) {σ : ll_St} {s : Nat} {b d : Int32} (hs : s < 2) (hbyte : b < 0 ∨ 255 < b) : mm_Mi l yX2_give wsX2_give rmX2_give [.int (nI s), .int b, .int d] σ σ (-4) := by
  refine mm_ofWi (Nat.le_of_ble_eq_true rfl) (fun p e st m args below meth c D h ad cI cZ A X hr hlk Z ls hl => ?_)
  have hx := X.1
  have hb := X.2.1
  have hl : lv_has ls 5 [(0, .ref h), (1, .int (nI s)), (2, .int b), (3, .int d)] := hl
  refine lv_aload_n hx hb dX2_give_0 rfl (lv_at hl 0 rfl) ?_
  refine lv_iload_n hx hb dX2_give_1 rfl (lv_at hl 1 rfl) ?_
  refine mm_calli X Z (mm_k_bad0 l hs) (cwX2_bad X.2.2.2.2 ⟨by decide, by decide⟩) rfl hl.1 rfl (Nat.le_of_ble_eq_true rfl) ⟨Nat.le_refl _, Nat.le_refl _⟩ dX2_give_2 (fun H locs Z => ?_)
  refine nw_if_eq (tgt := 10) hx hb (by omega) dX2_give_5 (by decide) (fun h_5 => ?_) (fun h_5 => ?_)
  · skip
    refine lv_iload_n hx hb dX2_give_10 rfl (lv_at hl 2 rfl) ?_
    refine lv_if_lt (tgt := 21) hx hb dX2_give_11 (by decide) (fun h_11 => ?_) (fun h_11 => ?_)
    · skip
      refine lv_bipush (v := -4) hx hb dX2_give_21 (by decide) ?_
      exact mm_reti X hr hlk Z rfl rfl dX2_give_23
    · skip
      refine lv_iload_n hx hb dX2_give_14 rfl (lv_at hl 2 rfl) ?_
      refine nw_sipush hx hb 255 dX2_give_15 (by decide) ?_
      refine lv_icmp_le (tgt := 24) hx hb dX2_give_18 (by decide) (fun h_18 => ?_) (fun h_18 => ?_)
      · skip
        exact absurd h_18 (fun q => by rcases hbyte with z | z; exact h_11 z; exact absurd (Int32.lt_of_lt_of_le z q) (by decide))
      · skip
        refine lv_bipush (v := -4) hx hb dX2_give_21 (by decide) ?_
        exact mm_reti X hr hlk Z rfl rfl dX2_give_23
  · skip
    exact absurd rfl h_5
set_option maxHeartbeats 4000000 in
set_option maxRecDepth 100000 in
theorem mm_k_give_full (l : Launch) {σ : ll_St} (hok : mm_ok σ) {s b d : Nat} (hs : s < 2) (hb5 : b < 256) (hfull : σ 2 (1 - s) = 30) : mm_Mi l yX2_give wsX2_give rmX2_give [.int (nI s), .int (nI b), .int (nI d)] σ σ (-2) := by
  refine mm_ofWi (Nat.le_of_ble_eq_true rfl) (fun p e st m args below meth c D h ad cI cZ A X hr hlk Z ls hl => ?_)
  have hx := X.1
  have hb := X.2.1
  have hl : lv_has ls 5 [(0, .ref h), (1, .int (nI s)), (2, .int (nI b)), (3, .int (nI d))] := hl
  refine lv_aload_n hx hb dX2_give_0 rfl (lv_at hl 0 rfl) ?_
  refine lv_iload_n hx hb dX2_give_1 rfl (lv_at hl 1 rfl) ?_
  refine mm_calli X Z (mm_k_bad0 l hs) (cwX2_bad X.2.2.2.2 ⟨by decide, by decide⟩) rfl hl.1 rfl (Nat.le_of_ble_eq_true rfl) ⟨Nat.le_refl _, Nat.le_refl _⟩ dX2_give_2 (fun H locs Z => ?_)
  refine nw_if_eq (tgt := 10) hx hb (by omega) dX2_give_5 (by decide) (fun h_5 => ?_) (fun h_5 => ?_)
  · skip
    refine lv_iload_n hx hb dX2_give_10 rfl (lv_at hl 2 rfl) ?_
    refine nw_if_lt (tgt := 21) hx hb (by omega) dX2_give_11 (by decide) ?_
    refine lv_iload_n hx hb dX2_give_14 rfl (lv_at hl 2 rfl) ?_
    refine nw_sipush hx hb 255 dX2_give_15 (by decide) ?_
    refine nw_icmp_le (tgt := 24) hx hb (by omega) (by omega) dX2_give_18 (by decide) (fun h_18 => ?_) (fun h_18 => ?_)
    · skip
      refine nw_iconst hx hb 1 dX2_give_24 (by decide) ?_
      refine lv_iload_n hx hb dX2_give_25 rfl (lv_at hl 1 rfl) ?_
      refine nw_isub hx hb (by omega) dX2_give_26 ?_
      refine lv_istore (lv' := [(4, .int (nI (1 - s))), (0, .ref h), (1, .int (nI s)), (2, .int (nI b)), (3, .int (nI d))]) hx hb dX2_give_27 hl (by decide) rfl (fun ls hl => ?_)
      refine lv_aload_n hx hb dX2_give_29 rfl (lv_at hl 1 rfl) ?_
      refine mm_g2 X Z dX2_give_30 ?_
      refine lv_iload hx hb dX2_give_33 (lv_at hl 0 rfl) ?_
      refine mm_ld2 X Z (by omega) dX2_give_35 ?_
      refine nw_bipush hx hb 30 dX2_give_36 (by decide) ?_
      refine nw_icmp_ne (tgt := 44) hx hb (by omega) (by omega) dX2_give_38 (by decide) (fun h_38 => ?_) (fun h_38 => ?_)
      · skip
        exact absurd hfull h_38
      · skip
        refine lv_bipush (v := -2) hx hb dX2_give_41 (by decide) ?_
        exact mm_reti X hr hlk Z rfl rfl dX2_give_43
    · skip
      exact absurd (show b ≤ 255 by omega) h_18
  · skip
    exact absurd rfl h_5
set_option maxHeartbeats 4000000 in
set_option maxRecDepth 100000 in
theorem mm_k_give_ok (l : Launch) {σ : ll_St} (hok : mm_ok σ) {s b d : Nat} (hs : s < 2) (hb5 : b < 256) (hd : d < 2) (hfull : ¬ σ 2 (1 - s) = 30) : mm_Mi l yX2_give wsX2_give rmX2_give [.int (nI s), .int (nI b), .int (nI d)] σ (mm_gv s b d σ) (nI (σ 2 (1 - s) + 1)) := by
  refine mm_ofWi (Nat.le_of_ble_eq_true rfl) (fun p e st m args below meth c D h ad cI cZ A X hr hlk Z ls hl => ?_)
  have hx := X.1
  have hb := X.2.1
  have hl : lv_has ls 5 [(0, .ref h), (1, .int (nI s)), (2, .int (nI b)), (3, .int (nI d))] := hl
  have o2 := hok.2 (1 - s)
  refine lv_aload_n hx hb dX2_give_0 rfl (lv_at hl 0 rfl) ?_
  refine lv_iload_n hx hb dX2_give_1 rfl (lv_at hl 1 rfl) ?_
  refine mm_calli X Z (mm_k_bad0 l hs) (cwX2_bad X.2.2.2.2 ⟨by decide, by decide⟩) rfl hl.1 rfl (Nat.le_of_ble_eq_true rfl) ⟨Nat.le_refl _, Nat.le_refl _⟩ dX2_give_2 (fun H locs Z => ?_)
  refine nw_if_eq (tgt := 10) hx hb (by omega) dX2_give_5 (by decide) (fun h_5 => ?_) (fun h_5 => ?_)
  · skip
    refine lv_iload_n hx hb dX2_give_10 rfl (lv_at hl 2 rfl) ?_
    refine nw_if_lt (tgt := 21) hx hb (by omega) dX2_give_11 (by decide) ?_
    refine lv_iload_n hx hb dX2_give_14 rfl (lv_at hl 2 rfl) ?_
    refine nw_sipush hx hb 255 dX2_give_15 (by decide) ?_
    refine nw_icmp_le (tgt := 24) hx hb (by omega) (by omega) dX2_give_18 (by decide) (fun h_18 => ?_) (fun h_18 => ?_)
    · skip
      refine nw_iconst hx hb 1 dX2_give_24 (by decide) ?_
      refine lv_iload_n hx hb dX2_give_25 rfl (lv_at hl 1 rfl) ?_
      refine nw_isub hx hb (by omega) dX2_give_26 ?_
      refine lv_istore (lv' := [(4, .int (nI (1 - s))), (0, .ref h), (1, .int (nI s)), (2, .int (nI b)), (3, .int (nI d))]) hx hb dX2_give_27 hl (by decide) rfl (fun ls hl => ?_)
      refine lv_aload_n hx hb dX2_give_29 rfl (lv_at hl 1 rfl) ?_
      refine mm_g2 X Z dX2_give_30 ?_
      refine lv_iload hx hb dX2_give_33 (lv_at hl 0 rfl) ?_
      refine mm_ld2 X Z (by omega) dX2_give_35 ?_
      refine nw_bipush hx hb 30 dX2_give_36 (by decide) ?_
      refine nw_icmp_ne (tgt := 44) hx hb (by omega) (by omega) dX2_give_38 (by decide) (fun h_38 => ?_) (fun h_38 => ?_)
      · skip
        refine lv_aload_n hx hb dX2_give_44 rfl (lv_at hl 1 rfl) ?_
        refine mm_g0 X Z dX2_give_45 ?_
        refine lv_iload hx hb dX2_give_48 (lv_at hl 0 rfl) ?_
        refine nw_bipush hx hb 30 dX2_give_50 (by decide) ?_
        refine nw_imul hx hb dX2_give_52 ?_
        refine lv_aload_n hx hb dX2_give_53 rfl (lv_at hl 1 rfl) ?_
        refine mm_g2 X Z dX2_give_54 ?_
        refine lv_iload hx hb dX2_give_57 (lv_at hl 0 rfl) ?_
        refine mm_ld2 X Z (by omega) dX2_give_59 ?_
        refine nw_iadd hx hb dX2_give_60 ?_
        refine lv_iload_n hx hb dX2_give_61 rfl (lv_at hl 3 rfl) ?_
        refine mm_st0 X Z (by omega) dX2_give_62 (fun H locs Z => ?_)
        refine lv_aload_n hx hb dX2_give_63 rfl (lv_at hl 1 rfl) ?_
        refine mm_g1 X Z dX2_give_64 ?_
        refine lv_iload hx hb dX2_give_67 (lv_at hl 0 rfl) ?_
        refine nw_bipush hx hb 30 dX2_give_69 (by decide) ?_
        refine nw_imul hx hb dX2_give_71 ?_
        refine lv_aload_n hx hb dX2_give_72 rfl (lv_at hl 1 rfl) ?_
        refine mm_g2 X Z dX2_give_73 ?_
        refine lv_iload hx hb dX2_give_76 (lv_at hl 0 rfl) ?_
        refine mm_ld2 X Z (by omega) dX2_give_78 ?_
        refine nw_as (σ 2 (1 - s)) (by simp [ll_set]) ?_
        refine nw_iadd hx hb dX2_give_79 ?_
        refine lv_iload_n hx hb dX2_give_80 rfl (lv_at hl 4 rfl) ?_
        refine mm_st1 X Z (by omega) (by omega) dX2_give_81 (fun H locs Z => ?_)
        refine lv_aload_n hx hb dX2_give_82 rfl (lv_at hl 1 rfl) ?_
        refine mm_g2 X Z dX2_give_83 ?_
        refine lv_iload hx hb dX2_give_86 (lv_at hl 0 rfl) ?_
        refine lv_aload_n hx hb dX2_give_88 rfl (lv_at hl 1 rfl) ?_
        refine mm_g2 X Z dX2_give_89 ?_
        refine lv_iload hx hb dX2_give_92 (lv_at hl 0 rfl) ?_
        refine mm_ld2 X Z (by omega) dX2_give_94 ?_
        refine nw_as (σ 2 (1 - s)) (by simp [ll_set]) ?_
        refine nw_iconst hx hb 1 dX2_give_95 (by decide) ?_
        refine nw_iadd hx hb dX2_give_96 ?_
        refine mm_st2 X Z (by omega) dX2_give_97 (fun H locs Z => ?_)
        refine lv_aload_n hx hb dX2_give_98 rfl (lv_at hl 1 rfl) ?_
        refine mm_g2 X Z dX2_give_99 ?_
        refine lv_iload hx hb dX2_give_102 (lv_at hl 0 rfl) ?_
        refine mm_ld2 X Z (by omega) dX2_give_104 ?_
        refine nw_as ((σ 2 (1 - s)) + 1) (by simp [ll_set]) ?_
        exact mm_reti X hr hlk Z rfl rfl dX2_give_105
      · skip
        exact absurd h_38 hfull
    · skip
      exact absurd (show b ≤ 255 by omega) h_18
  · skip
    exact absurd rfl h_5
set_option maxHeartbeats 4000000 in
set_option maxRecDepth 100000 in
theorem mm_l_off {p : Program} {l : Launch} {e : Env} {st : State} {m : MethodId} {args : Array Value} {below : List Frame} {meth : Method} {c : Code} {D : va_G} {h : Nat} {ad : Nat → Nat} {cI cZ : ClassId} {A : Nat → Prop} {s n : Nat} (hs : s < 2) (hn30 : n ≤ 30) (X : mm_C p m c cX2_off 4 st args) (hr : meth.sig.returnType = none) (hlk : meth.locks = false) : ∀ (k i : Nat) (σ : ll_St), i + n + k = 30 → (∀ i, σ 1 i ≤ 1) → n ≤ σ 2 s → ∀ (H : Heap) (locs : List Loc), mm_Z D h ad cI cZ A st σ H locs → ∀ ls : Array Slot, lv_has ls 4 [(3, .int (nI i)), (0, .ref h), (1, .int (nI s)), (2, .int (nI n))] → W p l e rmX2_off st m args below meth c H locs 0 0 (mm_Ev D h ad cI cZ A below args st (ll_set (ll_set (mm_offL s n k i σ) 2 s (mm_offL s n k i σ 2 s - n)) 3 s (mm_offL s n k i σ 3 s + n))) (F0 m 2 ls []) := by
  have hx := X.1
  have hb := X.2.1
  intro k
  induction k with
  | zero =>
    intro i σ hk h1 h2 H locs Z ls hl
    refine lv_iload_n hx hb dX2_off_2 rfl (lv_at hl 0 rfl) ?_
    refine lv_iload_n hx hb dX2_off_3 rfl (lv_at hl 3 rfl) ?_
    refine nw_iadd hx hb dX2_off_4 ?_
    refine nw_bipush hx hb 30 dX2_off_5 (by decide) ?_
    refine nw_icmp_ge (tgt := 64) hx hb (by omega) (by omega) dX2_off_7 (by decide) (fun h_7 => ?_) (fun h_7 => ?_)
    · skip
      refine lv_aload_n hx hb dX2_off_64 rfl (lv_at hl 1 rfl) ?_
      refine mm_g2 X Z dX2_off_65 ?_
      refine lv_iload_n hx hb dX2_off_68 rfl (lv_at hl 2 rfl) ?_
      refine lv_aload_n hx hb dX2_off_69 rfl (lv_at hl 1 rfl) ?_
      refine mm_g2 X Z dX2_off_70 ?_
      refine lv_iload_n hx hb dX2_off_73 rfl (lv_at hl 2 rfl) ?_
      refine mm_ld2 X Z (by omega) dX2_off_74 ?_
      refine lv_iload_n hx hb dX2_off_75 rfl (lv_at hl 3 rfl) ?_
      refine nw_isub hx hb (by omega) dX2_off_76 ?_
      refine mm_st2 X Z (by omega) dX2_off_77 (fun H locs Z => ?_)
      refine lv_aload_n hx hb dX2_off_78 rfl (lv_at hl 1 rfl) ?_
      refine mm_g3 X Z dX2_off_79 ?_
      refine lv_iload_n hx hb dX2_off_82 rfl (lv_at hl 2 rfl) ?_
      refine lv_aload_n hx hb dX2_off_83 rfl (lv_at hl 1 rfl) ?_
      refine mm_g3 X Z dX2_off_84 ?_
      refine lv_iload_n hx hb dX2_off_87 rfl (lv_at hl 2 rfl) ?_
      refine mm_ld3 X Z (by omega) dX2_off_88 ?_
      refine nw_as (σ 3 s) (by simp [ll_set]) ?_
      refine lv_iload_n hx hb dX2_off_89 rfl (lv_at hl 3 rfl) ?_
      refine nw_iadd hx hb dX2_off_90 ?_
      refine mm_st3 X Z (by omega) dX2_off_91 (fun H locs Z => ?_)
      exact mm_retv X hr hlk Z rfl dX2_off_92
    · skip
      exact absurd (show 30 ≤ i + n by omega) h_7
  | succ k ih =>
    intro i σ hk h1 h2 H locs Z ls hl
    have h1n := h1 (s * 30 + i + n)
    refine lv_iload_n hx hb dX2_off_2 rfl (lv_at hl 0 rfl) ?_
    refine lv_iload_n hx hb dX2_off_3 rfl (lv_at hl 3 rfl) ?_
    refine nw_iadd hx hb dX2_off_4 ?_
    refine nw_bipush hx hb 30 dX2_off_5 (by decide) ?_
    refine nw_icmp_ge (tgt := 64) hx hb (by omega) (by omega) dX2_off_7 (by decide) (fun h_7 => ?_) (fun h_7 => ?_)
    · skip
      exact absurd h_7 (by omega)
    · skip
      refine lv_aload_n hx hb dX2_off_10 rfl (lv_at hl 1 rfl) ?_
      refine mm_g0 X Z dX2_off_11 ?_
      refine lv_iload_n hx hb dX2_off_14 rfl (lv_at hl 2 rfl) ?_
      refine nw_bipush hx hb 30 dX2_off_15 (by decide) ?_
      refine nw_imul hx hb dX2_off_17 ?_
      refine lv_iload_n hx hb dX2_off_18 rfl (lv_at hl 0 rfl) ?_
      refine nw_iadd hx hb dX2_off_19 ?_
      refine lv_aload_n hx hb dX2_off_20 rfl (lv_at hl 1 rfl) ?_
      refine mm_g0 X Z dX2_off_21 ?_
      refine lv_iload_n hx hb dX2_off_24 rfl (lv_at hl 2 rfl) ?_
      refine nw_bipush hx hb 30 dX2_off_25 (by decide) ?_
      refine nw_imul hx hb dX2_off_27 ?_
      refine lv_iload_n hx hb dX2_off_28 rfl (lv_at hl 0 rfl) ?_
      refine nw_iadd hx hb dX2_off_29 ?_
      refine lv_iload_n hx hb dX2_off_30 rfl (lv_at hl 3 rfl) ?_
      refine nw_iadd hx hb dX2_off_31 ?_
      refine mm_ld0 X Z (by omega) dX2_off_32 ?_
      refine mm_st0 X Z (by omega) dX2_off_33 (fun H locs Z => ?_)
      refine lv_aload_n hx hb dX2_off_34 rfl (lv_at hl 1 rfl) ?_
      refine mm_g1 X Z dX2_off_35 ?_
      refine lv_iload_n hx hb dX2_off_38 rfl (lv_at hl 2 rfl) ?_
      refine nw_bipush hx hb 30 dX2_off_39 (by decide) ?_
      refine nw_imul hx hb dX2_off_41 ?_
      refine lv_iload_n hx hb dX2_off_42 rfl (lv_at hl 0 rfl) ?_
      refine nw_iadd hx hb dX2_off_43 ?_
      refine lv_aload_n hx hb dX2_off_44 rfl (lv_at hl 1 rfl) ?_
      refine mm_g1 X Z dX2_off_45 ?_
      refine lv_iload_n hx hb dX2_off_48 rfl (lv_at hl 2 rfl) ?_
      refine nw_bipush hx hb 30 dX2_off_49 (by decide) ?_
      refine nw_imul hx hb dX2_off_51 ?_
      refine lv_iload_n hx hb dX2_off_52 rfl (lv_at hl 0 rfl) ?_
      refine nw_iadd hx hb dX2_off_53 ?_
      refine lv_iload_n hx hb dX2_off_54 rfl (lv_at hl 3 rfl) ?_
      refine nw_iadd hx hb dX2_off_55 ?_
      refine mm_ld1 X Z (by omega) dX2_off_56 ?_
      refine nw_as (σ 1 (((s * 30) + i) + n)) (by simp [ll_set]) ?_
      refine mm_st1 X Z (by omega) (by omega) dX2_off_57 (fun H locs Z => ?_)
      refine lv_iinc (v := (nI (i + 1))) (lv' := [(3, .int (nI (i + 1))), (0, .ref h), (1, .int (nI s)), (2, .int (nI n))]) hx hb dX2_off_58 hl (k := 0) rfl (nI_1 _) (by decide) rfl (fun ls hl => ?_)
      refine lv_goto (tgt := 2) hx hb dX2_off_61 (by decide) ?_
      refine ih (i + 1) _ (by omega) (fun j => ?_) (by rw [ll_c _ (by decide), ll_c _ (by decide)]; exact h2) H locs Z ls (lv_sub hl [0, 1, 2, 3] rfl)
      by_cases hj : j = s * 30 + i
      · rw [hj, ll_e]
        exact h1n
      · rw [ll_n _ hj, ll_c _ (by decide)]
        exact h1 j
set_option maxHeartbeats 4000000 in
set_option maxRecDepth 100000 in
theorem mm_k_off (l : Launch) {σ : ll_St} (hok : mm_ok σ) {s n : Nat} (hs : s < 2) (hn : n ≤ σ 2 s) : mm_Mv l yX2_off wsX2_off rmX2_off [.int (nI s), .int (nI n)] σ (mm_off s n σ) := by
  refine mm_ofWv (Nat.le_of_ble_eq_true rfl) (fun p e st m args below meth c D h ad cI cZ A X hr hlk Z ls hl => ?_)
  have hx := X.1
  have hb := X.2.1
  have hl : lv_has ls 4 [(0, .ref h), (1, .int (nI s)), (2, .int (nI n))] := hl
  have o2 := hok.2 s
  refine nw_iconst hx hb 0 dX2_off_0 (by decide) ?_
  refine lv_istore_n (lv' := [(3, .int (nI 0)), (0, .ref h), (1, .int (nI s)), (2, .int (nI n))]) hx hb dX2_off_1 rfl hl (by decide) rfl (fun ls hl => ?_)
  exact mm_l_off hs (by omega) X hr hlk (30 - n) 0 σ (by omega) hok.1 hn _ _ Z ls hl
set_option maxHeartbeats 4000000 in
set_option maxRecDepth 100000 in
theorem mm_k_take_e (l : Launch) {σ : ll_St} (hok : mm_ok σ) {s : Nat} (hs : s < 2) (he : σ 2 s = 0) : mm_Mi l yX2_take wsX2_take rmX2_take [.int (nI s)] σ σ (-3) := by
  refine mm_ofWi (Nat.le_of_ble_eq_true rfl) (fun p e st m args below meth c D h ad cI cZ A X hr hlk Z ls hl => ?_)
  have hx := X.1
  have hb := X.2.1
  have hl : lv_has ls 3 [(0, .ref h), (1, .int (nI s))] := hl
  refine lv_aload_n hx hb dX2_take_0 rfl (lv_at hl 0 rfl) ?_
  refine lv_iload_n hx hb dX2_take_1 rfl (lv_at hl 1 rfl) ?_
  refine mm_calli X Z (mm_k_bad0 l hs) (cwX2_bad X.2.2.2.2 ⟨by decide, by decide⟩) rfl hl.1 rfl (Nat.le_of_ble_eq_true rfl) ⟨Nat.le_refl _, Nat.le_refl _⟩ dX2_take_2 (fun H locs Z => ?_)
  refine nw_if_eq (tgt := 10) hx hb (by omega) dX2_take_5 (by decide) (fun h_5 => ?_) (fun h_5 => ?_)
  · skip
    refine lv_aload_n hx hb dX2_take_10 rfl (lv_at hl 0 rfl) ?_
    refine mm_g2 X Z dX2_take_11 ?_
    refine lv_iload_n hx hb dX2_take_14 rfl (lv_at hl 1 rfl) ?_
    refine mm_ld2 X Z (by omega) dX2_take_15 ?_
    refine nw_if_ne (tgt := 22) hx hb (by omega) dX2_take_16 (by decide) (fun h_16 => ?_) (fun h_16 => ?_)
    · skip
      exact absurd he h_16
    · skip
      refine lv_bipush (v := -3) hx hb dX2_take_19 (by decide) ?_
      exact mm_reti X hr hlk Z rfl rfl dX2_take_21
  · skip
    exact absurd rfl h_5
set_option maxHeartbeats 4000000 in
set_option maxRecDepth 100000 in
theorem mm_k_take_ok (l : Launch) {σ : ll_St} (hok : mm_ok σ) {s : Nat} (hs : s < 2) (he : ¬ σ 2 s = 0) : mm_Mi l yX2_take wsX2_take rmX2_take [.int (nI s)] σ (mm_off s 1 σ) (nI (σ 0 (s * 30))) := by
  refine mm_ofWi (Nat.le_of_ble_eq_true rfl) (fun p e st m args below meth c D h ad cI cZ A X hr hlk Z ls hl => ?_)
  have hx := X.1
  have hb := X.2.1
  have hl : lv_has ls 3 [(0, .ref h), (1, .int (nI s))] := hl
  have o2 := hok.2 s
  refine lv_aload_n hx hb dX2_take_0 rfl (lv_at hl 0 rfl) ?_
  refine lv_iload_n hx hb dX2_take_1 rfl (lv_at hl 1 rfl) ?_
  refine mm_calli X Z (mm_k_bad0 l hs) (cwX2_bad X.2.2.2.2 ⟨by decide, by decide⟩) rfl hl.1 rfl (Nat.le_of_ble_eq_true rfl) ⟨Nat.le_refl _, Nat.le_refl _⟩ dX2_take_2 (fun H locs Z => ?_)
  refine nw_if_eq (tgt := 10) hx hb (by omega) dX2_take_5 (by decide) (fun h_5 => ?_) (fun h_5 => ?_)
  · skip
    refine lv_aload_n hx hb dX2_take_10 rfl (lv_at hl 0 rfl) ?_
    refine mm_g2 X Z dX2_take_11 ?_
    refine lv_iload_n hx hb dX2_take_14 rfl (lv_at hl 1 rfl) ?_
    refine mm_ld2 X Z (by omega) dX2_take_15 ?_
    refine nw_if_ne (tgt := 22) hx hb (by omega) dX2_take_16 (by decide) (fun h_16 => ?_) (fun h_16 => ?_)
    · skip
      refine lv_aload_n hx hb dX2_take_22 rfl (lv_at hl 0 rfl) ?_
      refine mm_g0 X Z dX2_take_23 ?_
      refine lv_iload_n hx hb dX2_take_26 rfl (lv_at hl 1 rfl) ?_
      refine nw_bipush hx hb 30 dX2_take_27 (by decide) ?_
      refine nw_imul hx hb dX2_take_29 ?_
      refine mm_ld0 X Z (by omega) dX2_take_30 ?_
      refine lv_istore_n (lv' := [(2, .int (nI (σ 0 (s * 30)))), (0, .ref h), (1, .int (nI s))]) hx hb dX2_take_31 rfl hl (by decide) rfl (fun ls hl => ?_)
      refine lv_aload_n hx hb dX2_take_32 rfl (lv_at hl 1 rfl) ?_
      refine lv_iload_n hx hb dX2_take_33 rfl (lv_at hl 2 rfl) ?_
      refine nw_iconst hx hb 1 dX2_take_34 (by decide) ?_
      refine mm_callv X Z (mm_k_off l hok (n := 1) hs (by omega)) (cwX2_off X.2.2.2.2 ⟨by decide, by decide⟩) rfl hl.1 rfl (Nat.le_of_ble_eq_true rfl) ⟨Nat.le_refl _, Nat.le_refl _⟩ dX2_take_35 (fun H locs Z => ?_)
      refine lv_iload_n hx hb dX2_take_38 rfl (lv_at hl 0 rfl) ?_
      exact mm_reti X hr hlk Z rfl rfl dX2_take_39
    · skip
      exact absurd h_16 he
  · skip
    exact absurd rfl h_5
set_option maxHeartbeats 4000000 in
set_option maxRecDepth 100000 in
theorem mm_l_tm_e {p : Program} {l : Launch} {e : Env} {st : State} {m : MethodId} {args : Array Value} {below : List Frame} {meth : Method} {c : Code} {D : va_G} {h : Nat} {ad : Nat → Nat} {cI cZ : ClassId} {A : Nat → Prop} {s : Nat} {σ : ll_St} (hs : s < 2) (hok : mm_ok σ) (hm : ∀ i, i < σ 2 s → σ 1 (s * 30 + i) = 0) (X : mm_C p m c cX2_takeMessage 3 st args) (hr : meth.sig.returnType = some .int) (hlk : meth.locks = false) : ∀ (n i : Nat), i + n = σ 2 s → ∀ (H : Heap) (locs : List Loc), mm_Z D h ad cI cZ A st σ H locs → ∀ ls : Array Slot, lv_has ls 3 [(2, .int (nI i)), (0, .ref h), (1, .int (nI s))] → W p l e rmX2_takeMessage st m args below meth c H locs 0 0 (mm_Ei D h ad cI cZ A below args st σ (-3)) (F0 m 12 ls []) := by
  have hx := X.1
  have hb := X.2.1
  have o2 := hok.2 s
  intro n
  induction n with
  | zero =>
    intro i hn H locs Z ls hl
    refine lv_iload_n hx hb dX2_takeMessage_12 rfl (lv_at hl 0 rfl) ?_
    refine lv_aload_n hx hb dX2_takeMessage_13 rfl (lv_at hl 1 rfl) ?_
    refine mm_g2 X Z dX2_takeMessage_14 ?_
    refine lv_iload_n hx hb dX2_takeMessage_17 rfl (lv_at hl 2 rfl) ?_
    refine mm_ld2 X Z (by omega) dX2_takeMessage_18 ?_
    refine nw_icmp_ge (tgt := 54) hx hb (by omega) (by omega) dX2_takeMessage_19 (by decide) (fun h_19 => ?_) (fun h_19 => ?_)
    · skip
      refine lv_bipush (v := -3) hx hb dX2_takeMessage_54 (by decide) ?_
      exact mm_reti X hr hlk Z rfl rfl dX2_takeMessage_56
    · skip
      exact absurd (show σ 2 s ≤ i by omega) h_19
  | succ n ih =>
    intro i hn H locs Z ls hl
    have hmi := hm i (by omega)
    refine lv_iload_n hx hb dX2_takeMessage_12 rfl (lv_at hl 0 rfl) ?_
    refine lv_aload_n hx hb dX2_takeMessage_13 rfl (lv_at hl 1 rfl) ?_
    refine mm_g2 X Z dX2_takeMessage_14 ?_
    refine lv_iload_n hx hb dX2_takeMessage_17 rfl (lv_at hl 2 rfl) ?_
    refine mm_ld2 X Z (by omega) dX2_takeMessage_18 ?_
    refine nw_icmp_ge (tgt := 54) hx hb (by omega) (by omega) dX2_takeMessage_19 (by decide) (fun h_19 => ?_) (fun h_19 => ?_)
    · skip
      exact absurd h_19 (by omega)
    · skip
      refine lv_aload_n hx hb dX2_takeMessage_22 rfl (lv_at hl 1 rfl) ?_
      refine mm_g1 X Z dX2_takeMessage_23 ?_
      refine lv_iload_n hx hb dX2_takeMessage_26 rfl (lv_at hl 2 rfl) ?_
      refine nw_bipush hx hb 30 dX2_takeMessage_27 (by decide) ?_
      refine nw_imul hx hb dX2_takeMessage_29 ?_
      refine lv_iload_n hx hb dX2_takeMessage_30 rfl (lv_at hl 0 rfl) ?_
      refine nw_iadd hx hb dX2_takeMessage_31 ?_
      refine mm_ld1 X Z (by omega) dX2_takeMessage_32 ?_
      refine nw_if_eq (tgt := 48) hx hb (by omega) dX2_takeMessage_33 (by decide) (fun h_33 => ?_) (fun h_33 => ?_)
      · skip
        refine lv_iinc (v := (nI (i + 1))) (lv' := [(2, .int (nI (i + 1))), (0, .ref h), (1, .int (nI s))]) hx hb dX2_takeMessage_48 hl (k := 0) rfl (nI_1 _) (by decide) rfl (fun ls hl => ?_)
        refine lv_goto (tgt := 12) hx hb dX2_takeMessage_51 (by decide) ?_
        exact ih (i + 1) (by omega) H locs Z ls (lv_sub hl [0, 1, 2] rfl)
      · skip
        exact absurd hmi h_33
set_option maxHeartbeats 4000000 in
set_option maxRecDepth 100000 in
theorem mm_k_takeMessage_e (l : Launch) {σ : ll_St} (hok : mm_ok σ) {s : Nat} (hs : s < 2) (hm : ∀ i, i < σ 2 s → σ 1 (s * 30 + i) = 0) : mm_Mi l yX2_takeMessage wsX2_takeMessage rmX2_takeMessage [.int (nI s)] σ σ (-3) := by
  refine mm_ofWi (Nat.le_of_ble_eq_true rfl) (fun p e st m args below meth c D h ad cI cZ A X hr hlk Z ls hl => ?_)
  have hx := X.1
  have hb := X.2.1
  have hl : lv_has ls 3 [(0, .ref h), (1, .int (nI s))] := hl
  refine lv_aload_n hx hb dX2_takeMessage_0 rfl (lv_at hl 0 rfl) ?_
  refine lv_iload_n hx hb dX2_takeMessage_1 rfl (lv_at hl 1 rfl) ?_
  refine mm_calli X Z (mm_k_bad0 l hs) (cwX2_bad X.2.2.2.2 ⟨by decide, by decide⟩) rfl hl.1 rfl (Nat.le_of_ble_eq_true rfl) ⟨Nat.le_refl _, Nat.le_refl _⟩ dX2_takeMessage_2 (fun H locs Z => ?_)
  refine nw_if_eq (tgt := 10) hx hb (by omega) dX2_takeMessage_5 (by decide) (fun h_5 => ?_) (fun h_5 => ?_)
  · skip
    refine nw_iconst hx hb 0 dX2_takeMessage_10 (by decide) ?_
    refine lv_istore_n (lv' := [(2, .int (nI 0)), (0, .ref h), (1, .int (nI s))]) hx hb dX2_takeMessage_11 rfl hl (by decide) rfl (fun ls hl => ?_)
    exact mm_l_tm_e hs hok hm X hr hlk (σ 2 s) 0 (by omega) _ _ Z ls (lv_sub hl [0, 1, 2] rfl)
  · skip
    exact absurd rfl h_5
set_option maxHeartbeats 4000000 in
set_option maxRecDepth 100000 in
theorem mm_l_tm_k {p : Program} {l : Launch} {e : Env} {st : State} {m : MethodId} {args : Array Value} {below : List Frame} {meth : Method} {c : Code} {D : va_G} {h : Nat} {ad : Nat → Nat} {cI cZ : ClassId} {A : Nat → Prop} {s k : Nat} {σ : ll_St} (hs : s < 2) (hok : mm_ok σ) (hk : k < σ 2 s) (hmk : ¬ σ 1 (s * 30 + k) = 0) (hm : ∀ i, i < k → σ 1 (s * 30 + i) = 0) (X : mm_C p m c cX2_takeMessage 3 st args) (hr : meth.sig.returnType = some .int) (hlk : meth.locks = false) : ∀ (n i : Nat), i + n = k → ∀ (H : Heap) (locs : List Loc), mm_Z D h ad cI cZ A st σ H locs → ∀ ls : Array Slot, lv_has ls 3 [(2, .int (nI i)), (0, .ref h), (1, .int (nI s))] → W p l e rmX2_takeMessage st m args below meth c H locs 0 0 (mm_Ei D h ad cI cZ A below args st (mm_off s (k + 1) σ) (nI (k + 1))) (F0 m 12 ls []) := by
  have hx := X.1
  have hb := X.2.1
  have o2 := hok.2 s
  intro n
  induction n with
  | zero =>
    intro i hn H locs Z ls hl
    obtain rfl : i = k := by omega
    have hmi := hok.1 (s * 30 + i)
    refine lv_iload_n hx hb dX2_takeMessage_12 rfl (lv_at hl 0 rfl) ?_
    refine lv_aload_n hx hb dX2_takeMessage_13 rfl (lv_at hl 1 rfl) ?_
    refine mm_g2 X Z dX2_takeMessage_14 ?_
    refine lv_iload_n hx hb dX2_takeMessage_17 rfl (lv_at hl 2 rfl) ?_
    refine mm_ld2 X Z (by omega) dX2_takeMessage_18 ?_
    refine nw_icmp_ge (tgt := 54) hx hb (by omega) (by omega) dX2_takeMessage_19 (by decide) (fun h_19 => ?_) (fun h_19 => ?_)
    · skip
      exact absurd h_19 (by omega)
    · skip
      refine lv_aload_n hx hb dX2_takeMessage_22 rfl (lv_at hl 1 rfl) ?_
      refine mm_g1 X Z dX2_takeMessage_23 ?_
      refine lv_iload_n hx hb dX2_takeMessage_26 rfl (lv_at hl 2 rfl) ?_
      refine nw_bipush hx hb 30 dX2_takeMessage_27 (by decide) ?_
      refine nw_imul hx hb dX2_takeMessage_29 ?_
      refine lv_iload_n hx hb dX2_takeMessage_30 rfl (lv_at hl 0 rfl) ?_
      refine nw_iadd hx hb dX2_takeMessage_31 ?_
      refine mm_ld1 X Z (by omega) dX2_takeMessage_32 ?_
      refine nw_if_eq (tgt := 48) hx hb (by omega) dX2_takeMessage_33 (by decide) (fun h_33 => ?_) (fun h_33 => ?_)
      · skip
        exact absurd h_33 hmk
      · skip
        refine lv_aload_n hx hb dX2_takeMessage_36 rfl (lv_at hl 1 rfl) ?_
        refine lv_iload_n hx hb dX2_takeMessage_37 rfl (lv_at hl 2 rfl) ?_
        refine lv_iload_n hx hb dX2_takeMessage_38 rfl (lv_at hl 0 rfl) ?_
        refine nw_iconst hx hb 1 dX2_takeMessage_39 (by decide) ?_
        refine nw_iadd hx hb dX2_takeMessage_40 ?_
        refine mm_callv X Z (mm_k_off l hok (n := i + 1) hs (by omega)) (cwX2_off X.2.2.2.2 ⟨by decide, by decide⟩) rfl hl.1 rfl (Nat.le_of_ble_eq_true rfl) ⟨Nat.le_refl _, Nat.le_refl _⟩ dX2_takeMessage_41 (fun H locs Z => ?_)
        refine lv_iload_n hx hb dX2_takeMessage_44 rfl (lv_at hl 0 rfl) ?_
        refine nw_iconst hx hb 1 dX2_takeMessage_45 (by decide) ?_
        refine nw_iadd hx hb dX2_takeMessage_46 ?_
        exact mm_reti X hr hlk Z rfl rfl dX2_takeMessage_47
  | succ n ih =>
    intro i hn H locs Z ls hl
    have hmi := hm i (by omega)
    refine lv_iload_n hx hb dX2_takeMessage_12 rfl (lv_at hl 0 rfl) ?_
    refine lv_aload_n hx hb dX2_takeMessage_13 rfl (lv_at hl 1 rfl) ?_
    refine mm_g2 X Z dX2_takeMessage_14 ?_
    refine lv_iload_n hx hb dX2_takeMessage_17 rfl (lv_at hl 2 rfl) ?_
    refine mm_ld2 X Z (by omega) dX2_takeMessage_18 ?_
    refine nw_icmp_ge (tgt := 54) hx hb (by omega) (by omega) dX2_takeMessage_19 (by decide) (fun h_19 => ?_) (fun h_19 => ?_)
    · skip
      exact absurd h_19 (by omega)
    · skip
      refine lv_aload_n hx hb dX2_takeMessage_22 rfl (lv_at hl 1 rfl) ?_
      refine mm_g1 X Z dX2_takeMessage_23 ?_
      refine lv_iload_n hx hb dX2_takeMessage_26 rfl (lv_at hl 2 rfl) ?_
      refine nw_bipush hx hb 30 dX2_takeMessage_27 (by decide) ?_
      refine nw_imul hx hb dX2_takeMessage_29 ?_
      refine lv_iload_n hx hb dX2_takeMessage_30 rfl (lv_at hl 0 rfl) ?_
      refine nw_iadd hx hb dX2_takeMessage_31 ?_
      refine mm_ld1 X Z (by omega) dX2_takeMessage_32 ?_
      refine nw_if_eq (tgt := 48) hx hb (by omega) dX2_takeMessage_33 (by decide) (fun h_33 => ?_) (fun h_33 => ?_)
      · skip
        refine lv_iinc (v := (nI (i + 1))) (lv' := [(2, .int (nI (i + 1))), (0, .ref h), (1, .int (nI s))]) hx hb dX2_takeMessage_48 hl (k := 0) rfl (nI_1 _) (by decide) rfl (fun ls hl => ?_)
        refine lv_goto (tgt := 12) hx hb dX2_takeMessage_51 (by decide) ?_
        exact ih (i + 1) (by omega) H locs Z ls (lv_sub hl [0, 1, 2] rfl)
      · skip
        exact absurd hmi h_33
set_option maxHeartbeats 4000000 in
set_option maxRecDepth 100000 in
theorem mm_k_takeMessage_ok (l : Launch) {σ : ll_St} (hok : mm_ok σ) {s k : Nat} (hs : s < 2) (hk : k < σ 2 s) (hmk : ¬ σ 1 (s * 30 + k) = 0) (hm : ∀ i, i < k → σ 1 (s * 30 + i) = 0) : mm_Mi l yX2_takeMessage wsX2_takeMessage rmX2_takeMessage [.int (nI s)] σ (mm_off s (k + 1) σ) (nI (k + 1)) := by
  refine mm_ofWi (Nat.le_of_ble_eq_true rfl) (fun p e st m args below meth c D h ad cI cZ A X hr hlk Z ls hl => ?_)
  have hx := X.1
  have hb := X.2.1
  have hl : lv_has ls 3 [(0, .ref h), (1, .int (nI s))] := hl
  refine lv_aload_n hx hb dX2_takeMessage_0 rfl (lv_at hl 0 rfl) ?_
  refine lv_iload_n hx hb dX2_takeMessage_1 rfl (lv_at hl 1 rfl) ?_
  refine mm_calli X Z (mm_k_bad0 l hs) (cwX2_bad X.2.2.2.2 ⟨by decide, by decide⟩) rfl hl.1 rfl (Nat.le_of_ble_eq_true rfl) ⟨Nat.le_refl _, Nat.le_refl _⟩ dX2_takeMessage_2 (fun H locs Z => ?_)
  refine nw_if_eq (tgt := 10) hx hb (by omega) dX2_takeMessage_5 (by decide) (fun h_5 => ?_) (fun h_5 => ?_)
  · skip
    refine nw_iconst hx hb 0 dX2_takeMessage_10 (by decide) ?_
    refine lv_istore_n (lv' := [(2, .int (nI 0)), (0, .ref h), (1, .int (nI s))]) hx hb dX2_takeMessage_11 rfl hl (by decide) rfl (fun ls hl => ?_)
    exact mm_l_tm_k hs hok hk hmk hm X hr hlk k 0 (by omega) _ _ Z ls (lv_sub hl [0, 1, 2] rfl)
  · skip
    exact absurd rfl h_5
end
section
set_option maxHeartbeats 4000000 in
set_option maxRecDepth 100000 in
theorem mm_k_skip (l : Launch) {σ : ll_St} (hok : mm_ok σ) {s : Nat} (hs : s < 2) : mm_Mi l yX2_skip wsX2_skip rmX2_skip [.int (nI s)] σ (mm_off s (σ 2 s) σ) (nI (σ 2 s)) := by
  refine mm_ofWi (Nat.le_of_ble_eq_true rfl) (fun p e st m args below meth c D h ad cI cZ A X hr hlk Z ls hl => ?_)
  have hx := X.1
  have hb := X.2.1
  have hl : lv_has ls 3 [(0, .ref h), (1, .int (nI s))] := hl
  refine lv_aload_n hx hb dX2_skip_0 rfl (lv_at hl 0 rfl) ?_
  refine lv_iload_n hx hb dX2_skip_1 rfl (lv_at hl 1 rfl) ?_
  refine mm_calli X Z (mm_k_bad0 l hs) (cwX2_bad X.2.2.2.2 ⟨by decide, by decide⟩) rfl hl.1 rfl (Nat.le_of_ble_eq_true rfl) ⟨Nat.le_refl _, Nat.le_refl _⟩ dX2_skip_2 (fun H locs Z => ?_)
  refine nw_if_eq (tgt := 10) hx hb (by omega) dX2_skip_5 (by decide) (fun h_5 => ?_) (fun h_5 => ?_)
  · skip
    refine lv_aload_n hx hb dX2_skip_10 rfl (lv_at hl 0 rfl) ?_
    refine mm_g2 X Z dX2_skip_11 ?_
    refine lv_iload_n hx hb dX2_skip_14 rfl (lv_at hl 1 rfl) ?_
    refine mm_ld2 X Z (by omega) dX2_skip_15 ?_
    refine lv_istore_n (lv' := [(2, .int (nI (σ 2 s))), (0, .ref h), (1, .int (nI s))]) hx hb dX2_skip_16 rfl hl (by decide) rfl (fun ls hl => ?_)
    refine lv_aload_n hx hb dX2_skip_17 rfl (lv_at hl 1 rfl) ?_
    refine lv_iload_n hx hb dX2_skip_18 rfl (lv_at hl 2 rfl) ?_
    refine lv_iload_n hx hb dX2_skip_19 rfl (lv_at hl 0 rfl) ?_
    refine mm_callv X Z (mm_k_off l hok (n := σ 2 s) hs (Nat.le_refl _)) (cwX2_off X.2.2.2.2 ⟨by decide, by decide⟩) rfl hl.1 rfl (Nat.le_of_ble_eq_true rfl) ⟨Nat.le_refl _, Nat.le_refl _⟩ dX2_skip_20 (fun H locs Z => ?_)
    refine lv_iload_n hx hb dX2_skip_23 rfl (lv_at hl 0 rfl) ?_
    exact mm_reti X hr hlk Z rfl rfl dX2_skip_24
  · skip
    exact absurd rfl h_5
set_option maxHeartbeats 4000000 in
set_option maxRecDepth 100000 in
theorem mm_k_reset (l : Launch) {σ : ll_St} : mm_Mv l yX2_reset wsX2_reset rmX2_reset [] σ (mm_rs σ) := by
  refine mm_ofWv (Nat.le_of_ble_eq_true rfl) (fun p e st m args below meth c D h ad cI cZ A X hr hlk Z ls hl => ?_)
  have hx := X.1
  have hb := X.2.1
  have hl : lv_has ls 1 [(0, .ref h)] := hl
  refine lv_aload_n hx hb dX2_reset_0 rfl (lv_at hl 0 rfl) ?_
  refine mm_g2 X Z dX2_reset_1 ?_
  refine nw_iconst hx hb 0 dX2_reset_4 (by decide) ?_
  refine nw_iconst hx hb 0 dX2_reset_5 (by decide) ?_
  refine mm_st2 X Z (by omega) dX2_reset_6 (fun H locs Z => ?_)
  refine lv_aload_n hx hb dX2_reset_7 rfl (lv_at hl 0 rfl) ?_
  refine mm_g2 X Z dX2_reset_8 ?_
  refine nw_iconst hx hb 1 dX2_reset_11 (by decide) ?_
  refine nw_iconst hx hb 0 dX2_reset_12 (by decide) ?_
  refine mm_st2 X Z (by omega) dX2_reset_13 (fun H locs Z => ?_)
  refine lv_aload_n hx hb dX2_reset_14 rfl (lv_at hl 0 rfl) ?_
  refine mm_g3 X Z dX2_reset_15 ?_
  refine nw_iconst hx hb 0 dX2_reset_18 (by decide) ?_
  refine nw_iconst hx hb 0 dX2_reset_19 (by decide) ?_
  refine mm_st3 X Z (by omega) dX2_reset_20 (fun H locs Z => ?_)
  refine lv_aload_n hx hb dX2_reset_21 rfl (lv_at hl 0 rfl) ?_
  refine mm_g3 X Z dX2_reset_22 ?_
  refine nw_iconst hx hb 1 dX2_reset_25 (by decide) ?_
  refine nw_iconst hx hb 0 dX2_reset_26 (by decide) ?_
  refine mm_st3 X Z (by omega) dX2_reset_27 (fun H locs Z => ?_)
  exact mm_retv X hr hlk Z rfl dX2_reset_28
set_option maxHeartbeats 4000000 in
set_option maxRecDepth 100000 in
theorem mm_k_carry (l : Launch) {σ : ll_St} {s : Nat} {fl bi : Int32} (hs : s < 2) : mm_Mi l yX2_carry wsX2_carry rmX2_carry [.int (nI s), .int fl, .int bi] σ σ (nI 0) := by
  refine mm_ofWi (Nat.le_of_ble_eq_true rfl) (fun p e st m args below meth c D h ad cI cZ A X hr hlk Z ls hl => ?_)
  have hx := X.1
  have hb := X.2.1
  have hl : lv_has ls 4 [(0, .ref h), (1, .int (nI s)), (2, .int fl), (3, .int bi)] := hl
  refine lv_aload_n hx hb dX2_carry_0 rfl (lv_at hl 0 rfl) ?_
  refine lv_iload_n hx hb dX2_carry_1 rfl (lv_at hl 1 rfl) ?_
  refine mm_calli X Z (mm_k_bad0 l hs) (cwX2_bad X.2.2.2.2 ⟨by decide, by decide⟩) rfl hl.1 rfl (Nat.le_of_ble_eq_true rfl) ⟨Nat.le_refl _, Nat.le_refl _⟩ dX2_carry_2 (fun H locs Z => ?_)
  refine nw_if_eq (tgt := 12) hx hb (by omega) dX2_carry_5 (by decide) (fun h_5 => ?_) (fun h_5 => ?_)
  · skip
    refine nw_iconst hx hb 0 dX2_carry_12 (by decide) ?_
    exact mm_reti X hr hlk Z rfl rfl dX2_carry_13
  · skip
    exact absurd rfl h_5
set_option maxHeartbeats 4000000 in
set_option maxRecDepth 100000 in
theorem mm_k_fire (l : Launch) {σ : ll_St} {s : Nat} (hs : s < 2) : mm_Mi l yX2_fire wsX2_fire rmX2_fire [.int (nI s)] σ σ (nI 0) := by
  refine mm_ofWi (Nat.le_of_ble_eq_true rfl) (fun p e st m args below meth c D h ad cI cZ A X hr hlk Z ls hl => ?_)
  have hx := X.1
  have hb := X.2.1
  have hl : lv_has ls 2 [(0, .ref h), (1, .int (nI s))] := hl
  refine lv_aload_n hx hb dX2_fire_0 rfl (lv_at hl 0 rfl) ?_
  refine lv_iload_n hx hb dX2_fire_1 rfl (lv_at hl 1 rfl) ?_
  refine mm_calli X Z (mm_k_bad0 l hs) (cwX2_bad X.2.2.2.2 ⟨by decide, by decide⟩) rfl hl.1 rfl (Nat.le_of_ble_eq_true rfl) ⟨Nat.le_refl _, Nat.le_refl _⟩ dX2_fire_2 (fun H locs Z => ?_)
  refine nw_if_eq (tgt := 12) hx hb (by omega) dX2_fire_5 (by decide) (fun h_5 => ?_) (fun h_5 => ?_)
  · skip
    refine nw_iconst hx hb 0 dX2_fire_12 (by decide) ?_
    exact mm_reti X hr hlk Z rfl rfl dX2_fire_13
  · skip
    exact absurd rfl h_5
set_option maxHeartbeats 4000000 in
set_option maxRecDepth 100000 in
theorem mm_k_waiting (l : Launch) {σ : ll_St} {s : Nat} (hs : s < 2) : mm_Mi l yX2_waiting wsX2_waiting rmX2_waiting [.int (nI s)] σ σ (nI (σ 2 s)) := by
  refine mm_ofWi (Nat.le_of_ble_eq_true rfl) (fun p e st m args below meth c D h ad cI cZ A X hr hlk Z ls hl => ?_)
  have hx := X.1
  have hb := X.2.1
  have hl : lv_has ls 2 [(0, .ref h), (1, .int (nI s))] := hl
  refine lv_aload_n hx hb dX2_waiting_0 rfl (lv_at hl 0 rfl) ?_
  refine lv_iload_n hx hb dX2_waiting_1 rfl (lv_at hl 1 rfl) ?_
  refine mm_calli X Z (mm_k_bad0 l hs) (cwX2_bad X.2.2.2.2 ⟨by decide, by decide⟩) rfl hl.1 rfl (Nat.le_of_ble_eq_true rfl) ⟨Nat.le_refl _, Nat.le_refl _⟩ dX2_waiting_2 (fun H locs Z => ?_)
  refine nw_if_eq (tgt := 12) hx hb (by omega) dX2_waiting_5 (by decide) (fun h_5 => ?_) (fun h_5 => ?_)
  · skip
    refine lv_aload_n hx hb dX2_waiting_12 rfl (lv_at hl 0 rfl) ?_
    refine mm_g2 X Z dX2_waiting_13 ?_
    refine lv_iload_n hx hb dX2_waiting_16 rfl (lv_at hl 1 rfl) ?_
    refine mm_ld2 X Z (by omega) dX2_waiting_17 ?_
    exact mm_reti X hr hlk Z rfl rfl dX2_waiting_18
  · skip
    exact absurd rfl h_5
set_option maxHeartbeats 4000000 in
set_option maxRecDepth 100000 in
theorem mm_k_done (l : Launch) {σ : ll_St} {s : Nat} (hs : s < 2) : mm_Mi l yX2_done wsX2_done rmX2_done [.int (nI s)] σ σ (nI (σ 3 s)) := by
  refine mm_ofWi (Nat.le_of_ble_eq_true rfl) (fun p e st m args below meth c D h ad cI cZ A X hr hlk Z ls hl => ?_)
  have hx := X.1
  have hb := X.2.1
  have hl : lv_has ls 2 [(0, .ref h), (1, .int (nI s))] := hl
  refine lv_aload_n hx hb dX2_done_0 rfl (lv_at hl 0 rfl) ?_
  refine lv_iload_n hx hb dX2_done_1 rfl (lv_at hl 1 rfl) ?_
  refine mm_calli X Z (mm_k_bad0 l hs) (cwX2_bad X.2.2.2.2 ⟨by decide, by decide⟩) rfl hl.1 rfl (Nat.le_of_ble_eq_true rfl) ⟨Nat.le_refl _, Nat.le_refl _⟩ dX2_done_2 (fun H locs Z => ?_)
  refine nw_if_eq (tgt := 12) hx hb (by omega) dX2_done_5 (by decide) (fun h_5 => ?_) (fun h_5 => ?_)
  · skip
    refine lv_aload_n hx hb dX2_done_12 rfl (lv_at hl 0 rfl) ?_
    refine mm_g3 X Z dX2_done_13 ?_
    refine lv_iload_n hx hb dX2_done_16 rfl (lv_at hl 1 rfl) ?_
    refine mm_ld3 X Z (by omega) dX2_done_17 ?_
    exact mm_reti X hr hlk Z rfl rfl dX2_done_18
  · skip
    exact absurd rfl h_5
set_option maxHeartbeats 4000000 in
set_option maxRecDepth 100000 in
theorem mm_l_messages {p : Program} {l : Launch} {e : Env} {st : State} {m : MethodId} {args : Array Value} {below : List Frame} {meth : Method} {c : Code} {D : va_G} {h : Nat} {ad : Nat → Nat} {cI cZ : ClassId} {A : Nat → Prop} {s : Nat} {σ : ll_St} (hs : s < 2) (hok : mm_ok σ) (X : mm_C p m c cX2_messages 4 st args) (hr : meth.sig.returnType = some .int) (hlk : meth.locks = false) : ∀ (n i a : Nat), i + n = σ 2 s → ∀ (H : Heap) (locs : List Loc), mm_Z D h ad cI cZ A st σ H locs → ∀ ls : Array Slot, lv_has ls 4 [(3, .int (nI i)), (2, .int (nI a)), (0, .ref h), (1, .int (nI s))] → W p l e rmX2_messages st m args below meth c H locs 0 0 (mm_Ei D h ad cI cZ A below args st σ (nI (mm_mkL s σ n i a))) (F0 m 14 ls []) := by
  have hx := X.1
  have hb := X.2.1
  have o2 := hok.2 s
  intro n
  induction n with
  | zero =>
    intro i a hn H locs Z ls hl
    refine lv_iload_n hx hb dX2_messages_14 rfl (lv_at hl 0 rfl) ?_
    refine lv_aload_n hx hb dX2_messages_15 rfl (lv_at hl 2 rfl) ?_
    refine mm_g2 X Z dX2_messages_16 ?_
    refine lv_iload_n hx hb dX2_messages_19 rfl (lv_at hl 3 rfl) ?_
    refine mm_ld2 X Z (by omega) dX2_messages_20 ?_
    refine nw_icmp_ge (tgt := 47) hx hb (by omega) (by omega) dX2_messages_21 (by decide) (fun h_21 => ?_) (fun h_21 => ?_)
    · skip
      refine lv_iload_n hx hb dX2_messages_47 rfl (lv_at hl 1 rfl) ?_
      exact mm_reti X hr hlk Z rfl rfl dX2_messages_48
    · skip
      exact absurd (show σ 2 s ≤ i by omega) h_21
  | succ n ih =>
    intro i a hn H locs Z ls hl
    have hmi := hok.1 (s * 30 + i)
    refine lv_iload_n hx hb dX2_messages_14 rfl (lv_at hl 0 rfl) ?_
    refine lv_aload_n hx hb dX2_messages_15 rfl (lv_at hl 2 rfl) ?_
    refine mm_g2 X Z dX2_messages_16 ?_
    refine lv_iload_n hx hb dX2_messages_19 rfl (lv_at hl 3 rfl) ?_
    refine mm_ld2 X Z (by omega) dX2_messages_20 ?_
    refine nw_icmp_ge (tgt := 47) hx hb (by omega) (by omega) dX2_messages_21 (by decide) (fun h_21 => ?_) (fun h_21 => ?_)
    · skip
      exact absurd h_21 (by omega)
    · skip
      refine lv_aload_n hx hb dX2_messages_24 rfl (lv_at hl 2 rfl) ?_
      refine mm_g1 X Z dX2_messages_25 ?_
      refine lv_iload_n hx hb dX2_messages_28 rfl (lv_at hl 3 rfl) ?_
      refine nw_bipush hx hb 30 dX2_messages_29 (by decide) ?_
      refine nw_imul hx hb dX2_messages_31 ?_
      refine lv_iload_n hx hb dX2_messages_32 rfl (lv_at hl 0 rfl) ?_
      refine nw_iadd hx hb dX2_messages_33 ?_
      refine mm_ld1 X Z (by omega) dX2_messages_34 ?_
      refine nw_if_eq (tgt := 41) hx hb (by omega) dX2_messages_35 (by decide) (fun h_35 => ?_) (fun h_35 => ?_)
      · skip
        refine lv_iinc (v := (nI (i + 1))) (lv' := [(3, .int (nI (i + 1))), (2, .int (nI a)), (0, .ref h), (1, .int (nI s))]) hx hb dX2_messages_41 hl (k := 0) rfl (nI_1 _) (by decide) rfl (fun ls hl => ?_)
        refine lv_goto (tgt := 14) hx hb dX2_messages_44 (by decide) ?_
        rw [show mm_mkL s σ (n + 1) i a = mm_mkL s σ n (i + 1) (a) from congrArg (mm_mkL s σ n (i + 1)) (if_pos h_35)]
        exact ih (i + 1) _ (by omega) H locs Z ls (lv_sub hl [0, 1, 2, 3] rfl)
      · skip
        refine lv_iinc (v := (nI (a + 1))) (lv' := [(2, .int (nI (a + 1))), (3, .int (nI i)), (0, .ref h), (1, .int (nI s))]) hx hb dX2_messages_38 hl (k := 1) rfl (nI_1 _) (by decide) rfl (fun ls hl => ?_)
        refine lv_iinc (v := (nI (i + 1))) (lv' := [(3, .int (nI (i + 1))), (2, .int (nI (a + 1))), (0, .ref h), (1, .int (nI s))]) hx hb dX2_messages_41 hl (k := 1) rfl (nI_1 _) (by decide) rfl (fun ls hl => ?_)
        refine lv_goto (tgt := 14) hx hb dX2_messages_44 (by decide) ?_
        rw [show mm_mkL s σ (n + 1) i a = mm_mkL s σ n (i + 1) (a + 1) from congrArg (mm_mkL s σ n (i + 1)) (if_neg h_35)]
        exact ih (i + 1) _ (by omega) H locs Z ls (lv_sub hl [0, 1, 2, 3] rfl)
set_option maxHeartbeats 4000000 in
set_option maxRecDepth 100000 in
theorem mm_k_messages (l : Launch) {σ : ll_St} (hok : mm_ok σ) {s : Nat} (hs : s < 2) : mm_Mi l yX2_messages wsX2_messages rmX2_messages [.int (nI s)] σ σ (nI (mm_mkL s σ (σ 2 s) 0 0)) := by
  refine mm_ofWi (Nat.le_of_ble_eq_true rfl) (fun p e st m args below meth c D h ad cI cZ A X hr hlk Z ls hl => ?_)
  have hx := X.1
  have hb := X.2.1
  have hl : lv_has ls 4 [(0, .ref h), (1, .int (nI s))] := hl
  refine lv_aload_n hx hb dX2_messages_0 rfl (lv_at hl 0 rfl) ?_
  refine lv_iload_n hx hb dX2_messages_1 rfl (lv_at hl 1 rfl) ?_
  refine mm_calli X Z (mm_k_bad0 l hs) (cwX2_bad X.2.2.2.2 ⟨by decide, by decide⟩) rfl hl.1 rfl (Nat.le_of_ble_eq_true rfl) ⟨Nat.le_refl _, Nat.le_refl _⟩ dX2_messages_2 (fun H locs Z => ?_)
  refine nw_if_eq (tgt := 10) hx hb (by omega) dX2_messages_5 (by decide) (fun h_5 => ?_) (fun h_5 => ?_)
  · skip
    refine nw_iconst hx hb 0 dX2_messages_10 (by decide) ?_
    refine lv_istore_n (lv' := [(2, .int (nI 0)), (0, .ref h), (1, .int (nI s))]) hx hb dX2_messages_11 rfl hl (by decide) rfl (fun ls hl => ?_)
    refine nw_iconst hx hb 0 dX2_messages_12 (by decide) ?_
    refine lv_istore_n (lv' := [(3, .int (nI 0)), (2, .int (nI 0)), (0, .ref h), (1, .int (nI s))]) hx hb dX2_messages_13 rfl hl (by decide) rfl (fun ls hl => ?_)
    exact mm_l_messages hs hok X hr hlk (σ 2 s) 0 0 (by omega) _ _ Z ls (lv_sub hl [0, 1, 2, 3] rfl)
  · skip
    exact absurd rfl h_5
set_option maxHeartbeats 4000000 in
set_option maxRecDepth 100000 in
theorem mm_k_peek_e (l : Launch) {σ : ll_St} (hok : mm_ok σ) {s : Nat} {i : Int32} (hs : s < 2) (hi : i < 0 ∨ nI (σ 2 s) ≤ i) : mm_Mi l yX2_peek wsX2_peek rmX2_peek [.int (nI s), .int i] σ σ (-3) := by
  refine mm_ofWi (Nat.le_of_ble_eq_true rfl) (fun p e st m args below meth c D h ad cI cZ A X hr hlk Z ls hl => ?_)
  have hx := X.1
  have hb := X.2.1
  have hl : lv_has ls 3 [(0, .ref h), (1, .int (nI s)), (2, .int i)] := hl
  refine lv_aload_n hx hb dX2_peek_0 rfl (lv_at hl 0 rfl) ?_
  refine lv_iload_n hx hb dX2_peek_1 rfl (lv_at hl 1 rfl) ?_
  refine mm_calli X Z (mm_k_bad0 l hs) (cwX2_bad X.2.2.2.2 ⟨by decide, by decide⟩) rfl hl.1 rfl (Nat.le_of_ble_eq_true rfl) ⟨Nat.le_refl _, Nat.le_refl _⟩ dX2_peek_2 (fun H locs Z => ?_)
  refine nw_if_eq (tgt := 10) hx hb (by omega) dX2_peek_5 (by decide) (fun h_5 => ?_) (fun h_5 => ?_)
  · skip
    refine lv_iload_n hx hb dX2_peek_10 rfl (lv_at hl 2 rfl) ?_
    refine lv_if_lt (tgt := 24) hx hb dX2_peek_11 (by decide) (fun h_11 => ?_) (fun h_11 => ?_)
    · skip
      refine lv_bipush (v := -3) hx hb dX2_peek_24 (by decide) ?_
      refine lv_goto (tgt := 40) hx hb dX2_peek_26 (by decide) ?_
      exact mm_reti X hr hlk Z rfl rfl dX2_peek_40
    · skip
      refine lv_iload_n hx hb dX2_peek_14 rfl (lv_at hl 2 rfl) ?_
      refine lv_aload_n hx hb dX2_peek_15 rfl (lv_at hl 0 rfl) ?_
      refine mm_g2 X Z dX2_peek_16 ?_
      refine lv_iload_n hx hb dX2_peek_19 rfl (lv_at hl 1 rfl) ?_
      refine mm_ld2 X Z (by omega) dX2_peek_20 ?_
      refine lv_icmp_lt (tgt := 29) hx hb dX2_peek_21 (by decide) (fun h_21 => ?_) (fun h_21 => ?_)
      · skip
        exact absurd h_21 (fun q => by rcases hi with z | z; exact h_11 z; exact Int32.lt_irrefl (Int32.lt_of_lt_of_le q z))
      · skip
        refine lv_bipush (v := -3) hx hb dX2_peek_24 (by decide) ?_
        refine lv_goto (tgt := 40) hx hb dX2_peek_26 (by decide) ?_
        exact mm_reti X hr hlk Z rfl rfl dX2_peek_40
  · skip
    exact absurd rfl h_5
set_option maxHeartbeats 4000000 in
set_option maxRecDepth 100000 in
theorem mm_k_peek_ok (l : Launch) {σ : ll_St} (hok : mm_ok σ) {s i : Nat} (hs : s < 2) (hi : i < σ 2 s) : mm_Mi l yX2_peek wsX2_peek rmX2_peek [.int (nI s), .int (nI i)] σ σ (nI (σ 0 (s * 30 + i))) := by
  refine mm_ofWi (Nat.le_of_ble_eq_true rfl) (fun p e st m args below meth c D h ad cI cZ A X hr hlk Z ls hl => ?_)
  have hx := X.1
  have hb := X.2.1
  have hl : lv_has ls 3 [(0, .ref h), (1, .int (nI s)), (2, .int (nI i))] := hl
  have o2 := hok.2 s
  refine lv_aload_n hx hb dX2_peek_0 rfl (lv_at hl 0 rfl) ?_
  refine lv_iload_n hx hb dX2_peek_1 rfl (lv_at hl 1 rfl) ?_
  refine mm_calli X Z (mm_k_bad0 l hs) (cwX2_bad X.2.2.2.2 ⟨by decide, by decide⟩) rfl hl.1 rfl (Nat.le_of_ble_eq_true rfl) ⟨Nat.le_refl _, Nat.le_refl _⟩ dX2_peek_2 (fun H locs Z => ?_)
  refine nw_if_eq (tgt := 10) hx hb (by omega) dX2_peek_5 (by decide) (fun h_5 => ?_) (fun h_5 => ?_)
  · skip
    refine lv_iload_n hx hb dX2_peek_10 rfl (lv_at hl 2 rfl) ?_
    refine nw_if_lt (tgt := 24) hx hb (by omega) dX2_peek_11 (by decide) ?_
    refine lv_iload_n hx hb dX2_peek_14 rfl (lv_at hl 2 rfl) ?_
    refine lv_aload_n hx hb dX2_peek_15 rfl (lv_at hl 0 rfl) ?_
    refine mm_g2 X Z dX2_peek_16 ?_
    refine lv_iload_n hx hb dX2_peek_19 rfl (lv_at hl 1 rfl) ?_
    refine mm_ld2 X Z (by omega) dX2_peek_20 ?_
    refine nw_icmp_lt (tgt := 29) hx hb (by omega) (by omega) dX2_peek_21 (by decide) (fun h_21 => ?_) (fun h_21 => ?_)
    · skip
      refine lv_aload_n hx hb dX2_peek_29 rfl (lv_at hl 0 rfl) ?_
      refine mm_g0 X Z dX2_peek_30 ?_
      refine lv_iload_n hx hb dX2_peek_33 rfl (lv_at hl 1 rfl) ?_
      refine nw_bipush hx hb 30 dX2_peek_34 (by decide) ?_
      refine nw_imul hx hb dX2_peek_36 ?_
      refine lv_iload_n hx hb dX2_peek_37 rfl (lv_at hl 2 rfl) ?_
      refine nw_iadd hx hb dX2_peek_38 ?_
      refine mm_ld0 X Z (by omega) dX2_peek_39 ?_
      exact mm_reti X hr hlk Z rfl rfl dX2_peek_40
    · skip
      exact absurd hi h_21
  · skip
    exact absurd rfl h_5
set_option maxHeartbeats 4000000 in
set_option maxRecDepth 100000 in
theorem mm_k_ends_e (l : Launch) {σ : ll_St} (hok : mm_ok σ) {s : Nat} {i : Int32} (hs : s < 2) (hi : i < 0 ∨ nI (σ 2 s) ≤ i) : mm_Mi l yX2_ends wsX2_ends rmX2_ends [.int (nI s), .int i] σ σ (nI 0) := by
  refine mm_ofWi (Nat.le_of_ble_eq_true rfl) (fun p e st m args below meth c D h ad cI cZ A X hr hlk Z ls hl => ?_)
  have hx := X.1
  have hb := X.2.1
  have hl : lv_has ls 3 [(0, .ref h), (1, .int (nI s)), (2, .int i)] := hl
  refine lv_aload_n hx hb dX2_ends_0 rfl (lv_at hl 0 rfl) ?_
  refine lv_iload_n hx hb dX2_ends_1 rfl (lv_at hl 1 rfl) ?_
  refine mm_calli X Z (mm_k_bad0 l hs) (cwX2_bad X.2.2.2.2 ⟨by decide, by decide⟩) rfl hl.1 rfl (Nat.le_of_ble_eq_true rfl) ⟨Nat.le_refl _, Nat.le_refl _⟩ dX2_ends_2 (fun H locs Z => ?_)
  refine nw_if_ne (tgt := 40) hx hb (by omega) dX2_ends_5 (by decide) (fun h_5 => ?_) (fun h_5 => ?_)
  · skip
    exact absurd rfl h_5
  · skip
    refine lv_iload_n hx hb dX2_ends_8 rfl (lv_at hl 2 rfl) ?_
    refine lv_if_lt (tgt := 40) hx hb dX2_ends_9 (by decide) (fun h_9 => ?_) (fun h_9 => ?_)
    · skip
      refine nw_iconst hx hb 0 dX2_ends_40 (by decide) ?_
      exact mm_retz X hr hlk Z rfl (by decide) rfl dX2_ends_41
    · skip
      refine lv_iload_n hx hb dX2_ends_12 rfl (lv_at hl 2 rfl) ?_
      refine lv_aload_n hx hb dX2_ends_13 rfl (lv_at hl 0 rfl) ?_
      refine mm_g2 X Z dX2_ends_14 ?_
      refine lv_iload_n hx hb dX2_ends_17 rfl (lv_at hl 1 rfl) ?_
      refine mm_ld2 X Z (by omega) dX2_ends_18 ?_
      refine lv_icmp_ge (tgt := 40) hx hb dX2_ends_19 (by decide) (fun h_19 => ?_) (fun h_19 => ?_)
      · skip
        refine nw_iconst hx hb 0 dX2_ends_40 (by decide) ?_
        exact mm_retz X hr hlk Z rfl (by decide) rfl dX2_ends_41
      · skip
        exact absurd (by rcases hi with z | z; exact absurd z h_9; exact z) h_19
set_option maxHeartbeats 4000000 in
set_option maxRecDepth 100000 in
theorem mm_k_ends_ok (l : Launch) {σ : ll_St} (hok : mm_ok σ) {s i : Nat} (hs : s < 2) (hi : i < σ 2 s) : mm_Mi l yX2_ends wsX2_ends rmX2_ends [.int (nI s), .int (nI i)] σ σ (nI (σ 1 (s * 30 + i))) := by
  refine mm_ofWi (Nat.le_of_ble_eq_true rfl) (fun p e st m args below meth c D h ad cI cZ A X hr hlk Z ls hl => ?_)
  have hx := X.1
  have hb := X.2.1
  have hl : lv_has ls 3 [(0, .ref h), (1, .int (nI s)), (2, .int (nI i))] := hl
  have o2 := hok.2 s
  have hmi := hok.1 (s * 30 + i)
  refine lv_aload_n hx hb dX2_ends_0 rfl (lv_at hl 0 rfl) ?_
  refine lv_iload_n hx hb dX2_ends_1 rfl (lv_at hl 1 rfl) ?_
  refine mm_calli X Z (mm_k_bad0 l hs) (cwX2_bad X.2.2.2.2 ⟨by decide, by decide⟩) rfl hl.1 rfl (Nat.le_of_ble_eq_true rfl) ⟨Nat.le_refl _, Nat.le_refl _⟩ dX2_ends_2 (fun H locs Z => ?_)
  refine nw_if_ne (tgt := 40) hx hb (by omega) dX2_ends_5 (by decide) (fun h_5 => ?_) (fun h_5 => ?_)
  · skip
    exact absurd rfl h_5
  · skip
    refine lv_iload_n hx hb dX2_ends_8 rfl (lv_at hl 2 rfl) ?_
    refine nw_if_lt (tgt := 40) hx hb (by omega) dX2_ends_9 (by decide) ?_
    refine lv_iload_n hx hb dX2_ends_12 rfl (lv_at hl 2 rfl) ?_
    refine lv_aload_n hx hb dX2_ends_13 rfl (lv_at hl 0 rfl) ?_
    refine mm_g2 X Z dX2_ends_14 ?_
    refine lv_iload_n hx hb dX2_ends_17 rfl (lv_at hl 1 rfl) ?_
    refine mm_ld2 X Z (by omega) dX2_ends_18 ?_
    refine nw_icmp_ge (tgt := 40) hx hb (by omega) (by omega) dX2_ends_19 (by decide) (fun h_19 => ?_) (fun h_19 => ?_)
    · skip
      exact absurd h_19 (by omega)
    · skip
      refine lv_aload_n hx hb dX2_ends_22 rfl (lv_at hl 0 rfl) ?_
      refine mm_g1 X Z dX2_ends_23 ?_
      refine lv_iload_n hx hb dX2_ends_26 rfl (lv_at hl 1 rfl) ?_
      refine nw_bipush hx hb 30 dX2_ends_27 (by decide) ?_
      refine nw_imul hx hb dX2_ends_29 ?_
      refine lv_iload_n hx hb dX2_ends_30 rfl (lv_at hl 2 rfl) ?_
      refine nw_iadd hx hb dX2_ends_31 ?_
      refine mm_ld1 X Z (by omega) dX2_ends_32 ?_
      refine nw_if_eq (tgt := 40) hx hb (by omega) dX2_ends_33 (by decide) (fun h_33 => ?_) (fun h_33 => ?_)
      · skip
        refine nw_iconst hx hb 0 dX2_ends_40 (by decide) ?_
        exact mm_retz X hr hlk Z rfl (by decide) (by congr 1; omega) dX2_ends_41
      · skip
        refine nw_iconst hx hb 1 dX2_ends_36 (by decide) ?_
        refine lv_goto (tgt := 41) hx hb dX2_ends_37 (by decide) ?_
        exact mm_retz X hr hlk Z rfl (by decide) (by congr 1; omega) dX2_ends_41
set_option maxHeartbeats 4000000 in
set_option maxRecDepth 100000 in
theorem mm_l_sum {p : Program} {l : Launch} {e : Env} {st : State} {m : MethodId} {args : Array Value} {below : List Frame} {meth : Method} {c : Code} {D : va_G} {h : Nat} {ad : Nat → Nat} {cI cZ : ClassId} {A : Nat → Prop} {s : Nat} {σ : ll_St} (hs : s < 2) (hok : mm_ok σ) (X : mm_C p m c cX2_sum 4 st args) (hr : meth.sig.returnType = some .int) (hlk : meth.locks = false) : ∀ (n i a : Nat), i + n = σ 2 s → ∀ (H : Heap) (locs : List Loc), mm_Z D h ad cI cZ A st σ H locs → ∀ ls : Array Slot, lv_has ls 4 [(3, .int (nI i)), (2, .int (nI a)), (0, .ref h), (1, .int (nI s))] → W p l e rmX2_sum st m args below meth c H locs 0 0 (mm_Ei D h ad cI cZ A below args st σ (nI (mm_smL s σ n i a))) (F0 m 14 ls []) := by
  have hx := X.1
  have hb := X.2.1
  have o2 := hok.2 s
  intro n
  induction n with
  | zero =>
    intro i a hn H locs Z ls hl
    refine lv_iload_n hx hb dX2_sum_14 rfl (lv_at hl 0 rfl) ?_
    refine lv_aload_n hx hb dX2_sum_15 rfl (lv_at hl 2 rfl) ?_
    refine mm_g2 X Z dX2_sum_16 ?_
    refine lv_iload_n hx hb dX2_sum_19 rfl (lv_at hl 3 rfl) ?_
    refine mm_ld2 X Z (by omega) dX2_sum_20 ?_
    refine nw_icmp_ge (tgt := 44) hx hb (by omega) (by omega) dX2_sum_21 (by decide) (fun h_21 => ?_) (fun h_21 => ?_)
    · skip
      refine lv_iload_n hx hb dX2_sum_44 rfl (lv_at hl 1 rfl) ?_
      exact mm_reti X hr hlk Z rfl rfl dX2_sum_45
    · skip
      exact absurd (show σ 2 s ≤ i by omega) h_21
  | succ n ih =>
    intro i a hn H locs Z ls hl
    refine lv_iload_n hx hb dX2_sum_14 rfl (lv_at hl 0 rfl) ?_
    refine lv_aload_n hx hb dX2_sum_15 rfl (lv_at hl 2 rfl) ?_
    refine mm_g2 X Z dX2_sum_16 ?_
    refine lv_iload_n hx hb dX2_sum_19 rfl (lv_at hl 3 rfl) ?_
    refine mm_ld2 X Z (by omega) dX2_sum_20 ?_
    refine nw_icmp_ge (tgt := 44) hx hb (by omega) (by omega) dX2_sum_21 (by decide) (fun h_21 => ?_) (fun h_21 => ?_)
    · skip
      exact absurd h_21 (by omega)
    · skip
      refine lv_iload_n hx hb dX2_sum_24 rfl (lv_at hl 1 rfl) ?_
      refine lv_aload_n hx hb dX2_sum_25 rfl (lv_at hl 2 rfl) ?_
      refine mm_g0 X Z dX2_sum_26 ?_
      refine lv_iload_n hx hb dX2_sum_29 rfl (lv_at hl 3 rfl) ?_
      refine nw_bipush hx hb 30 dX2_sum_30 (by decide) ?_
      refine nw_imul hx hb dX2_sum_32 ?_
      refine lv_iload_n hx hb dX2_sum_33 rfl (lv_at hl 0 rfl) ?_
      refine nw_iadd hx hb dX2_sum_34 ?_
      refine mm_ld0 X Z (by omega) dX2_sum_35 ?_
      refine nw_iadd hx hb dX2_sum_36 ?_
      refine lv_istore_n (lv' := [(2, .int (nI (a + (σ 0 ((s * 30) + i))))), (3, .int (nI i)), (0, .ref h), (1, .int (nI s))]) hx hb dX2_sum_37 rfl hl (by decide) rfl (fun ls hl => ?_)
      refine lv_iinc (v := (nI (i + 1))) (lv' := [(3, .int (nI (i + 1))), (2, .int (nI (a + (σ 0 ((s * 30) + i))))), (0, .ref h), (1, .int (nI s))]) hx hb dX2_sum_38 hl (k := 1) rfl (nI_1 _) (by decide) rfl (fun ls hl => ?_)
      refine lv_goto (tgt := 14) hx hb dX2_sum_41 (by decide) ?_
      exact ih (i + 1) _ (by omega) H locs Z ls (lv_sub hl [0, 1, 2, 3] rfl)
set_option maxHeartbeats 4000000 in
set_option maxRecDepth 100000 in
theorem mm_k_sum (l : Launch) {σ : ll_St} (hok : mm_ok σ) {s : Nat} (hs : s < 2) : mm_Mi l yX2_sum wsX2_sum rmX2_sum [.int (nI s)] σ σ (nI (mm_smL s σ (σ 2 s) 0 0)) := by
  refine mm_ofWi (Nat.le_of_ble_eq_true rfl) (fun p e st m args below meth c D h ad cI cZ A X hr hlk Z ls hl => ?_)
  have hx := X.1
  have hb := X.2.1
  have hl : lv_has ls 4 [(0, .ref h), (1, .int (nI s))] := hl
  refine lv_aload_n hx hb dX2_sum_0 rfl (lv_at hl 0 rfl) ?_
  refine lv_iload_n hx hb dX2_sum_1 rfl (lv_at hl 1 rfl) ?_
  refine mm_calli X Z (mm_k_bad0 l hs) (cwX2_bad X.2.2.2.2 ⟨by decide, by decide⟩) rfl hl.1 rfl (Nat.le_of_ble_eq_true rfl) ⟨Nat.le_refl _, Nat.le_refl _⟩ dX2_sum_2 (fun H locs Z => ?_)
  refine nw_if_eq (tgt := 10) hx hb (by omega) dX2_sum_5 (by decide) (fun h_5 => ?_) (fun h_5 => ?_)
  · skip
    refine nw_iconst hx hb 0 dX2_sum_10 (by decide) ?_
    refine lv_istore_n (lv' := [(2, .int (nI 0)), (0, .ref h), (1, .int (nI s))]) hx hb dX2_sum_11 rfl hl (by decide) rfl (fun ls hl => ?_)
    refine nw_iconst hx hb 0 dX2_sum_12 (by decide) ?_
    refine lv_istore_n (lv' := [(3, .int (nI 0)), (2, .int (nI 0)), (0, .ref h), (1, .int (nI s))]) hx hb dX2_sum_13 rfl hl (by decide) rfl (fun ls hl => ?_)
    exact mm_l_sum hs hok X hr hlk (σ 2 s) 0 0 (by omega) _ _ Z ls (lv_sub hl [0, 1, 2, 3] rfl)
  · skip
    exact absurd rfl h_5
end
section
/-! the check bits: linear over exclusive or; a frame as it stands on the line -/
theorem rf_crcS (x y b : Nat) : ll_crcS (x ^^^ y) b = ll_crcS x b ^^^ ll_crcS y b := by
  have hb : ∀ z : Nat, (z / 2 ^ b % 2 = 1) ↔ z.testBit b = true := fun z => by
    rw [Nat.testBit_eq_decide_div_mod_eq]
    exact (decide_eq_true_iff).symm
  unfold ll_crcS
  simp only [hb, Nat.testBit_xor]
  generalize 263 * 2 ^ (b - 8) = g
  cases hx : x.testBit b <;> cases hy : y.testBit b
  · simp
  · simp [Nat.xor_assoc]
  · simp
    rw [Nat.xor_assoc, Nat.xor_assoc, Nat.xor_comm g y]
  · simp
    rw [Nat.xor_assoc, Nat.xor_comm y g, ← Nat.xor_assoc g g y, Nat.xor_self, Nat.zero_xor]
theorem rf_crcL : ∀ (n x y : Nat), ll_crcL n (x ^^^ y) = ll_crcL n x ^^^ ll_crcL n y
  | 0, _, _ => rfl
  | n + 1, x, y => by
    show ll_crcL n (ll_crcS (x ^^^ y) (n + 8)) = ll_crcL n (ll_crcS x (n + 8)) ^^^ ll_crcL n (ll_crcS y (n + 8))
    rw [rf_crcS, rf_crcL n]
theorem rf_crc (x y : Nat) : ll_crc (x ^^^ y) = ll_crc x ^^^ ll_crc y := by
  unfold ll_crc
  have e1 : (x ^^^ y) % 131072 = x % 131072 ^^^ y % 131072 := Nat.xor_mod_two_pow (n := 17)
  have e2 : ∀ a b : Nat, (a ^^^ b) * 256 = a * 256 ^^^ b * 256 := fun a b => by
    have := Nat.shiftLeft_xor_distrib (a := a) (b := b) (i := 8)
    simpa [Nat.shiftLeft_eq] using this
  rw [e1, e2, rf_crcL]
  exact Nat.xor_mod_two_pow (n := 8)
theorem rf_crc_bit : ∀ j, j < 17 → ll_crc (2 ^ j) ≠ 0 := by decide +kernel
theorem rf_crc_mod (f : Nat) : ll_crc (f % 131072) = ll_crc f := by
  unfold ll_crc
  rw [Nat.mod_mod]
theorem rf_or {x : Nat} (n y : Nat) (h : x < 2 ^ n) : x ||| (y * 2 ^ n) = x + y * 2 ^ n := by
  have := Nat.two_pow_add_eq_or_of_lt h y
  rw [Nat.mul_comm y (2 ^ n), Nat.or_comm, ← this]
  omega
theorem rf_wc {f : Nat} (h : f < 131072) : ll_wc f = f + ll_crc f * 131072 := rf_or 17 (ll_crc f) h
theorem rf_snd {f : Nat} (h : f < 131072) : ll_snd (ll_wc f) = 1 := by
  have hc := ll_crc_lt f
  have e := rf_wc h
  unfold ll_snd
  rw [if_pos]
  rw [← rf_crc_mod (ll_wc f)]
  have h1 : ll_wc f % 131072 = f := by omega
  have h2 : ll_wc f / 131072 % 256 = ll_crc f := by omega
  rw [h1, h2]
theorem rf_pows : ∀ j, j < 17 → 2 ^ j / 131072 = 0 ∧ 2 ^ j % 131072 = 2 ^ j := by decide
theorem rf_pows2 : ∀ j, j < 8 → 2 ^ (j + 17) / 131072 = 2 ^ j ∧ 2 ^ (j + 17) % 131072 = 0 ∧ 2 ^ j < 256 ∧ 0 < 2 ^ j := by decide
theorem rf_xorne {x y : Nat} (h : y ≠ 0) : x ^^^ y ≠ x := by
  intro q
  apply h
  have : x ^^^ (x ^^^ y) = x ^^^ x := by rw [q]
  rw [← Nat.xor_assoc, Nat.xor_self, Nat.zero_xor] at this
  exact this
/-- one flipped bit is seen -/
theorem rf_flip {f j : Nat} (h : f < 131072) (hj : j < 25) : ll_snd (ll_wc f ^^^ (1 * 2 ^ j)) = 0 := by
  have hc := ll_crc_lt f
  have e := rf_wc h
  have h1 : ll_wc f % 131072 = f := by omega
  have h2 : ll_wc f / 131072 = ll_crc f := by omega
  have m1 : (ll_wc f ^^^ (1 * 2 ^ j)) % 131072 = f ^^^ (2 ^ j % 131072) := by
    rw [Nat.one_mul]
    have := Nat.xor_mod_two_pow (a := ll_wc f) (b := 2 ^ j) (n := 17)
    rw [show (2 : Nat) ^ 17 = 131072 from rfl, h1] at this
    exact this
  have m2 : (ll_wc f ^^^ (1 * 2 ^ j)) / 131072 = ll_crc f ^^^ (2 ^ j / 131072) := by
    rw [Nat.one_mul]
    have := Nat.shiftRight_xor_distrib (a := ll_wc f) (b := 2 ^ j) (i := 17)
    rw [Nat.shiftRight_eq_div_pow, Nat.shiftRight_eq_div_pow, Nat.shiftRight_eq_div_pow, show (2 : Nat) ^ 17 = 131072 from rfl, h2] at this
    exact this
  unfold ll_snd
  rw [if_neg]
  rw [← rf_crc_mod (ll_wc f ^^^ (1 * 2 ^ j)), m1, m2, rf_crc]
  rcases Nat.lt_or_ge j 17 with q | q
  · obtain ⟨z1, z2⟩ := rf_pows j q
    rw [z1, z2, Nat.xor_zero, Nat.mod_eq_of_lt hc]
    exact rf_xorne (rf_crc_bit j q)
  · obtain ⟨i, rfl⟩ : ∃ i, j = i + 17 := ⟨j - 17, by omega⟩
    obtain ⟨z1, z2, z3, z4⟩ := rf_pows2 i (by omega)
    rw [z1, z2, show ll_crc 0 = 0 by decide +kernel, Nat.xor_zero, Nat.mod_eq_of_lt (Nat.xor_lt_two_pow (n := 8) hc z3)]
    exact fun w => rf_xorne (by omega) w.symm
/-- a frame's bits -/
def rf_c (f : pm_F) : Nat := ((f.1 ||| (f.2.1 % 8 * 4)) ||| (f.2.2.1 % 8 * 32)) ||| (f.2.2.2 * 256)
def rf_enc (f : pm_F) : Nat := ll_wc (rf_c f)
theorem rf_c_eq {f : pm_F} (h1 : f.1 ≤ 2) (h2 : f.2.2.2 < 512) : rf_c f = f.1 + f.2.1 % 8 * 4 + f.2.2.1 % 8 * 32 + f.2.2.2 * 256 := by
  unfold rf_c
  have e1 := rf_or (x := f.1) 2 (f.2.1 % 8) (by omega)
  have e1 : f.1 ||| (f.2.1 % 8 * 4) = f.1 + f.2.1 % 8 * 4 := e1
  rw [e1]
  have e2 : (f.1 + f.2.1 % 8 * 4) ||| (f.2.2.1 % 8 * 32) = f.1 + f.2.1 % 8 * 4 + f.2.2.1 % 8 * 32 := rf_or 5 (f.2.2.1 % 8) (by omega)
  rw [e2]
  exact rf_or 8 f.2.2.2 (by omega)
theorem rf_c_lt {f : pm_F} (h1 : f.1 ≤ 2) (h2 : f.2.2.2 < 512) : rf_c f < 131072 := by
  rw [rf_c_eq h1 h2]
  omega
theorem rf_dec {f : pm_F} (h1 : f.1 ≤ 2) (h2 : f.2.2.2 < 512) : ll_snd (rf_enc f) = 1 ∧ rf_enc f % 4 = f.1 ∧ rf_enc f / 4 % 8 = f.2.1 % 8 ∧ rf_enc f / 32 % 8 = f.2.2.1 % 8 ∧ rf_enc f / 256 % 512 = f.2.2.2 := by
  have hlt := rf_c_lt h1 h2
  have e := rf_wc hlt
  have ec := rf_c_eq h1 h2
  refine ⟨rf_snd hlt, ?_⟩
  unfold rf_enc
  omega
end
section
/-! which cells are a station's own; the picture of a station -/
def rf_in (s k j : Nat) : Prop := (k ≠ 0 ∧ k ≠ 3 ∧ k ≠ 11 ∧ k ≠ 14 ∧ j = s) ∨ ((k = 3 ∨ k = 11) ∧ s * 32 ≤ j ∧ j < s * 32 + 32) ∨ (k = 14 ∧ s * 16 ≤ j ∧ j < s * 16 + 16)
/-- only cells of station s, and not its count of bytes taken, have changed -/
def rf_on (s : Nat) (σ τ : ll_St) : Prop := (∀ k j, ¬ rf_in s k j → τ k j = σ k j) ∧ τ 12 s = σ 12 s
theorem rf_on.rf {s : Nat} {σ : ll_St} : rf_on s σ σ := ⟨fun _ _ _ => rfl, rfl⟩
theorem rf_on.trans {s : Nat} {σ τ υ : ll_St} (h1 : rf_on s σ τ) (h2 : rf_on s τ υ) : rf_on s σ υ := ⟨fun k j h => (h2.1 k j h).trans (h1.1 k j h), h2.2.trans h1.2⟩
theorem rf_on.set {s : Nat} {σ τ : ll_St} {k j x : Nat} (h : rf_on s σ τ) (hin : rf_in s k j) (h12 : k ≠ 12) : rf_on s σ (ll_set τ k j x) := by
  refine ⟨fun a b hab => ?_, ?_⟩
  · have : ¬ (a = k ∧ b = j) := fun q => hab (by rw [q.1, q.2]; exact hin)
    show (if a = k ∧ b = j then x else τ a b) = σ a b
    rw [if_neg this]
    exact h.1 a b hab
  · rw [ll_c _ (Ne.symm h12)]
    exact h.2
theorem rf_sc {s k : Nat} (h : k ≠ 0 ∧ k ≠ 3 ∧ k ≠ 11 ∧ k ≠ 14) : rf_in s k s := Or.inl ⟨h.1, h.2.1, h.2.2.1, h.2.2.2, rfl⟩
theorem rf_on.sc {s : Nat} {σ τ : ll_St} {k x : Nat} (h : rf_on s σ τ) (hk : k ≠ 0 ∧ k ≠ 3 ∧ k ≠ 11 ∧ k ≠ 14) (h12 : k ≠ 12) : rf_on s σ (ll_set τ k s x) := h.set (rf_sc hk) h12
theorem rf_on_send {s k n b : Nat} {σ : ll_St} : rf_on s σ (ll_send s k n b σ) := by
  unfold ll_send
  split
  · rename_i q
    exact ((rf_on.rf.sc (by decide) (by decide)).set (Or.inr (Or.inr ⟨rfl, by omega, by omega⟩)) (by decide)).sc (by decide) (by decide)
  · exact rf_on.rf.sc (by decide) (by decide)
theorem rf_on_sm {s : Nat} : ∀ (n : Nat) {σ : ll_St}, rf_on s σ (ll_sm s n σ)
  | 0, _ => rf_on.rf
  | n + 1, σ => by
    unfold ll_sm
    split
    · exact ((rf_on.rf.sc (by decide) (by decide)).trans rf_on_send).trans (rf_on_sm n)
    · exact rf_on.rf
theorem rf_on_gb {s : Nat} {σ : ll_St} : rf_on s σ (ll_gb s σ) := (rf_on.rf.sc (by decide) (by decide)).trans (rf_on_sm 4)
theorem rf_on_cf {s r : Nat} {σ : ll_St} : rf_on s σ (ll_cf s r σ) := by
  unfold ll_cf
  split
  · exact (((rf_on.rf.sc (by decide) (by decide)).sc (by decide) (by decide)).sc (by decide) (by decide)).sc (by decide) (by decide)
  · exact rf_on.rf
theorem rf_on_ac {s b : Nat} {σ : ll_St} : rf_on s σ (ll_ac s b σ) :=
  ((((rf_on.rf.set (Or.inr (Or.inl ⟨Or.inr rfl, by omega, by omega⟩)) (by decide)).sc (by decide) (by decide)).sc (by decide) (by decide)).sc (by decide) (by decide)).sc (by decide) (by decide)
theorem rf_on_rd {s n b : Nat} {σ : ll_St} : rf_on s σ (ll_rd s n b σ) := by
  unfold ll_rd
  split
  · exact rf_on_ac
  · split
    · exact (rf_on.rf.sc (by decide) (by decide)).trans rf_on_send
    · exact rf_on.rf.sc (by decide) (by decide)
theorem rf_on_ar {s f : Nat} {σ : ll_St} : rf_on s σ (ll_ar s f σ) := by
  have h2 : rf_on s σ (ll_ar2 s f σ) := by
    unfold ll_ar2
    split
    · exact rf_on_cf.trans rf_on_rd
    · exact rf_on_cf
  unfold ll_ar
  split
  · exact rf_on.rf
  · split
    · exact h2.trans rf_on_gb
    · exact h2.trans (rf_on_sm 4)
theorem rf_on_tfL {s : Nat} : ∀ (n i : Nat) {σ : ll_St}, i + n ≤ 16 → rf_on s σ (ll_tfL s n i σ)
  | 0, _, _, _ => rf_on.rf
  | n + 1, i, σ, h => (rf_on.rf.set (Or.inr (Or.inr ⟨rfl, by omega, by omega⟩)) (by decide)).trans (rf_on_tfL n (i + 1) (by omega))
theorem rf_on_tf {s : Nat} {σ : ll_St} (h : σ 13 s ≤ 16) : rf_on s σ (ll_tf s σ) := (rf_on.rf.sc (by decide) (by decide)).trans (rf_on_tfL _ _ (by omega))
theorem rf_on_pd {s : Nat} {σ : ll_St} : rf_on s σ (ll_pd s σ) := by
  unfold ll_pd
  split
  · exact rf_on.rf
  · exact rf_on_send
/-- the picture of station s: U are under way, O: a confirmation is owed -/
def rf_P (σ : ll_St) (s : Nat) (S : pm_S) (U O : Nat) : Prop :=
  σ 4 s = pm_na S % 8 ∧ σ 2 s = (pm_sq S).length ∧ (∀ i, i < (pm_sq S).length → σ 3 (s * 32 + (σ 1 s + i) % 32) = (pm_sq S).getD i 0) ∧ σ 5 s = U ∧ σ 6 s = pm_nr S % 8 ∧ σ 7 s = pm_ak S ∧ σ 8 s = O ∧
  σ 10 s = (pm_gq S).length ∧ (∀ i, i < (pm_gq S).length → σ 11 (s * 32 + (σ 9 s + i) % 32) = (pm_gq S).getD i 0) ∧ σ 13 s = (pm_ln S).length ∧ ∀ i, i < (pm_ln S).length → σ 14 (s * 16 + i) = rf_enc ((pm_ln S).getD i (0, 0, 0, 0))
/-- frames and bytes as they may be -/
def rf_s (S : pm_S) : Prop := (∀ f ∈ pm_ln S, f.1 ≤ 2 ∧ f.2.2.2 < 512) ∧ (∀ b ∈ pm_sq S, b < 512) ∧ (pm_ln S).length ≤ 16
theorem rf_P.on {σ τ : ll_St} {s t : Nat} {S : pm_S} {U O : Nat} (h : rf_P σ t S U O) (hl : (pm_ln S).length ≤ 16) (hon : rf_on s σ τ) (hst : s ≠ t) : rf_P τ t S U O := by
  obtain ⟨h4, h2, h3, h5, h6, h7, h8, h10, h11, h13, h14⟩ := h
  have sc : ∀ k, k ≠ 3 → k ≠ 11 → k ≠ 14 → τ k t = σ k t := fun k a b c => hon.1 k t (by
    rintro (q | q | q)
    · exact hst q.2.2.2.2.symm
    · omega
    · omega)
  have a3 : ∀ k i, k = 3 ∨ k = 11 → τ k (t * 32 + i % 32) = σ k (t * 32 + i % 32) := fun k i hk => hon.1 _ _ (by
    rintro (q | q | q) <;> omega)
  refine ⟨by rw [sc 4 (by decide) (by decide) (by decide)]; exact h4, by rw [sc 2 (by decide) (by decide) (by decide)]; exact h2, fun i hi => ?_, by rw [sc 5 (by decide) (by decide) (by decide)]; exact h5, by rw [sc 6 (by decide) (by decide) (by decide)]; exact h6, by rw [sc 7 (by decide) (by decide) (by decide)]; exact h7, by rw [sc 8 (by decide) (by decide) (by decide)]; exact h8, by rw [sc 10 (by decide) (by decide) (by decide)]; exact h10, fun i hi => ?_, by rw [sc 13 (by decide) (by decide) (by decide)]; exact h13, fun i hi => ?_⟩
  · rw [sc 1 (by decide) (by decide) (by decide), a3 3 _ (Or.inl rfl)]
    exact h3 i hi
  · rw [sc 9 (by decide) (by decide) (by decide), a3 11 _ (Or.inr rfl)]
    exact h11 i hi
  · rw [hon.1 14 _ (by rintro (q | q | q) <;> omega)]
    exact h14 i hi
theorem rf_take16 {α : Type} (l m : List α) (n : Nat) : (l.take n ++ m).take n = (l ++ m).take n := by
  rcases Nat.le_total l.length n with h | h
  · rw [List.take_of_length_le h]
  · rw [List.take_append_of_le_length (by rw [List.length_take]; omega), List.take_append_of_le_length h, List.take_take, Nat.min_self]
theorem rf_push2 (S : pm_S) (a b : List pm_F) : pm_push (pm_push S a) b = pm_push S (a ++ b) := by
  unfold pm_push
  show (_, _, _, _, _, ((pm_ln S ++ a).take 16 ++ b).take 16) = _
  rw [rf_take16, List.append_assoc]
theorem rf_push0 {S : pm_S} (h : (pm_ln S).length ≤ 16) : pm_push S [] = S := by
  unfold pm_push
  rw [List.append_nil, List.take_of_length_le h]
theorem rf_push_len (S : pm_S) (o : List pm_F) : (pm_ln (pm_push S o)).length ≤ 16 := by
  show ((pm_ln S ++ o).take 16).length ≤ 16
  rw [List.length_take]
  omega
theorem rf_s_push {S : pm_S} {o : List pm_F} (h : rf_s S) (ho : ∀ f ∈ o, f.1 ≤ 2 ∧ f.2.2.2 < 512) : rf_s (pm_push S o) := by
  refine ⟨fun f hf => ?_, h.2.1, rf_push_len S o⟩
  rcases List.mem_append.mp (List.mem_of_mem_take hf) with q | q
  · exact h.1 f q
  · exact ho f q
theorem rf_getD_lt {l : List Nat} (h : ∀ b ∈ l, b < 512) (i : Nat) : l.getD i 0 < 512 := by
  rw [List.getD_eq_getElem?_getD]
  cases hq : l[i]? with
  | none => decide
  | some b => exact h b (List.mem_of_getElem? hq)
theorem rf_burst_ok {S : pm_S} (h : ∀ b ∈ pm_sq S, b < 512) {i j : Nat} : ∀ f ∈ pm_burst S i j, f.1 ≤ 2 ∧ f.2.2.2 < 512 := by
  intro f hf
  obtain ⟨o, -, -, rfl⟩ := pm_burst_mem hf
  exact ⟨Nat.zero_le _, rf_getD_lt h o⟩
/-- send -/
theorem rf_send {σ : ll_St} {s : Nat} {S : pm_S} {U O : Nat} (h : rf_P σ s S U O) (hl : (pm_ln S).length ≤ 16) (k a b : Nat) : rf_P (ll_send s k (a % 8) b σ) s (pm_push S [(k, a, pm_nr S, b)]) U 0 := by
  obtain ⟨h4, h2, h3, h5, h6, h7, h8, h10, h11, h13, h14⟩ := h
  unfold ll_send
  by_cases hq : σ 13 s < 16
  · rw [if_pos hq]
    have e : pm_ln (pm_push S [(k, a, pm_nr S, b)]) = pm_ln S ++ [(k, a, pm_nr S, b)] := by
      show (pm_ln S ++ [(k, a, pm_nr S, b)]).take 16 = _
      rw [List.take_of_length_le]
      rw [List.length_append]
      show (pm_ln S).length + 1 ≤ 16
      omega
    refine ⟨by simp [ll_set]; exact h4, by simp [ll_set]; exact h2, fun i hi => by simp [ll_set]; exact h3 i hi, by simp [ll_set]; exact h5, by simp [ll_set]; exact h6, by simp [ll_set]; exact h7, by simp [ll_set], by simp [ll_set]; exact h10, fun i hi => by simp [ll_set]; exact h11 i hi, ?_, fun i hi => ?_⟩
    · rw [ll_e, e, List.length_append, h13]
      rfl
    · rw [e] at hi ⊢
      rw [List.length_append] at hi
      have hi : i < (pm_ln S).length + 1 := hi
      rw [ll_c _ (by decide)]
      by_cases hc : i = (pm_ln S).length
      · rw [hc, ← h13, ll_e, h13]
        have : (pm_ln S ++ [(k, a, pm_nr S, b)]).getD (pm_ln S).length (0, 0, 0, 0) = (k, a, pm_nr S, b) := by simp [List.getD_eq_getElem?_getD]
        rw [this]
        unfold rf_enc rf_c
        rw [h6]
      · rw [ll_n _ (by omega), ll_c _ (by decide), h14 i (by omega)]
        congr 1
        rw [List.getD_eq_getElem?_getD, List.getD_eq_getElem?_getD, List.getElem?_append_left (by omega)]
  · rw [if_neg hq]
    have e : pm_ln (pm_push S [(k, a, pm_nr S, b)]) = pm_ln S := by
      show (pm_ln S ++ [(k, a, pm_nr S, b)]).take 16 = _
      have : (pm_ln S).length = 16 := by omega
      rw [List.take_append_of_le_length (by omega), List.take_of_length_le (by omega)]
    refine ⟨by simp [ll_set]; exact h4, by simp [ll_set]; exact h2, fun i hi => by simp [ll_set]; exact h3 i hi, by simp [ll_set]; exact h5, by simp [ll_set]; exact h6, by simp [ll_set]; exact h7, by simp [ll_set], by simp [ll_set]; exact h10, fun i hi => by simp [ll_set]; exact h11 i hi, ?_, fun i hi => ?_⟩
    · rw [e, ll_c _ (by decide)]
      exact h13
    · rw [e] at hi ⊢
      rw [ll_c _ (by decide)]
      exact h14 i hi
theorem rf_set5 {σ : ll_St} {s : Nat} {S : pm_S} {U O : Nat} (h : rf_P σ s S U O) (x : Nat) : rf_P (ll_set σ 5 s x) s S x O := by
  obtain ⟨h4, h2, h3, h5, h6, h7, h8, h10, h11, h13, h14⟩ := h
  exact ⟨by simp [ll_set]; exact h4, by simp [ll_set]; exact h2, fun i hi => by simp [ll_set]; exact h3 i hi, by simp [ll_set], by simp [ll_set]; exact h6, by simp [ll_set]; exact h7, by simp [ll_set]; exact h8, by simp [ll_set]; exact h10, fun i hi => by simp [ll_set]; exact h11 i hi, by simp [ll_set]; exact h13, fun i hi => by simp [ll_set]; exact h14 i hi⟩
theorem rf_set8 {σ : ll_St} {s : Nat} {S : pm_S} {U O : Nat} (h : rf_P σ s S U O) (x : Nat) : rf_P (ll_set σ 8 s x) s S U x := by
  obtain ⟨h4, h2, h3, h5, h6, h7, h8, h10, h11, h13, h14⟩ := h
  exact ⟨by simp [ll_set]; exact h4, by simp [ll_set]; exact h2, fun i hi => by simp [ll_set]; exact h3 i hi, by simp [ll_set]; exact h5, by simp [ll_set]; exact h6, by simp [ll_set]; exact h7, by simp [ll_set], by simp [ll_set]; exact h10, fun i hi => by simp [ll_set]; exact h11 i hi, by simp [ll_set]; exact h13, fun i hi => by simp [ll_set]; exact h14 i hi⟩
def rf_setak (S : pm_S) (x : Nat) : pm_S := (pm_na S, pm_sq S, pm_nr S, x, pm_gq S, pm_ln S)
theorem rf_set7 {σ : ll_St} {s : Nat} {S : pm_S} {U O : Nat} (h : rf_P σ s S U O) (x : Nat) : rf_P (ll_set σ 7 s x) s (rf_setak S x) U O := by
  obtain ⟨h4, h2, h3, h5, h6, h7, h8, h10, h11, h13, h14⟩ := h
  exact ⟨by simp [ll_set]; exact h4, by simp [ll_set]; exact h2, fun i hi => by simp [ll_set]; exact h3 i hi, by simp [ll_set]; exact h5, by simp [ll_set]; exact h6, by simp [ll_set, rf_setak], by simp [ll_set]; exact h8, by simp [ll_set]; exact h10, fun i hi => by simp [ll_set]; exact h11 i hi, by simp [ll_set]; exact h13, fun i hi => by simp [ll_set]; exact h14 i hi⟩
theorem rf_burst_step {S : pm_S} {U K : Nat} (h : U < K) : pm_burst S U K = (0, pm_na S + U, pm_nr S, (pm_sq S).getD U 0) :: pm_burst S (U + 1) K := by
  obtain ⟨m, hm⟩ : ∃ m, K = U + m + 1 := ⟨K - U - 1, by omega⟩
  subst hm
  unfold pm_burst
  rw [show U + m + 1 - U = m + 1 by omega, show U + m + 1 - (U + 1) = m by omega]
  rfl
/-- sendMore -/
theorem rf_sm {s : Nat} : ∀ (n : Nat) {σ : ll_St} {S : pm_S} {U O : Nat}, rf_P σ s S U O → (pm_ln S).length ≤ 16 → U ≤ pm_K (σ 0 0) S → pm_K (σ 0 0) S ≤ U + n → rf_P (ll_sm s n σ) s (pm_push S (pm_burst S U (pm_K (σ 0 0) S))) (pm_K (σ 0 0) S) (if U < pm_K (σ 0 0) S then 0 else O)
  | 0, σ, S, U, O, h, hl, h1, h2 => by
    have e : U = pm_K (σ 0 0) S := by omega
    rw [← e, pm_burst_z _ _ (Nat.le_refl _), rf_push0 hl, if_neg (Nat.lt_irrefl _)]
    exact h
  | n + 1, σ, S, U, O, h, hl, h1, h2 => by
    have hK : pm_K (σ 0 0) S = min (σ 0 0) (pm_sq S).length := rfl
    have h5 : σ 5 s = U := h.2.2.2.1
    have hc : σ 2 s = (pm_sq S).length := h.2.1
    by_cases hq : U < pm_K (σ 0 0) S
    · rw [ll_sm_go (by omega) (by omega), if_pos hq, rf_burst_step hq]
      have r1 := rf_send (rf_set5 h (σ 5 s + 1)) hl 0 (pm_na S + U) ((pm_sq S).getD U 0)
      have e1 : (σ 4 s + σ 5 s) % 8 = (pm_na S + U) % 8 := by
        rw [h.1, h5]
        omega
      have e2 : σ 3 (s * 32 + (σ 1 s + σ 5 s) % 32) = (pm_sq S).getD U 0 := by
        rw [h5]
        exact h.2.2.1 U (by omega)
      have r2 : rf_P (ll_smS s σ) s (pm_push S [(0, pm_na S + U, pm_nr S, (pm_sq S).getD U 0)]) (σ 5 s + 1) 0 := by
        unfold ll_smS
        rw [e1, e2]
        exact r1
      have ew : ll_smS s σ 0 0 = σ 0 0 := by
        unfold ll_smS
        rw [ll_send_o (by decide) (by decide) (by decide), ll_c _ (by decide)]
      rw [h5] at r2
      have r3 := rf_sm n r2 (rf_push_len _ _) (by rw [ew]; exact hq) (by rw [ew]; show pm_K (σ 0 0) S ≤ U + 1 + n; omega)
      rw [ew, rf_push2] at r3
      have e3 : (if U + 1 < pm_K (σ 0 0) (pm_push S [(0, pm_na S + U, pm_nr S, (pm_sq S).getD U 0)]) then 0 else 0) = 0 := by split <;> rfl
      rw [e3] at r3
      exact r3
    · have e : U = pm_K (σ 0 0) S := by omega
      rw [ll_sm_no (by omega), if_neg hq, pm_burst_z _ _ (by omega), rf_push0 hl, ← e]
      exact h
/-- goBack -/
theorem rf_gb {σ : ll_St} {s : Nat} {S : pm_S} {U O : Nat} (h : rf_P σ s S U O) (hl : (pm_ln S).length ≤ 16) (hw : σ 0 0 ≤ 4) : rf_P (ll_gb s σ) s (pm_push S (pm_burst S 0 (pm_K (σ 0 0) S))) (pm_K (σ 0 0) S) (if 0 < pm_K (σ 0 0) S then 0 else O) := by
  have hK : pm_K (σ 0 0) S ≤ σ 0 0 := Nat.min_le_left _ _
  have ew : ll_set σ 5 s 0 0 0 = σ 0 0 := ll_c _ (by decide)
  have r := rf_sm 4 (rf_set5 h 0) hl (Nat.zero_le _) (by rw [ew]; omega)
  rw [ew] at r
  exact r
end
section
theorem rf_on.w {s : Nat} {σ τ : ll_St} (h : rf_on s σ τ) : τ 0 0 = σ 0 0 := h.1 0 0 (by rintro (q | q | q) <;> omega)
theorem rf_on.f {s : Nat} {σ τ : ll_St} (h : rf_on s σ τ) : ∀ t, τ 12 t = σ 12 t := fun t => by
  by_cases q : t = s
  · rw [q]
    exact h.2
  · exact h.1 12 t (by rintro (z | z | z) <;> omega)
/-- confirm -/
theorem rf_cf {σ : ll_St} {s : Nat} {S : pm_S} {U O r : Nat} (h : rf_P σ s S U O) (h1 : pm_na S ≤ r) (hr : r ≤ pm_na S + U) (hU : U ≤ 4) : rf_P (ll_cf s (r % 8) σ) s (r, (pm_sq S).drop (r - pm_na S), pm_nr S, pm_ak S, pm_gq S, pm_ln S) (U - (r - pm_na S)) O := by
  obtain ⟨h4, h2, h3, h5, h6, h7, h8, h10, h11, h13, h14⟩ := h
  have hn : (r % 8 + 8 - σ 4 s) % 8 = r - pm_na S := by
    rw [h4]
    omega
  unfold ll_cf
  rw [hn, if_pos (by omega)]
  generalize hm : r - pm_na S = n
  refine ⟨by rw [ll_e], ?_, ?_, ?_, by simp [ll_set]; exact h6, by simp [ll_set]; exact h7, by simp [ll_set]; exact h8, by simp [ll_set]; exact h10, fun i hi => by simp [ll_set]; exact h11 i hi, by simp [ll_set]; exact h13, fun i hi => by simp [ll_set]; exact h14 i hi⟩
  · rw [ll_c _ (by decide), ll_c _ (by decide), ll_e, h2]
    exact List.length_drop.symm
  · intro i hi
    have hi : i < ((pm_sq S).drop n).length := hi
    rw [List.length_drop] at hi
    rw [ll_c (a := 1) _ (by decide), ll_c (a := 1) _ (by decide), ll_c (a := 1) _ (by decide), ll_e, ll_c (a := 3) _ (by decide), ll_c (a := 3) _ (by decide), ll_c (a := 3) _ (by decide), ll_c (a := 3) _ (by decide)]
    show _ = ((pm_sq S).drop n).getD i 0
    rw [pm_getD_drop, ← h3 (n + i) (by omega)]
    congr 2
    omega
  · rw [ll_c _ (by decide), ll_e, h5]
/-- accept -/
theorem rf_ac {σ : ll_St} {s : Nat} {S : pm_S} {U O : Nat} (h : rf_P σ s S U O) (hg : (pm_gq S).length < 32) (b : Nat) : rf_P (ll_ac s b σ) s (pm_na S, pm_sq S, pm_nr S + 1, 0, pm_gq S ++ [b], pm_ln S) U 1 := by
  obtain ⟨h4, h2, h3, h5, h6, h7, h8, h10, h11, h13, h14⟩ := h
  unfold ll_ac
  refine ⟨by simp [ll_set]; exact h4, by simp [ll_set]; exact h2, fun i hi => by simp [ll_set]; exact h3 i hi, by simp [ll_set]; exact h5, ?_, by simp [ll_set], by simp [ll_set], ?_, ?_, by simp [ll_set]; exact h13, fun i hi => by simp [ll_set]; exact h14 i hi⟩
  · rw [ll_c _ (by decide), ll_c _ (by decide), ll_e, h6]
    show (pm_nr S % 8 + 1) % 8 = (pm_nr S + 1) % 8
    omega
  · rw [ll_c _ (by decide), ll_c _ (by decide), ll_c _ (by decide), ll_e, h10]
    show (pm_gq S).length + 1 = (pm_gq S ++ [b]).length
    rw [List.length_append]
    rfl
  · intro i hi
    have hi : i < (pm_gq S ++ [b]).length := hi
    rw [List.length_append] at hi
    have hi : i < (pm_gq S).length + 1 := hi
    rw [ll_c (a := 9) _ (by decide), ll_c (a := 9) _ (by decide), ll_c (a := 9) _ (by decide), ll_c (a := 9) _ (by decide), ll_c (a := 9) _ (by decide), ll_c (a := 11) _ (by decide), ll_c (a := 11) _ (by decide), ll_c (a := 11) _ (by decide), ll_c (a := 11) _ (by decide)]
    show _ = (pm_gq S ++ [b]).getD i 0
    by_cases hc : i = (pm_gq S).length
    · rw [hc, h10, ll_e]
      simp [List.getD_eq_getElem?_getD]
    · rw [ll_n _ (by rw [h10]; omega), h11 i (by omega), List.getD_eq_getElem?_getD, List.getD_eq_getElem?_getD, List.getElem?_append_left (by omega)]
theorem rf_pd0 {σ : ll_St} {s : Nat} {S : pm_S} {U : Nat} (h : rf_P σ s S U 0) : rf_P (ll_pd s σ) s S U 0 := by
  unfold ll_pd
  rw [if_pos h.2.2.2.2.2.2.1]
  exact h
theorem rf_pd1 {σ : ll_St} {s : Nat} {S : pm_S} {U : Nat} (h : rf_P σ s S U 1) (hl : (pm_ln S).length ≤ 16) : rf_P (ll_pd s σ) s (pm_push S [(1, 0, pm_nr S, 0)]) U 0 := by
  unfold ll_pd
  rw [if_neg (by rw [h.2.2.2.2.2.2.1]; decide)]
  exact rf_send h hl 1 0 0
/-- sendMore, then the debt is paid -/
theorem rf_fin {τ : ll_St} {s w : Nat} {C : pm_S} {U O : Nat} (h : rf_P τ s C U O) (hO : O ≤ 1) (hl : (pm_ln C).length ≤ 16) (ew : τ 0 0 = w) (hw : w ≤ 4) (hU : U ≤ pm_K w C) : rf_P (ll_pd s (ll_sm s 4 τ)) s (pm_push C (pm_burst C U (pm_K w C) ++ (if O = 1 ∧ ¬ U < pm_K w C then [(1, 0, pm_nr C, 0)] else []))) (pm_K w C) 0 := by
  subst ew
  have hK : pm_K (τ 0 0) C ≤ τ 0 0 := Nat.min_le_left _ _
  have r := rf_sm 4 h hl hU (by omega)
  by_cases hq : U < pm_K (τ 0 0) C
  · rw [if_pos hq] at r
    rw [if_neg (fun q => q.2 hq), List.append_nil]
    exact rf_pd0 r
  · rw [if_neg hq] at r
    rcases (show O = 0 ∨ O = 1 by omega) with e | e
    · rw [e] at r ⊢
      rw [if_neg (fun q => by cases q.1), List.append_nil]
      exact rf_pd0 r
    · rw [e] at r ⊢
      rw [if_pos ⟨rfl, hq⟩, ← rf_push2]
      exact rf_pd1 r (rf_push_len _ _)
theorem rf_core1 {S : pm_S} {f : pm_F} (h : pm_acc S f) : pm_core S f = (f.2.2.1, (pm_sq S).drop (f.2.2.1 - pm_na S), pm_nr S + 1, 0, pm_gq S ++ [f.2.2.2], pm_ln S) := by
  unfold pm_core
  rw [if_pos h, if_pos h, if_pos h]
theorem rf_core2 {S : pm_S} {f : pm_F} (h1 : ¬ pm_acc S f) (h : pm_gb S f) : pm_core S f = (f.2.2.1, (pm_sq S).drop (f.2.2.1 - pm_na S), pm_nr S, 1, pm_gq S, pm_ln S) := by
  unfold pm_core
  rw [if_neg h1, if_neg h1, if_neg h1, if_pos h]
theorem rf_core3 {S : pm_S} {f : pm_F} (h1 : ¬ pm_acc S f) (h : ¬ pm_gb S f) : pm_core S f = (f.2.2.1, (pm_sq S).drop (f.2.2.1 - pm_na S), pm_nr S, pm_ak S, pm_gq S, pm_ln S) := by
  unfold pm_core
  rw [if_neg h1, if_neg h1, if_neg h1, if_neg h]
/-- a frame comes to a station -/
theorem rf_recv {σ : ll_St} {s w : Nat} {S : pm_S} {f : pm_F} (ew : σ 0 0 = w) (hw : w ≤ 4) (h : rf_P σ s S (pm_K w S) 0) (hs : rf_s S) (hg : (pm_gq S).length < 32) (hf : f.1 ≤ 2 ∧ f.2.2.2 < 512) (r1 : pm_na S ≤ f.2.2.1) (r2 : f.2.2.1 ≤ pm_na S + pm_K w S) (ha : f.1 = 0 → f.2.1 < pm_nr S + 4 ∧ pm_nr S ≤ f.2.1 + 4) : rf_P (ll_pd s (ll_ar s (rf_enc f) σ)) s (pm_recv w S f) (pm_K w (pm_recv w S f)) 0 := by
  obtain ⟨d0, d1, d2, d3, d4⟩ := rf_dec hf.1 hf.2
  have hK4 : pm_K w S ≤ 4 := Nat.le_trans (Nat.min_le_left _ _) hw
  have hKl : pm_K w S ≤ (pm_sq S).length := Nat.min_le_right _ _
  have hKe : pm_K w S = min w (pm_sq S).length := rfl
  have c1 := rf_cf h r1 r2 hK4
  have hU : pm_U w S f ≤ pm_K w (pm_core S f) := by
    show pm_K w S - (f.2.2.1 - pm_na S) ≤ min w ((pm_sq S).drop (f.2.2.1 - pm_na S)).length
    rw [List.length_drop]
    omega
  have cw : ll_cf s (f.2.2.1 % 8) σ 0 0 = w := rf_on_cf.w.trans ew
  have e6 : ll_cf s (f.2.2.1 % 8) σ 6 s = pm_nr S % 8 := c1.2.2.2.2.1
  have e7 : ll_cf s (f.2.2.1 % 8) σ 7 s = pm_ak S := c1.2.2.2.2.2.1
  have hl := hs.2.2
  unfold ll_ar ll_ar2
  rw [d0, d1, d2, d3, d4, if_neg (by decide)]
  show rf_P _ s (pm_push (pm_core S f) (pm_out w S f)) (pm_K w (pm_core S f)) 0
  unfold pm_out
  by_cases h0 : f.1 = 0
  · have h2 : ¬ f.1 = 2 := by omega
    have hab := ha h0
    rw [if_neg h2, if_pos h0, if_neg h2]
    unfold ll_rd
    rw [e6, e7]
    by_cases hc : pm_acc S f
    · have hgb : ¬ pm_gb S f := fun q => by have := q.2.1; have := hc.2; omega
      have ce := rf_core1 hc
      rw [if_pos (by rw [hc.2]; omega), if_neg hgb, List.nil_append]
      have c2 := rf_ac c1 hg f.2.2.2
      have c3 := rf_fin c2 (Nat.le_refl _) hl (rf_on_ac.w.trans cw) hw (by rw [← ce]; exact hU)
      have c3 : rf_P (ll_pd s (ll_sm s 4 (ll_ac s f.2.2.2 (ll_cf s (f.2.2.1 % 8) σ)))) s (pm_push (pm_core S f) (pm_burst (pm_core S f) (pm_U w S f) (pm_K w (pm_core S f)) ++ (if 1 = 1 ∧ ¬ pm_U w S f < pm_K w (pm_core S f) then [(1, 0, pm_nr (pm_core S f), 0)] else []))) (pm_K w (pm_core S f)) 0 := by rw [ce]; exact c3
      by_cases hq : pm_U w S f < pm_K w (pm_core S f)
      · rw [if_neg (fun q => q.2 hq)] at c3
        rw [if_neg (fun q => q.2.2 hq)]
        exact c3
      · rw [if_pos ⟨rfl, hq⟩] at c3
        rw [if_pos ⟨h0, hgb, hq⟩]
        exact c3
    · have hne : ¬ f.2.1 = pm_nr S := fun q => hc ⟨h0, q⟩
      rw [if_neg (by omega)]
      by_cases hgb : pm_gb S f
      · have ce := rf_core2 hc hgb
        have hlt := hgb.2.1
        rw [if_pos ⟨by omega, hgb.2.2⟩, if_pos hgb]
        have c2 := rf_send (rf_set7 c1 1) hl 2 0 0
        have c3 := rf_fin c2 (Nat.zero_le _) (rf_push_len _ _) ((rf_on_send.w.trans (ll_c _ (by decide))).trans cw) hw (by
          show pm_U w S f ≤ pm_K w (pm_core S f)
          exact hU)
        rw [if_neg (fun q => by cases q.1), rf_push2, List.append_nil] at c3
        rw [if_neg (fun q => q.2.1 hgb), List.append_nil, ce]
        exact c3
      · have ce := rf_core3 hc hgb
        have hcond : ¬ ((f.2.1 % 8 + 8 - pm_nr S % 8) % 8 ≤ 3 ∧ pm_ak S = 0) := fun q => by
          by_cases hlt : pm_nr S < f.2.1
          · exact hgb ⟨h0, hlt, q.2⟩
          · have := q.1
            omega
        rw [if_neg hcond, if_neg hgb, List.nil_append]
        have c2 := rf_set8 c1 1
        have c3 := rf_fin c2 (Nat.le_refl _) hl ((ll_c _ (by decide)).trans cw) hw (by rw [← ce]; exact hU)
        have c3 : rf_P (ll_pd s (ll_sm s 4 (ll_set (ll_cf s (f.2.2.1 % 8) σ) 8 s 1))) s (pm_push (pm_core S f) (pm_burst (pm_core S f) (pm_U w S f) (pm_K w (pm_core S f)) ++ (if 1 = 1 ∧ ¬ pm_U w S f < pm_K w (pm_core S f) then [(1, 0, pm_nr (pm_core S f), 0)] else []))) (pm_K w (pm_core S f)) 0 := by rw [ce]; exact c3
        by_cases hq : pm_U w S f < pm_K w (pm_core S f)
        · rw [if_neg (fun q => q.2 hq)] at c3
          rw [if_neg (fun q => q.2.2 hq)]
          exact c3
        · rw [if_pos ⟨rfl, hq⟩] at c3
          rw [if_pos ⟨h0, hgb, hq⟩]
          exact c3
  · have hc : ¬ pm_acc S f := fun q => h0 q.1
    have hgb : ¬ pm_gb S f := fun q => h0 q.1
    have ce := rf_core3 hc hgb
    have ho3 : ¬ (f.1 = 0 ∧ ¬ pm_gb S f ∧ ¬ pm_U w S f < pm_K w (pm_core S f)) := fun q => h0 q.1
    rw [if_neg hgb, if_neg ho3, List.append_nil, List.nil_append]
    by_cases h2 : f.1 = 2
    · rw [if_pos h2, if_neg h0, if_pos h2]
      have c2 := rf_gb c1 hl (by rw [cw]; exact hw)
      rw [cw] at c2
      have e0 : (if 0 < pm_K w (f.2.2.1, (pm_sq S).drop (f.2.2.1 - pm_na S), pm_nr S, pm_ak S, pm_gq S, pm_ln S) then 0 else 0) = 0 := by split <;> rfl
      rw [e0] at c2
      rw [ce]
      exact rf_pd0 c2
    · rw [if_neg h2, if_neg h0, if_neg h2]
      have c3 := rf_fin c1 (Nat.zero_le _) hl cw hw (by rw [← ce]; exact hU)
      rw [if_neg (fun q => by cases q.1), List.append_nil] at c3
      rw [ce]
      exact c3
theorem rf_tfL_o {s : Nat} {a j : Nat} (h : a ≠ 14) : ∀ (n i : Nat) (σ : ll_St), ll_tfL s n i σ a j = σ a j
  | 0, _, _ => rfl
  | n + 1, i, σ => by
    show ll_tfL s n (i + 1) _ a j = _
    rw [rf_tfL_o h, ll_c _ h]
theorem rf_tfL {s : Nat} : ∀ (n i j : Nat) (σ : ll_St), ll_tfL s n i σ 14 (s * 16 + j) = if i ≤ j ∧ j < i + n then σ 14 (s * 16 + j + 1) else σ 14 (s * 16 + j)
  | 0, i, j, σ => by
    rw [if_neg (by omega)]
    rfl
  | n + 1, i, j, σ => by
    show ll_tfL s n (i + 1) _ 14 (s * 16 + j) = _
    rw [rf_tfL n (i + 1) j]
    by_cases h1 : i + 1 ≤ j ∧ j < i + 1 + n
    · rw [if_pos h1, if_pos (by omega), ll_n _ (by omega)]
    · rw [if_neg h1]
      by_cases h2 : j = i
      · rw [if_pos (by omega), h2, ll_e]
      · rw [if_neg (by omega), ll_n _ (by omega)]
/-- takeFrame -/
theorem rf_tf {σ : ll_St} {s : Nat} {S : pm_S} {U O : Nat} {f : pm_F} {rest : List pm_F} (h : rf_P σ s S U O) (hl : pm_ln S = f :: rest) : rf_P (ll_tf s σ) s (pm_setln S rest) U O ∧ σ 14 (s * 16) = rf_enc f := by
  obtain ⟨h4, h2, h3, h5, h6, h7, h8, h10, h11, h13, h14⟩ := h
  have hlen : (pm_ln S).length = rest.length + 1 := by rw [hl]; rfl
  have o : ∀ a j, a ≠ 14 → a ≠ 13 → ll_tf s σ a j = σ a j := fun a j h1 h2 => by
    unfold ll_tf
    rw [rf_tfL_o h1, ll_c _ h2]
  refine ⟨⟨by rw [o _ _ (by decide) (by decide)]; exact h4, by rw [o _ _ (by decide) (by decide)]; exact h2, fun i hi => by rw [o 1 _ (by decide) (by decide), o 3 _ (by decide) (by decide)]; exact h3 i hi, by rw [o _ _ (by decide) (by decide)]; exact h5, by rw [o _ _ (by decide) (by decide)]; exact h6, by rw [o _ _ (by decide) (by decide)]; exact h7, by rw [o _ _ (by decide) (by decide)]; exact h8, by rw [o _ _ (by decide) (by decide)]; exact h10, fun i hi => by rw [o 9 _ (by decide) (by decide), o 11 _ (by decide) (by decide)]; exact h11 i hi, ?_, fun i hi => ?_⟩, ?_⟩
  · unfold ll_tf
    rw [rf_tfL_o (by decide), ll_e, h13, hlen]
    rfl
  · have hi : i < rest.length := hi
    unfold ll_tf
    rw [rf_tfL, if_pos (by omega), ll_c _ (by decide)]
    have := h14 (i + 1) (by omega)
    rw [hl] at this
    exact this
  · have := h14 0 (by omega)
    rw [hl] at this
    exact this
end
section
/-! the state of a LossyLink and two stations: s has S, the other has T -/
def rf_R (w : Nat) (σ : ll_St) (s : Nat) (S T : pm_S) : Prop :=
  σ 0 0 = w ∧ (1 ≤ w ∧ w ≤ 4) ∧ ll_ok σ ∧ (rf_P σ s S (pm_K w S) 0 ∧ rf_P σ (1 - s) T (pm_K w T) 0) ∧ (rf_s S ∧ rf_s T) ∧ (pm_J w S T ∧ pm_J w T S) ∧ (pm_qv S T).length ≤ 30 ∧ (pm_qv T S).length ≤ 30
theorem rf_R.sym0 {w : Nat} {σ : ll_St} {S T : pm_S} (h : rf_R w σ 0 S T) : rf_R w σ 1 T S := by
  obtain ⟨a, b, c, ⟨d1, d2⟩, ⟨e1, e2⟩, ⟨f1, f2⟩, g1, g2⟩ := h
  exact ⟨a, b, c, ⟨d2, d1⟩, ⟨e2, e1⟩, ⟨f2, f1⟩, g2, g1⟩
theorem rf_R.sym1 {w : Nat} {σ : ll_St} {S T : pm_S} (h : rf_R w σ 1 S T) : rf_R w σ 0 T S := by
  obtain ⟨a, b, c, ⟨d1, d2⟩, ⟨e1, e2⟩, ⟨f1, f2⟩, g1, g2⟩ := h
  exact ⟨a, b, c, ⟨d2, d1⟩, ⟨e2, e1⟩, ⟨f2, f1⟩, g2, g1⟩
theorem rf_R.sym {w : Nat} {σ : ll_St} {s : Nat} {S T : pm_S} (hs : s < 2) (h : rf_R w σ s S T) : rf_R w σ (1 - s) T S := by
  rcases (show s = 0 ∨ s = 1 by omega) with rfl | rfl
  · exact h.sym0
  · exact h.sym1
/-- how many there are, out of what waits -/
theorem rf_len {w : Nat} {S T : pm_S} (h1 : pm_J w S T) (hq : (pm_qv S T).length ≤ 30) : (pm_gq T).length ≤ 30 ∧ (pm_sq S).length ≤ 30 ∧ (pm_qv S T).length = (pm_gq T).length + (pm_sq S).length - (pm_nr T - pm_na S) ∧ pm_nr T - pm_na S ≤ (pm_sq S).length ∧ pm_nr T - pm_na S ≤ (pm_gq T).length ∧ pm_nr T - pm_na S ≤ w := by
  obtain ⟨a1, -, -, -, -, a6⟩ := h1
  have e : (pm_qv S T).length = (pm_gq T).length + ((pm_sq S).length - (pm_nr T - pm_na S)) := by
    unfold pm_qv
    rw [List.length_append, List.length_drop]
  have hK : pm_K w S ≤ (pm_sq S).length := Nat.min_le_right _ _
  have hK2 : pm_K w S ≤ w := Nat.min_le_left _ _
  omega
theorem rf_setln_nil {S : pm_S} (h : pm_ln S = []) : pm_setln S [] = S := by
  obtain ⟨a, b, c, d, e, f⟩ := S
  have h : f = [] := h
  subst h
  rfl
theorem rf_out_ok {w : Nat} {S : pm_S} {f : pm_F} (h : rf_s S) : ∀ g ∈ pm_out w S f, g.1 ≤ 2 ∧ g.2.2.2 < 512 := by
  have hb : ∀ b ∈ pm_sq (pm_core S f), b < 512 := fun b hb => h.2.1 b (List.mem_of_mem_drop hb)
  intro g hg
  rcases List.mem_append.mp hg with q | q
  · split at q
    · rw [List.mem_singleton.mp q]
      exact ⟨Nat.le_refl _, by show (0 : Nat) < 512; omega⟩
    · cases q
  · rcases List.mem_append.mp q with q | q
    · split at q
      · exact rf_burst_ok hb g q
      · exact rf_burst_ok hb g q
    · split at q
      · rw [List.mem_singleton.mp q]
        exact ⟨by show (1 : Nat) ≤ 2; omega, by show (0 : Nat) < 512; omega⟩
      · cases q
theorem rf_s_core {S : pm_S} {f : pm_F} (h : rf_s S) : rf_s (pm_core S f) := ⟨h.1, fun b hb => h.2.1 b (List.mem_of_mem_drop hb), h.2.2⟩
theorem rf_s_recv {w : Nat} {S : pm_S} {f : pm_F} (h : rf_s S) : rf_s (pm_recv w S f) := rf_s_push (rf_s_core h) (rf_out_ok h)
theorem rf_s_setln {S : pm_S} {l : List pm_F} (h : rf_s S) (hl : l.Sublist (pm_ln S)) : rf_s (pm_setln S l) := ⟨fun f hf => h.1 f (hl.subset hf), h.2.1, Nat.le_trans hl.length_le h.2.2⟩
/-- what a frame at the head of the line from S brings to T, by its bits -/
theorem rf_arr {w : Nat} {σ : ll_St} {t : Nat} {S T : pm_S} {f : pm_F} {rest : List pm_F} (hl : pm_ln S = f :: rest) (ew : σ 0 0 = w) (hw : w ≤ 4) (hP : rf_P σ t T (pm_K w T) 0) (hS : rf_s S) (hT : rf_s T) (h1 : pm_J w S T) (h2 : pm_J w T S) (hg : (pm_gq T).length ≤ 30) : rf_P (ll_pd t (ll_ar t (rf_enc f) σ)) t (pm_recv w T f) (pm_K w (pm_recv w T f)) 0 := by
  have hf : f ∈ pm_ln S := by rw [hl]; exact List.mem_cons_self
  have hr := h2.2.2.2.1 f hf
  have hb := h2.1
  have ha := h1.1
  have hK : pm_K w S ≤ w := Nat.min_le_left _ _
  refine rf_recv ew hw hP hT (by omega) (hS.1 f hf) hr.1 (by omega) (fun h0 => ?_)
  have := h1.2.1 f hf h0
  omega
/-- carryOne -/
theorem rf_R_co {w : Nat} {σ : ll_St} {s : Nat} {S T : pm_S} {f : pm_F} {rest : List pm_F} (hs : s < 2) (h : rf_R w σ s S T) (hl : pm_ln S = f :: rest) : rf_R w (ll_co s σ) s (pm_setln S rest) (pm_recv w T f) ∧ ∀ t, ll_co s σ 12 t = σ 12 t := by
  obtain ⟨a, b, c, ⟨d1, d2⟩, ⟨e1, e2⟩, ⟨f1, f2⟩, g1, g2⟩ := h
  have hgl := (rf_len f1 g1).1
  have h13 : σ 13 s ≤ 16 := by rw [d1.2.2.2.2.2.2.2.2.2.1]; exact e1.2.2
  have on1 : rf_on s σ (ll_tf s σ) := rf_on_tf h13
  obtain ⟨t1, t2⟩ := rf_tf d1 hl
  have p2 := d2.on e2.2.2 on1 (by omega)
  have on2 : rf_on (1 - s) (ll_tf s σ) (ll_co s σ) := rf_on_ar.trans rf_on_pd
  have r2 : rf_P (ll_co s σ) (1 - s) (pm_recv w T f) (pm_K w (pm_recv w T f)) 0 := by
    unfold ll_co
    rw [t2]
    exact rf_arr hl (on1.w.trans a) b.2 p2 e1 e2 f1 f2 hgl
  have hsub : rest.Sublist (pm_ln S) := by rw [hl]; exact List.sublist_cons_self f rest
  have s1 := rf_s_setln e1 hsub
  obtain ⟨j1, q1, q2⟩ := pm_carry_J b.2 hl f1 f2
  refine ⟨⟨on2.w.trans (on1.w.trans a), b, ll_ok_co c, ⟨t1.on s1.2.2 on2 (by omega), r2⟩, ⟨s1, rf_s_recv e2⟩, j1, by rw [q1]; exact g1, by rw [q2]; exact g2⟩, fun t => (on2.f t).trans (on1.f t)⟩
/-- a frame is lost -/
theorem rf_R_tf {w : Nat} {σ : ll_St} {s : Nat} {S T : pm_S} {f : pm_F} {rest : List pm_F} (hs : s < 2) (h : rf_R w σ s S T) (hl : pm_ln S = f :: rest) : rf_R w (ll_tf s σ) s (pm_setln S rest) T ∧ ∀ t, ll_tf s σ 12 t = σ 12 t := by
  obtain ⟨a, b, c, ⟨d1, d2⟩, ⟨e1, e2⟩, ⟨f1, f2⟩, g1, g2⟩ := h
  have h13 : σ 13 s ≤ 16 := by rw [d1.2.2.2.2.2.2.2.2.2.1]; exact e1.2.2
  have on1 : rf_on s σ (ll_tf s σ) := rf_on_tf h13
  obtain ⟨t1, t2⟩ := rf_tf d1 hl
  have hsub : rest.Sublist (pm_ln S) := by rw [hl]; exact List.sublist_cons_self f rest
  exact ⟨⟨on1.w.trans a, b, ll_ok_tf c, ⟨t1, d2.on e2.2.2 on1 (by omega)⟩, ⟨rf_s_setln e1 hsub, e2⟩, pm_setln_J hsub f1 f2, g1, g2⟩, on1.f⟩
/-- a frame with a flipped bit is as good as lost -/
theorem rf_R_flip {w : Nat} {σ : ll_St} {s j : Nat} {S T : pm_S} {f : pm_F} {rest : List pm_F} (hs : s < 2) (hj : j < 25) (h : rf_R w σ s S T) (hl : pm_ln S = f :: rest) (hok : ll_ok (ll_set σ 14 (s * 16) (σ 14 (s * 16) ^^^ (1 * 2 ^ j)))) : rf_R w (ll_co s (ll_set σ 14 (s * 16) (σ 14 (s * 16) ^^^ (1 * 2 ^ j)))) s (pm_setln S rest) T ∧ ∀ t, ll_co s (ll_set σ 14 (s * 16) (σ 14 (s * 16) ^^^ (1 * 2 ^ j))) 12 t = σ 12 t := by
  obtain ⟨a, b, c, ⟨d1, d2⟩, ⟨e1, e2⟩, ⟨f1, f2⟩, g1, g2⟩ := h
  have h13 : σ 13 s ≤ 16 := by rw [d1.2.2.2.2.2.2.2.2.2.1]; exact e1.2.2
  have hf : f ∈ pm_ln S := by rw [hl]; exact List.mem_cons_self
  obtain ⟨t1, t2⟩ := rf_tf d1 hl
  have hsub : rest.Sublist (pm_ln S) := by rw [hl]; exact List.sublist_cons_self f rest
  have s1 := rf_s_setln e1 hsub
  generalize hx : σ 14 (s * 16) ^^^ (1 * 2 ^ j) = x at hok ⊢
  have hsn : ll_snd x = 0 := by
    rw [← hx, t2]
    exact rf_flip (rf_c_lt (e1.1 f hf).1 (e1.1 f hf).2) hj
  have on0 : rf_on s σ (ll_set σ 14 (s * 16) x) := rf_on.rf.set (Or.inr (Or.inr ⟨rfl, by omega, by omega⟩)) (by decide)
  have h13' : ll_set σ 14 (s * 16) x 13 s = σ 13 s := ll_c _ (by decide)
  have on1 : rf_on s (ll_set σ 14 (s * 16) x) (ll_tf s (ll_set σ 14 (s * 16) x)) := rf_on_tf (by rw [h13']; exact h13)
  have ho8 : ll_tf s (ll_set σ 14 (s * 16) x) 8 (1 - s) = 0 := by
    have := (d2.on e2.2.2 (on0.trans on1) (by omega)).2.2.2.2.2.2.1
    exact this
  have hco : ll_co s (ll_set σ 14 (s * 16) x) = ll_tf s (ll_set σ 14 (s * 16) x) := by
    unfold ll_co
    rw [ll_e]
    unfold ll_ar
    rw [if_pos hsn]
    unfold ll_pd
    rw [if_pos ho8]
  have hcell : ∀ i, i < rest.length → ll_tf s (ll_set σ 14 (s * 16) x) 14 (s * 16 + i) = ll_tf s σ 14 (s * 16 + i) := fun i hi => by
    have hlen : σ 13 s = rest.length + 1 := by rw [d1.2.2.2.2.2.2.2.2.2.1, hl]; rfl
    unfold ll_tf
    rw [h13', rf_tfL, rf_tfL, if_pos (by omega), if_pos (by omega), ll_c (a := 14) (k := 13) _ (by decide), ll_c (a := 14) (k := 13) _ (by decide), ll_n _ (by omega)]
  have hoth : ∀ a i, a ≠ 14 → ll_tf s (ll_set σ 14 (s * 16) x) a i = ll_tf s σ a i := fun a i ha => by
    unfold ll_tf
    rw [h13', rf_tfL_o ha, rf_tfL_o ha]
    by_cases h1 : a = 13
    · subst h1
      by_cases h2 : i = s
      · rw [h2, ll_e, ll_e]
      · rw [ll_n _ h2, ll_n _ h2, ll_c _ ha]
    · rw [ll_c _ h1, ll_c _ h1, ll_c _ ha]
  have t3 : rf_P (ll_tf s (ll_set σ 14 (s * 16) x)) s (pm_setln S rest) (pm_K w S) 0 := by
    obtain ⟨h4, h2, h3, h5, h6, h7, h8, h10, h11, h13, h14⟩ := t1
    refine ⟨by rw [hoth _ _ (by decide)]; exact h4, by rw [hoth _ _ (by decide)]; exact h2, fun i hi => by rw [hoth 1 _ (by decide), hoth 3 _ (by decide)]; exact h3 i hi, by rw [hoth _ _ (by decide)]; exact h5, by rw [hoth _ _ (by decide)]; exact h6, by rw [hoth _ _ (by decide)]; exact h7, by rw [hoth _ _ (by decide)]; exact h8, by rw [hoth _ _ (by decide)]; exact h10, fun i hi => by rw [hoth 9 _ (by decide), hoth 11 _ (by decide)]; exact h11 i hi, by rw [hoth _ _ (by decide)]; exact h13, fun i hi => by rw [hcell i hi]; exact h14 i hi⟩
  rw [hco]
  exact ⟨⟨(on0.trans on1).w.trans a, b, ll_ok_tf hok, ⟨t3, d2.on e2.2.2 (on0.trans on1) (by omega)⟩, ⟨s1, e2⟩, pm_setln_J hsub f1 f2, g1, g2⟩, (on0.trans on1).f⟩
/-- a frame is brought and stays on the line -/
theorem rf_R_dup {w : Nat} {σ : ll_St} {s : Nat} {S T : pm_S} {f : pm_F} {rest : List pm_F} (hs : s < 2) (h : rf_R w σ s S T) (hl : pm_ln S = f :: rest) : rf_R w (ll_pd (1 - s) (ll_ar (1 - s) (σ 14 (s * 16)) σ)) s S (pm_recv w T f) ∧ ∀ t, ll_pd (1 - s) (ll_ar (1 - s) (σ 14 (s * 16)) σ) 12 t = σ 12 t := by
  obtain ⟨a, b, c, ⟨d1, d2⟩, ⟨e1, e2⟩, ⟨f1, f2⟩, g1, g2⟩ := h
  have hgl := (rf_len f1 g1).1
  obtain ⟨t1, t2⟩ := rf_tf d1 hl
  have on2 : rf_on (1 - s) σ (ll_pd (1 - s) (ll_ar (1 - s) (σ 14 (s * 16)) σ)) := rf_on_ar.trans rf_on_pd
  have r2 : rf_P (ll_pd (1 - s) (ll_ar (1 - s) (σ 14 (s * 16)) σ)) (1 - s) (pm_recv w T f) (pm_K w (pm_recv w T f)) 0 := by
    rw [t2]
    exact rf_arr hl a b.2 d2 e1 e2 f1 f2 hgl
  obtain ⟨j1, q1, q2⟩ := pm_dup_J b.2 hl f1 f2
  exact ⟨⟨on2.w.trans a, b, ll_ok_pd (ll_ok_ar c), ⟨d1.on e1.2.2 on2 (by omega), r2⟩, ⟨e1, rf_s_recv e2⟩, j1, by rw [q1]; exact g1, by rw [q2]; exact g2⟩, on2.f⟩
/-- goBack -/
theorem rf_R_gb {w : Nat} {σ : ll_St} {s : Nat} {S T : pm_S} (hs : s < 2) (h : rf_R w σ s S T) : rf_R w (ll_gb s σ) s (pm_push S (pm_burst S 0 (pm_K w S))) T ∧ ∀ t, ll_gb s σ 12 t = σ 12 t := by
  obtain ⟨a, b, c, ⟨d1, d2⟩, ⟨e1, e2⟩, ⟨f1, f2⟩, g1, g2⟩ := h
  have r := rf_gb d1 e1.2.2 (by rw [a]; exact b.2)
  rw [a] at r
  have e0 : (if 0 < pm_K w S then 0 else 0) = 0 := by split <;> rfl
  rw [e0] at r
  exact ⟨⟨rf_on_gb.w.trans a, b, ll_ok_gb c, ⟨r, d2.on e2.2.2 rf_on_gb (by omega)⟩, ⟨rf_s_push e1 (rf_burst_ok e1.2.1), e2⟩, pm_push_J b.2 (pm_burst_nf (Nat.le_refl _)) f1 f2, g1, g2⟩, rf_on_gb.f⟩
/-- emptyLine -/
theorem rf_R_el {w s : Nat} (hs : s < 2) : ∀ (n : Nat) (X : List pm_F) (S T : pm_S) (σ : ll_St), pm_ln S = X → X.length ≤ n → rf_R w σ s S T → rf_R w (ll_el s n σ) s (pm_setln S []) (pm_dl w T X) ∧ ∀ t, ll_el s n σ 12 t = σ 12 t := by
  intro n
  induction n with
  | zero =>
    intro X S T σ hl hn h
    have hX : X = [] := List.eq_nil_of_length_eq_zero (by omega)
    subst hX
    rw [rf_setln_nil hl]
    exact ⟨h, fun _ => rfl⟩
  | succ n ih =>
    intro X S T σ hl hn h
    have h13 : σ 13 s = (pm_ln S).length := h.2.2.2.1.1.2.2.2.2.2.2.2.2.2.1
    cases X with
    | nil =>
      rw [show ll_el s (n + 1) σ = σ from if_pos (by rw [h13, hl]; rfl), rf_setln_nil hl]
      exact ⟨h, fun _ => rfl⟩
    | cons f rest =>
      rw [show ll_el s (n + 1) σ = ll_el s n (ll_co s σ) from if_neg (by rw [h13, hl]; exact Nat.succ_ne_zero _)]
      obtain ⟨r1, r2⟩ := rf_R_co hs h hl
      obtain ⟨q1, q2⟩ := ih rest (pm_setln S rest) (pm_recv w T f) (ll_co s σ) rfl (by simp only [List.length_cons] at hn; omega) r1
      exact ⟨q1, fun t => (q2 t).trans (r2 t)⟩
theorem rf_R_half {w : Nat} {σ : ll_St} {s : Nat} {S T : pm_S} (hs : s < 2) (h : rf_R w σ s S T) : rf_R w (ll_el s 16 (ll_gb s σ)) s (pm_setln S []) (pm_dl w T (pm_X w S)) ∧ ∀ t, ll_el s 16 (ll_gb s σ) 12 t = σ 12 t := by
  obtain ⟨r1, r2⟩ := rf_R_gb hs h
  obtain ⟨q1, q2⟩ := rf_R_el hs 16 (pm_X w S) _ T _ rfl (rf_push_len _ _) r1
  exact ⟨q1, fun t => (q2 t).trans (r2 t)⟩
theorem rf_R_rn {w : Nat} {σ : ll_St} {P : pm_S × pm_S} (h : rf_R w σ 0 P.1 P.2) : rf_R w (ll_rn σ) 0 (pm_round w P).1 (pm_round w P).2 ∧ ∀ t, ll_rn σ 12 t = σ 12 t := by
  obtain ⟨r1, r2⟩ := rf_R_half (by decide) h
  obtain ⟨q1, q2⟩ := rf_R_half (by decide) r1.sym0
  exact ⟨q1.sym1, fun t => (q2 t).trans (r2 t)⟩
theorem rf_R_stl {w : Nat} : ∀ (n : Nat) (P : pm_S × pm_S) (σ : ll_St), rf_R w σ 0 P.1 P.2 → rf_R w (ll_stl n σ) 0 (pm_settle w n P).1 (pm_settle w n P).2 ∧ ∀ t, ll_stl n σ 12 t = σ 12 t
  | 0, P, σ, h => ⟨h, fun _ => rfl⟩
  | n + 1, P, σ, h => by
    have e0 : σ 2 0 = (pm_sq P.1).length := h.2.2.2.1.1.2.1
    have e1 : σ 2 1 = (pm_sq P.2).length := h.2.2.2.1.2.2.1
    by_cases hb : 0 < (pm_sq P.1).length + (pm_sq P.2).length
    · rw [pm_settle_go n hb, show ll_stl (n + 1) σ = ll_stl n (ll_rn σ) from if_neg (by omega)]
      obtain ⟨r1, r2⟩ := rf_R_rn h
      obtain ⟨q1, q2⟩ := rf_R_stl n (pm_round w P) (ll_rn σ) r1
      exact ⟨q1, fun t => (q2 t).trans (r2 t)⟩
    · rw [pm_settle_stop _ hb, show ll_stl (n + 1) σ = σ from if_pos (by omega)]
      exact ⟨h, fun _ => rfl⟩
/-- settle: what waits has come, nothing is left to be sent -/
theorem rf_R_settle {w : Nat} {σ : ll_St} {s : Nat} {S T : pm_S} (hs : s < 2) (h : rf_R w σ s S T) : ∃ S' T' : pm_S, rf_R w (ll_stl 200 σ) s S' T' ∧ (∀ t, ll_stl 200 σ 12 t = σ 12 t) ∧ pm_sq S' = [] ∧ pm_sq T' = [] ∧ pm_qv S' T' = pm_qv S T ∧ pm_qv T' S' = pm_qv T S := by
  have key : ∀ {S T : pm_S}, rf_R w σ 0 S T → ∃ S' T' : pm_S, rf_R w (ll_stl 200 σ) 0 S' T' ∧ (∀ t, ll_stl 200 σ 12 t = σ 12 t) ∧ pm_sq S' = [] ∧ pm_sq T' = [] ∧ pm_qv S' T' = pm_qv S T ∧ pm_qv T' S' = pm_qv T S := by
    intro S T h
    obtain ⟨r1, r2⟩ := rf_R_stl 200 (S, T) σ h
    obtain ⟨a, b, c, ⟨d1, d2⟩, ⟨e1, e2⟩, ⟨f1, f2⟩, g1, g2⟩ := h
    have l1 := rf_len f1 g1
    have l2 := rf_len f2 g2
    obtain ⟨-, q1, q2⟩ := pm_settle_J b.2 200 (S, T) f1 f2
    obtain ⟨z1, z2⟩ := pm_settle_200 b.1 b.2 (P := (S, T)) f1 f2 (by show (pm_sq S).length + (pm_sq T).length ≤ 60; omega)
    exact ⟨_, _, r1, r2, z1, z2, q1, q2⟩
  rcases (show s = 0 ∨ s = 1 by omega) with rfl | rfl
  · exact key h
  · obtain ⟨S', T', r1, r2, z1, z2, q1, q2⟩ := key h.sym1
    exact ⟨T', S', r1.sym0, r2, z2, z1, q2, q1⟩
end
section
/-! giving, taking, firing, resetting: the stations behind them -/
def rf_addq (S : pm_S) (b : Nat) : pm_S := (pm_na S, pm_sq S ++ [b], pm_nr S, pm_ak S, pm_gq S, pm_ln S)
theorem rf_add {σ : ll_St} {s : Nat} {S : pm_S} {U O : Nat} (h : rf_P σ s S U O) (hg : (pm_sq S).length < 32) (b : Nat) : rf_P (ll_set (ll_set σ 3 (s * 32 + (σ 1 s + σ 2 s) % 32) b) 2 s (σ 2 s + 1)) s (rf_addq S b) U O := by
  obtain ⟨h4, h2, h3, h5, h6, h7, h8, h10, h11, h13, h14⟩ := h
  refine ⟨by simp [ll_set]; exact h4, ?_, ?_, by simp [ll_set]; exact h5, by simp [ll_set]; exact h6, by simp [ll_set]; exact h7, by simp [ll_set]; exact h8, by simp [ll_set]; exact h10, fun i hi => by simp [ll_set]; exact h11 i hi, by simp [ll_set]; exact h13, fun i hi => by simp [ll_set]; exact h14 i hi⟩
  · rw [ll_e, h2]
    show (pm_sq S).length + 1 = (pm_sq S ++ [b]).length
    rw [List.length_append]
    rfl
  · intro i hi
    have hi : i < (pm_sq S ++ [b]).length := hi
    rw [List.length_append] at hi
    have hi : i < (pm_sq S).length + 1 := hi
    rw [ll_c (a := 1) _ (by decide), ll_c (a := 1) _ (by decide), ll_c (a := 3) (k := 2) _ (by decide)]
    show _ = (pm_sq S ++ [b]).getD i 0
    by_cases hc : i = (pm_sq S).length
    · rw [hc, h2, ll_e]
      simp [List.getD_eq_getElem?_getD]
    · rw [ll_n _ (by rw [h2]; omega), h3 i (by omega), List.getD_eq_getElem?_getD, List.getD_eq_getElem?_getD, List.getElem?_append_left (by omega)]
theorem rf_add_K (w : Nat) (S : pm_S) (b : Nat) : pm_K w S ≤ pm_K w (rf_addq S b) := by
  show min w (pm_sq S).length ≤ min w (pm_sq S ++ [b]).length
  rw [List.length_append]
  show min w (pm_sq S).length ≤ min w ((pm_sq S).length + 1)
  omega
theorem rf_add_J {w : Nat} {S T : pm_S} {b : Nat} (h1 : pm_J w S T) (h2 : pm_J w T S) : (pm_J w (rf_addq S b) T ∧ pm_J w T (rf_addq S b)) ∧ pm_qv (rf_addq S b) T = pm_qv S T ++ [b] ∧ pm_qv T (rf_addq S b) = pm_qv T S := by
  obtain ⟨a1, a2, a3, a4, a5, a6⟩ := h1
  have hK := rf_add_K w S b
  have hKl : pm_K w S ≤ (pm_sq S).length := Nat.min_le_right _ _
  refine ⟨⟨⟨⟨a1.1, ?_⟩, ?_, a3, a4, a5, a6⟩, h2⟩, ?_, rfl⟩
  · show pm_nr T ≤ pm_na S + pm_K w (rf_addq S b)
    have := a1.2
    omega
  · intro f hf h0
    obtain ⟨c1, c2, c3⟩ := a2 f hf h0
    refine ⟨?_, c2, fun q => ?_⟩
    · show f.2.1 < pm_na S + pm_K w (rf_addq S b)
      omega
    · have q : pm_na S ≤ f.2.1 := q
      rw [c3 q]
      show (pm_sq S).getD (f.2.1 - pm_na S) 0 = (pm_sq S ++ [b]).getD (f.2.1 - pm_na S) 0
      rw [List.getD_eq_getElem?_getD, List.getD_eq_getElem?_getD, List.getElem?_append_left (by omega)]
  · show pm_gq T ++ (pm_sq S ++ [b]).drop (pm_nr T - pm_na S) = (pm_gq T ++ (pm_sq S).drop (pm_nr T - pm_na S)) ++ [b]
    rw [List.drop_append_of_le_length (by have := a1.2; omega), List.append_assoc]
/-- give -/
theorem rf_R_give {w : Nat} {σ : ll_St} {s b : Nat} {S T : pm_S} (hs : s < 2) (h : rf_R w σ s S T) (hb : b < 512) (hq : (pm_qv S T).length < 30) : ∃ S' : pm_S, rf_R w (ll_gv s b σ) s S' T ∧ (∀ t, ll_gv s b σ 12 t = σ 12 t) ∧ pm_qv S' T = pm_qv S T ++ [b] ∧ pm_qv T S' = pm_qv T S := by
  obtain ⟨a, b0, c, ⟨d1, d2⟩, ⟨e1, e2⟩, ⟨f1, f2⟩, g1, g2⟩ := h
  have l1 := rf_len f1 g1
  have h2s : σ 2 s = (pm_sq S).length := d1.2.1
  have r1 := rf_add d1 (by omega) b
  have ok2 : ll_ok (ll_gv s b σ) := ll_ok_gv c hb (by omega)
  have eg : ll_gv s b σ = ll_sm s 4 (ll_set (ll_set σ 3 (s * 32 + (σ 1 s + σ 2 s) % 32) b) 2 s (σ 2 s + 1)) := rfl
  have on1 : rf_on s σ (ll_set (ll_set σ 3 (s * 32 + (σ 1 s + σ 2 s) % 32) b) 2 s (σ 2 s + 1)) := (rf_on.rf.set (Or.inr (Or.inl ⟨Or.inl rfl, by omega, by omega⟩)) (by decide)).sc (by decide) (by decide)
  rw [eg] at ok2 ⊢
  generalize ll_set (ll_set σ 3 (s * 32 + (σ 1 s + σ 2 s) % 32) b) 2 s (σ 2 s + 1) = τ at r1 ok2 on1 ⊢
  have ew : τ 0 0 = w := on1.w.trans a
  have hKK := rf_add_K w S b
  have hK4 : pm_K w (rf_addq S b) ≤ w := Nat.min_le_left _ _
  have r2 := rf_sm 4 r1 e1.2.2 (by rw [ew]; exact hKK) (by rw [ew]; omega)
  rw [ew] at r2
  have e0 : (if pm_K w S < pm_K w (rf_addq S b) then 0 else 0) = 0 := by split <;> rfl
  rw [e0] at r2
  obtain ⟨⟨j1, j2⟩, q1, q2⟩ := rf_add_J (b := b) f1 f2
  have on2 : rf_on s σ (ll_sm s 4 τ) := on1.trans (rf_on_sm 4)
  have s1 : rf_s (rf_addq S b) := ⟨e1.1, fun x hx => by
    rcases List.mem_append.mp hx with q | q
    · exact e1.2.1 x q
    · rw [List.mem_singleton.mp q]
      exact hb, e1.2.2⟩
  refine ⟨pm_push (rf_addq S b) (pm_burst (rf_addq S b) (pm_K w S) (pm_K w (rf_addq S b))), ⟨on2.w.trans a, b0, ok2, ⟨r2, d2.on e2.2.2 on2 (by omega)⟩, ⟨rf_s_push s1 (rf_burst_ok s1.2.1), e2⟩, pm_push_J b0.2 (pm_burst_nf (Nat.le_refl _)) j1 j2, ?_, ?_⟩, on2.f, q1, q2⟩
  · show (pm_qv (rf_addq S b) T).length ≤ 30
    rw [q1, List.length_append]
    show (pm_qv S T).length + 1 ≤ 30
    omega
  · show (pm_qv T (rf_addq S b)).length ≤ 30
    rw [q2]
    exact g2
/-- what may be given: as many as the plain queue has -/
theorem rf_R_wos {w : Nat} {σ : ll_St} {s : Nat} {S T : pm_S} (h : rf_R w σ s S T) : (σ 6 (1 - s) + 8 - σ 4 s) % 8 ≤ σ 10 (1 - s) + σ 2 s ∧ ll_wos s σ = (pm_qv S T).length ∧ σ 2 s ≤ 30 := by
  obtain ⟨a, b0, c, ⟨d1, d2⟩, ⟨e1, e2⟩, ⟨f1, f2⟩, g1, g2⟩ := h
  obtain ⟨l1, l2, l3, l4, l5, l6⟩ := rf_len f1 g1
  have h4 : σ 4 s = pm_na S % 8 := d1.1
  have h2 : σ 2 s = (pm_sq S).length := d1.2.1
  have h6 : σ 6 (1 - s) = pm_nr T % 8 := d2.2.2.2.2.1
  have h10 : σ 10 (1 - s) = (pm_gq T).length := d2.2.2.2.2.2.2.2.1
  have hle : pm_na S ≤ pm_nr T := f1.1.1
  have hn : (σ 6 (1 - s) + 8 - σ 4 s) % 8 = pm_nr T - pm_na S := by
    rw [h4, h6]
    have := b0.2
    omega
  unfold ll_wos
  rw [hn, h10, h2, l3]
  omega
def rf_dr (n : Nat) (S : pm_S) : pm_S := (pm_na S, pm_sq S, pm_nr S, pm_ak S, (pm_gq S).drop n, pm_ln S)
theorem rf_set12 {σ : ll_St} {s : Nat} {S : pm_S} {U O : Nat} (h : rf_P σ s S U O) (j x : Nat) : rf_P (ll_set σ 12 j x) s S U O := by
  obtain ⟨h4, h2, h3, h5, h6, h7, h8, h10, h11, h13, h14⟩ := h
  exact ⟨by simp [ll_set]; exact h4, by simp [ll_set]; exact h2, fun i hi => by simp [ll_set]; exact h3 i hi, by simp [ll_set]; exact h5, by simp [ll_set]; exact h6, by simp [ll_set]; exact h7, by simp [ll_set]; exact h8, by simp [ll_set]; exact h10, fun i hi => by simp [ll_set]; exact h11 i hi, by simp [ll_set]; exact h13, fun i hi => by simp [ll_set]; exact h14 i hi⟩
theorem rf_to {σ : ll_St} {s : Nat} {S : pm_S} {U O : Nat} (h : rf_P σ s S U O) : rf_P (ll_set (ll_set σ 9 s ((σ 9 s + 1) % 32)) 10 s (σ 10 s - 1)) s (rf_dr 1 S) U O := by
  obtain ⟨h4, h2, h3, h5, h6, h7, h8, h10, h11, h13, h14⟩ := h
  refine ⟨by simp [ll_set]; exact h4, by simp [ll_set]; exact h2, fun i hi => by simp [ll_set]; exact h3 i hi, by simp [ll_set]; exact h5, by simp [ll_set]; exact h6, by simp [ll_set]; exact h7, by simp [ll_set]; exact h8, ?_, ?_, by simp [ll_set]; exact h13, fun i hi => by simp [ll_set]; exact h14 i hi⟩
  · rw [ll_e, h10]
    show _ = ((pm_gq S).drop 1).length
    rw [List.length_drop]
  · intro i hi
    have hi : i < ((pm_gq S).drop 1).length := hi
    rw [List.length_drop] at hi
    rw [ll_c (a := 9) (k := 10) _ (by decide), ll_e, ll_c (a := 11) (k := 10) _ (by decide), ll_c (a := 11) (k := 9) _ (by decide)]
    show _ = ((pm_gq S).drop 1).getD i 0
    rw [pm_getD_drop, ← h11 (1 + i) (by omega)]
    congr 2
    omega
theorem rf_qv0 {S T : pm_S} (h : pm_sq T = []) : pm_qv T S = pm_gq S := by
  unfold pm_qv
  rw [h, List.drop_nil, List.append_nil]
/-- takeOne, where nothing is left to be sent -/
theorem rf_R_to {w : Nat} {σ : ll_St} {s : Nat} {S T : pm_S} (hs : s < 2) (h : rf_R w σ s S T) (hT : pm_sq T = []) : rf_R w (ll_to s σ) s (rf_dr 1 S) T := by
  obtain ⟨a, b0, c, ⟨d1, d2⟩, ⟨e1, e2⟩, ⟨f1, f2⟩, g1, g2⟩ := h
  have r1 := rf_to d1
  have on1 : rf_on s σ (ll_set (ll_set σ 9 s ((σ 9 s + 1) % 32)) 10 s (σ 10 s - 1)) := (rf_on.rf.sc (by decide) (by decide)).sc (by decide) (by decide)
  have ok2 : ll_ok (ll_to s σ) := ll_ok_to c
  have eg : ll_to s σ = ll_set (ll_set (ll_set σ 9 s ((σ 9 s + 1) % 32)) 10 s (σ 10 s - 1)) 12 s (σ 12 s + 1) := rfl
  rw [eg] at ok2 ⊢
  generalize ll_set (ll_set σ 9 s ((σ 9 s + 1) % 32)) 10 s (σ 10 s - 1) = τ at r1 ok2 on1 ⊢
  have hw0 : ll_set τ 12 s (σ 12 s + 1) 0 0 = w := by
    rw [ll_c _ (by decide)]
    exact on1.w.trans a
  have hz : pm_nr S ≤ pm_na T := by
    have h1 := f2.1.2
    have h2 : pm_K w T = 0 := by
      show min w (pm_sq T).length = 0
      rw [hT]
      exact Nat.min_zero _
    omega
  have f2' : pm_J w T (rf_dr 1 S) := by
    obtain ⟨b1, b2, b3, b4, b5, b6⟩ := f2
    refine ⟨b1, b2, b3, b4, b5, ?_⟩
    show pm_nr S - pm_na T ≤ _
    omega
  refine ⟨hw0, b0, ok2, ⟨rf_set12 r1 _ _, rf_set12 (d2.on e2.2.2 on1 (by omega)) _ _⟩, ⟨e1, e2⟩, ⟨f1, f2'⟩, g1, ?_⟩
  rw [rf_qv0 hT]
  rw [rf_qv0 hT] at g2
  show ((pm_gq S).drop 1).length ≤ 30
  rw [List.length_drop]
  omega
theorem rf_to12 (s t : Nat) (σ : ll_St) : ll_to s σ 12 t = if t = s then σ 12 s + 1 else σ 12 t := by
  unfold ll_to
  by_cases h : t = s
  · rw [if_pos h, h, ll_e]
  · rw [if_neg h, ll_n _ h, ll_c _ (by decide), ll_c _ (by decide)]
theorem rf_sk12 (s t : Nat) : ∀ (n : Nat) (σ : ll_St), ll_skL s n σ 12 t = if t = s then σ 12 s + n else σ 12 t
  | 0, σ => by
    show σ 12 t = _
    by_cases h : t = s
    · rw [if_pos h, h, Nat.add_zero]
    · rw [if_neg h]
  | n + 1, σ => by
    show ll_skL s n (ll_to s σ) 12 t = _
    rw [rf_sk12 s t n, rf_to12, rf_to12]
    by_cases h : t = s
    · rw [if_pos h, if_pos h, if_pos rfl]
      omega
    · rw [if_neg h, if_neg h, if_neg h]
theorem rf_dr0 (S : pm_S) : rf_dr 0 S = S := rfl
theorem rf_dr_dr (n : Nat) (S : pm_S) : rf_dr n (rf_dr 1 S) = rf_dr (n + 1) S := by
  unfold rf_dr
  show (_, _, _, _, ((pm_gq S).drop 1).drop n, _) = _
  rw [List.drop_drop, Nat.add_comm 1 n]
theorem rf_R_sk {w s : Nat} {T : pm_S} (hs : s < 2) (hT : pm_sq T = []) : ∀ (n : Nat) {σ : ll_St} {S : pm_S}, rf_R w σ s S T → rf_R w (ll_skL s n σ) s (rf_dr n S) T
  | 0, _, _, h => h
  | n + 1, σ, S, h => by
    have := rf_R_sk hs hT n (rf_R_to hs h hT)
    rw [rf_dr_dr] at this
    exact this
/-- the byte that is first in the ring -/
theorem rf_R_head {w : Nat} {σ : ll_St} {s : Nat} {S T : pm_S} (h : rf_R w σ s S T) (hg : 0 < (pm_gq S).length) : σ 11 (s * 32 + σ 9 s) = (pm_gq S).getD 0 0 := by
  have h11 := h.2.2.2.1.1.2.2.2.2.2.2.2.2.1 0 hg
  have h9 : σ 9 s < 32 := h.2.2.1.1 9 s (by decide) (by decide)
  rw [Nat.add_zero, Nat.mod_eq_of_lt h9] at h11
  exact h11
/-- takeMessage's loop -/
theorem rf_tm {w s : Nat} {T : pm_S} (hs : s < 2) (hT : pm_sq T = []) : ∀ (k m a b : Nat) (σ : ll_St) (S : pm_S), rf_R w σ s S T → k ≤ m → k ≤ (pm_gq S).length → (∀ i, i < k → (b :: pm_gq S).getD i 0 < 256) → 256 ≤ (b :: pm_gq S).getD k 0 → ll_tmL s m a b σ = (a + k, ll_skL s k σ) ∧ ll_tmO s m b σ := by
  intro k
  induction k with
  | zero =>
    intro m a b σ S h hm hk hlt hge
    have hge : 256 ≤ b := hge
    cases m with
    | zero => exact ⟨rfl, trivial⟩
    | succ m => exact ⟨if_neg (by omega), fun q => absurd q (by omega)⟩
  | succ k ih =>
    intro m a b σ S h hm hk hlt hge
    obtain ⟨m, rfl⟩ : ∃ z, m = z + 1 := ⟨m - 1, by omega⟩
    have hb : b < 256 := hlt 0 (by omega)
    have hgl : 0 < (pm_gq S).length := by omega
    have hh := rf_R_head h hgl
    have h10 : σ 10 s = (pm_gq S).length := h.2.2.2.1.1.2.2.2.2.2.2.2.1
    have h' := rf_R_to hs h hT
    have hcons : (pm_gq S).getD 0 0 :: pm_gq (rf_dr 1 S) = pm_gq S := by
      show (pm_gq S).getD 0 0 :: (pm_gq S).drop 1 = pm_gq S
      cases hq : pm_gq S with
      | nil => rw [hq] at hgl; exact absurd hgl (Nat.lt_irrefl _)
      | cons x y => rfl
    have hd1 : (pm_gq (rf_dr 1 S)).length = (pm_gq S).length - 1 := List.length_drop
    obtain ⟨z1, z2⟩ := ih m (a + 1) ((pm_gq S).getD 0 0) (ll_to s σ) (rf_dr 1 S) h' (by omega) (by omega) (fun i hi => by rw [hcons]; exact hlt (i + 1) (by omega)) (by rw [hcons]; exact hge)
    constructor
    · rw [show ll_tmL s (m + 1) a b σ = ll_tmL s m (a + 1) (σ 11 (s * 32 + σ 9 s)) (ll_to s σ) from if_pos hb, hh, z1]
      show (a + 1 + k, ll_skL s k (ll_to s σ)) = (a + (k + 1), ll_skL s k (ll_to s σ))
      rw [show a + 1 + k = a + (k + 1) by omega]
    · intro _
      refine ⟨by omega, ?_⟩
      rw [hh]
      exact z2
/-- fire -/
theorem rf_R_fire {w : Nat} {σ : ll_St} {s : Nat} {S T : pm_S} (hs : s < 2) (h : rf_R w σ s S T) : ∃ S' : pm_S, rf_R w (ll_gb s (ll_set σ 7 s 0)) s S' T ∧ (∀ t, ll_gb s (ll_set σ 7 s 0) 12 t = σ 12 t) ∧ pm_qv S' T = pm_qv S T ∧ pm_qv T S' = pm_qv T S := by
  have h0 : rf_R w (ll_set σ 7 s 0) s (rf_setak S 0) T := by
    obtain ⟨a, b0, c, ⟨d1, d2⟩, ⟨e1, e2⟩, ⟨f1, f2⟩, g1, g2⟩ := h
    have on1 : rf_on s σ (ll_set σ 7 s 0) := rf_on.rf.sc (by decide) (by decide)
    exact ⟨on1.w.trans a, b0, ll_ok_set' c (by decide) (fun _ _ => by decide), ⟨rf_set7 d1 0, d2.on e2.2.2 on1 (by omega)⟩, ⟨e1, e2⟩, ⟨f1, f2⟩, g1, g2⟩
  obtain ⟨r1, r2⟩ := rf_R_gb hs h0
  exact ⟨_, r1, fun t => (r2 t).trans (ll_c _ (by decide)), rfl, rfl⟩
/-! nothing given yet -/
def pm_0 : pm_S := (0, [], 0, 0, [], [])
theorem pm_0_J (w : Nat) : pm_J w pm_0 pm_0 := ⟨⟨Nat.le_refl _, Nat.zero_le _⟩, fun f hf => absurd hf List.not_mem_nil, List.Pairwise.nil, fun f hf => absurd hf List.not_mem_nil, List.Pairwise.nil, Nat.le_refl _⟩
theorem rf_R_zero {w : Nat} {τ : ll_St} (ew : τ 0 0 = w) (hw : 1 ≤ w ∧ w ≤ 4) (hok : ll_ok τ) (hz : ∀ s, s < 2 → τ 4 s = 0 ∧ τ 2 s = 0 ∧ τ 5 s = 0 ∧ τ 6 s = 0 ∧ τ 7 s = 0 ∧ τ 8 s = 0 ∧ τ 10 s = 0 ∧ τ 13 s = 0) : rf_R w τ 0 pm_0 pm_0 := by
  have hP : ∀ s, s < 2 → rf_P τ s pm_0 (pm_K w pm_0) 0 := by
    intro s hs
    obtain ⟨z4, z2, z5, z6, z7, z8, z10, z13⟩ := hz s hs
    exact ⟨z4, z2, fun i hi => absurd hi (Nat.not_lt_zero _), by rw [z5]; exact (Nat.min_zero w).symm, z6, z7, z8, z10, fun i hi => absurd hi (Nat.not_lt_zero _), z13, fun i hi => absurd hi (Nat.not_lt_zero _)⟩
  have hs0 : rf_s pm_0 := ⟨fun f hf => absurd hf List.not_mem_nil, fun b hb => absurd hb List.not_mem_nil, Nat.zero_le _⟩
  exact ⟨ew, hw, hok, ⟨hP 0 (by decide), hP 1 (by decide)⟩, ⟨hs0, hs0⟩, ⟨pm_0_J w, pm_0_J w⟩, Nat.zero_le _, Nat.zero_le _⟩
theorem ll_ne (σ : ll_St) {k j x a i : Nat} (h : ¬ (a = k ∧ i = j)) : ll_set σ k j x a i = σ a i := if_neg h
theorem rf_rs1 (s k i : Nat) (σ : ll_St) : ll_rs1 s σ k i = if i = s ∧ (k = 1 ∨ k = 2 ∨ k = 4 ∨ k = 5 ∨ k = 6 ∨ k = 7 ∨ k = 8 ∨ k = 9 ∨ k = 10 ∨ k = 12 ∨ k = 13) then 0 else σ k i := by
  by_cases h : i = s ∧ (k = 1 ∨ k = 2 ∨ k = 4 ∨ k = 5 ∨ k = 6 ∨ k = 7 ∨ k = 8 ∨ k = 9 ∨ k = 10 ∨ k = 12 ∨ k = 13)
  · rw [if_pos h]
    obtain ⟨rfl, h⟩ := h
    rcases h with rfl | rfl | rfl | rfl | rfl | rfl | rfl | rfl | rfl | rfl | rfl <;> simp [ll_rs1, ll_set]
  · rw [if_neg h]
    have n : ∀ c, (c = 1 ∨ c = 2 ∨ c = 4 ∨ c = 5 ∨ c = 6 ∨ c = 7 ∨ c = 8 ∨ c = 9 ∨ c = 10 ∨ c = 12 ∨ c = 13) → ¬ (k = c ∧ i = s) := fun c hc q => h ⟨q.2, by rw [q.1]; exact hc⟩
    unfold ll_rs1
    rw [ll_ne _ (n 13 (by decide)), ll_ne _ (n 12 (by decide)), ll_ne _ (n 10 (by decide)), ll_ne _ (n 9 (by decide)), ll_ne _ (n 8 (by decide)), ll_ne _ (n 7 (by decide)), ll_ne _ (n 6 (by decide)), ll_ne _ (n 5 (by decide)), ll_ne _ (n 4 (by decide)), ll_ne _ (n 2 (by decide)), ll_ne _ (n 1 (by decide))]
theorem rf_rs (k i : Nat) (σ : ll_St) : ll_rs1 1 (ll_rs1 0 σ) k i = if i < 2 ∧ (k = 1 ∨ k = 2 ∨ k = 4 ∨ k = 5 ∨ k = 6 ∨ k = 7 ∨ k = 8 ∨ k = 9 ∨ k = 10 ∨ k = 12 ∨ k = 13) then 0 else σ k i := by
  rw [rf_rs1, rf_rs1]
  by_cases hk : k = 1 ∨ k = 2 ∨ k = 4 ∨ k = 5 ∨ k = 6 ∨ k = 7 ∨ k = 8 ∨ k = 9 ∨ k = 10 ∨ k = 12 ∨ k = 13
  · by_cases h1 : i = 1
    · rw [if_pos ⟨h1, hk⟩, if_pos ⟨by omega, hk⟩]
    · rw [if_neg (fun q => h1 q.1)]
      by_cases h0 : i = 0
      · rw [if_pos ⟨h0, hk⟩, if_pos ⟨by omega, hk⟩]
      · rw [if_neg (fun q => h0 q.1), if_neg (fun q => by omega)]
  · rw [if_neg (fun q => hk q.2), if_neg (fun q => hk q.2), if_neg (fun q => hk q.2)]
theorem rf_bd (k : Nat) : 0 < ll_bd k := by
  unfold ll_bd
  split <;> omega
theorem rf_R_reset {w : Nat} {σ : ll_St} {s : Nat} {S T : pm_S} (h : rf_R w σ s S T) : rf_R w (ll_rs1 1 (ll_rs1 0 σ)) 0 pm_0 pm_0 ∧ ∀ t, ll_rs1 1 (ll_rs1 0 σ) 12 t = if t < 2 then 0 else σ 12 t := by
  obtain ⟨a, b0, c, -⟩ := h
  constructor
  · refine rf_R_zero ?_ b0 ⟨fun k i h1 h2 => ?_, ?_, fun i => ?_⟩ (fun s hs => ?_)
    · rw [rf_rs, if_neg (by omega)]
      exact a
    · rw [rf_rs]
      split
      · exact rf_bd k
      · exact c.1 k i h1 h2
    · rw [rf_rs, if_neg (by omega)]
      exact c.2.1
    · rw [rf_rs, rf_rs]
      by_cases hi : i < 2
      · rw [if_pos ⟨hi, by decide⟩]
        exact Nat.zero_le _
      · rw [if_neg (fun q => hi q.1), if_neg (fun q => hi q.1)]
        exact c.2.2 i
    · have z : ∀ k, (k = 1 ∨ k = 2 ∨ k = 4 ∨ k = 5 ∨ k = 6 ∨ k = 7 ∨ k = 8 ∨ k = 9 ∨ k = 10 ∨ k = 12 ∨ k = 13) → ll_rs1 1 (ll_rs1 0 σ) k s = 0 := fun k hk => by
        rw [rf_rs, if_pos ⟨hs, hk⟩]
      exact ⟨z 4 (by decide), z 2 (by decide), z 5 (by decide), z 6 (by decide), z 7 (by decide), z 8 (by decide), z 10 (by decide), z 13 (by decide)⟩
  · intro t
    rw [rf_rs]
    by_cases ht : t < 2
    · rw [if_pos ⟨ht, by decide⟩, if_pos ht]
    · rw [if_neg (fun q => ht q.1), if_neg ht]
/-- the state behind the constructor -/
def ll_s0 (w : Nat) : ll_St := fun k _ => if k = 0 then w else 0
theorem rf_R_start {w : Nat} (hw : 1 ≤ w ∧ w ≤ 4) : rf_R w (ll_s0 w) 0 pm_0 pm_0 := by
  refine rf_R_zero rfl hw ⟨fun k i h1 h2 => ?_, hw.1, fun i => Nat.le_refl _⟩ (fun s hs => ⟨rfl, rfl, rfl, rfl, rfl, rfl, rfl, rfl⟩)
  unfold ll_s0
  split
  · rename_i hk
    rw [hk]
    show w < 5
    omega
  · exact rf_bd k
end
section
/-! LossyLinkModel's queues, and both sides together -/
def jt_rq (μ : ll_St) (t : Nat) (q : List Nat) : Prop := μ 2 t = q.length ∧ ∀ i, i < q.length → μ 0 (t * 30 + i) = q.getD i 0 % 256 ∧ μ 1 (t * 30 + i) = q.getD i 0 / 256
def jt_L (w : Nat) (σ μ : ll_St) (s : Nat) (S T : pm_S) : Prop := rf_R w σ s S T ∧ (jt_rq μ (1 - s) (pm_qv S T) ∧ jt_rq μ s (pm_qv T S)) ∧ mm_ok μ ∧ ∀ t, μ 3 t = σ 12 t
theorem jt_L.sym {w : Nat} {σ μ : ll_St} {s : Nat} {S T : pm_S} (hs : s < 2) (h : jt_L w σ μ s S T) : jt_L w σ μ (1 - s) T S := by
  obtain ⟨h1, ⟨h2, h3⟩, h4, h5⟩ := h
  refine ⟨h1.sym hs, ⟨?_, h2⟩, h4, h5⟩
  rw [show 1 - (1 - s) = s by omega]
  exact h3
def jt_R (σ μ : ll_St) : Prop := ∃ (w : Nat) (S T : pm_S), jt_L w σ μ 0 S T
theorem jt_of {w : Nat} {σ μ : ll_St} {s : Nat} {S T : pm_S} (hs : s < 2) (h : jt_L w σ μ s S T) : jt_R σ μ := by
  rcases (show s = 0 ∨ s = 1 by omega) with rfl | rfl
  · exact ⟨w, S, T, h⟩
  · exact ⟨w, T, S, h.sym (by decide)⟩
theorem jt_at {σ μ : ll_St} (h : jt_R σ μ) {s : Nat} (hs : s < 2) : ∃ (w : Nat) (S T : pm_S), jt_L w σ μ s S T := by
  obtain ⟨w, S, T, h⟩ := h
  rcases (show s = 0 ∨ s = 1 by omega) with rfl | rfl
  · exact ⟨w, S, T, h⟩
  · exact ⟨w, T, S, h.sym (by decide)⟩
/-- the same queues: the other side may change as it likes -/
theorem jt_keep {w : Nat} {σ σ' μ : ll_St} {s : Nat} {S T S' T' : pm_S} (h : jt_L w σ μ s S T) (h' : rf_R w σ' s S' T') (hf : ∀ t, σ' 12 t = σ 12 t) (q1 : pm_qv S' T' = pm_qv S T) (q2 : pm_qv T' S' = pm_qv T S) : jt_L w σ' μ s S' T' := by
  obtain ⟨h1, ⟨h2, h3⟩, h4, h5⟩ := h
  exact ⟨h', ⟨by rw [q1]; exact h2, by rw [q2]; exact h3⟩, h4, fun t => (h5 t).trans (hf t).symm⟩
theorem jt_stl {w : Nat} {σ μ : ll_St} {s : Nat} {S T : pm_S} (hs : s < 2) (h : jt_L w σ μ s S T) : ∃ S' T' : pm_S, jt_L w (ll_stl 200 σ) μ s S' T' ∧ pm_sq S' = [] ∧ pm_sq T' = [] := by
  obtain ⟨S', T', r1, r2, z1, z2, q1, q2⟩ := rf_R_settle hs h.1
  exact ⟨S', T', jt_keep h r1 r2 q1 q2, z1, z2⟩
/-- what has come is what the plain queue has -/
theorem jt_q {w : Nat} {σ μ : ll_St} {s : Nat} {S T : pm_S} (h : jt_L w σ μ s S T) (hT : pm_sq T = []) : σ 10 s = μ 2 s ∧ μ 2 s ≤ 30 ∧ (pm_gq S).length = μ 2 s ∧ (∀ i, i < μ 2 s → ll_ba s i σ = (pm_gq S).getD i 0) ∧ ∀ i, i < μ 2 s → ll_ba s i σ % 256 = μ 0 (s * 30 + i) ∧ ll_ba s i σ / 256 = μ 1 (s * 30 + i) := by
  obtain ⟨h1, ⟨h2, h3⟩, h4, h5⟩ := h
  rw [rf_qv0 hT] at h3
  have h10 : σ 10 s = (pm_gq S).length := h1.2.2.2.1.1.2.2.2.2.2.2.2.1
  have h11 := h1.2.2.2.1.1.2.2.2.2.2.2.2.2.1
  have hb : ∀ i, i < μ 2 s → ll_ba s i σ = (pm_gq S).getD i 0 := fun i hi => by
    rw [h3.1] at hi
    exact h11 i hi
  refine ⟨by rw [h10, h3.1], h4.2 s, h3.1.symm, hb, fun i hi => ?_⟩
  rw [hb i hi]
  rw [h3.1] at hi
  have := h3.2 i hi
  exact ⟨this.1.symm, this.2.symm⟩
/-! LossyLinkModel's off -/
theorem jt_offS {s n i a x : Nat} (σ : ll_St) (ha : a = 0 ∨ a = 1) : ll_set (ll_set σ 0 (s * 30 + i) (σ 0 (s * 30 + i + n))) 1 (s * 30 + i) (σ 1 (s * 30 + i + n)) a x = if x = s * 30 + i then σ a (s * 30 + i + n) else σ a x := by
  by_cases hx : x = s * 30 + i
  · rw [if_pos hx, hx]
    rcases ha with rfl | rfl
    · rw [ll_c _ (by decide), ll_e]
    · rw [ll_e]
  · rw [if_neg hx]
    rcases ha with rfl | rfl
    · rw [ll_c _ (by decide), ll_n _ hx]
    · rw [ll_n _ hx, ll_c _ (by decide)]
theorem jt_offL {s n a : Nat} (ha : a = 0 ∨ a = 1) : ∀ (k i x : Nat) (σ : ll_St), mm_offL s n k i σ a x = if s * 30 + i ≤ x ∧ x < s * 30 + i + k then σ a (x + n) else σ a x
  | 0, i, x, σ => by
    show σ a x = _
    rw [if_neg (by omega)]
  | k + 1, i, x, σ => by
    show mm_offL s n k (i + 1) _ a x = _
    rw [jt_offL ha k (i + 1) x, jt_offS σ ha, jt_offS σ ha]
    by_cases h1 : s * 30 + (i + 1) ≤ x ∧ x < s * 30 + (i + 1) + k
    · rw [if_pos h1, if_neg (by omega), if_pos (by omega)]
    · rw [if_neg h1]
      by_cases h2 : x = s * 30 + i
      · rw [if_pos h2, if_pos (by omega), h2]
      · rw [if_neg h2, if_neg (by omega)]
theorem jt_off_rq {μ : ll_St} {s n : Nat} {q : List Nat} (hq : jt_rq μ s q) (hn : n ≤ q.length) (hl : q.length ≤ 30) : jt_rq (mm_off s n μ) s (q.drop n) := by
  obtain ⟨h1, h2⟩ := hq
  constructor
  · unfold mm_off
    rw [ll_c _ (by decide), ll_e, mm_offL_o (by decide) (by decide), List.length_drop, h1]
  · intro i hi
    rw [List.length_drop] at hi
    have key : ∀ a, (a = 0 ∨ a = 1) → mm_off s n μ a (s * 30 + i) = μ a (s * 30 + (n + i)) := fun a ha => by
      unfold mm_off
      rw [ll_c _ (by omega), ll_c _ (by omega), jt_offL ha, if_pos (by omega)]
      congr 1
      omega
    rw [key 0 (Or.inl rfl), key 1 (Or.inr rfl), pm_getD_drop]
    exact h2 (n + i) (by omega)
theorem jt_off_rq' {μ : ll_St} {s n : Nat} {q : List Nat} (hs : s < 2) (hq : jt_rq μ (1 - s) q) (hl : q.length ≤ 30) : jt_rq (mm_off s n μ) (1 - s) q := by
  obtain ⟨h1, h2⟩ := hq
  constructor
  · unfold mm_off
    rw [ll_c _ (by decide), ll_n _ (by omega), mm_offL_o (by decide) (by decide), h1]
  · intro i hi
    have key : ∀ a, (a = 0 ∨ a = 1) → mm_off s n μ a ((1 - s) * 30 + i) = μ a ((1 - s) * 30 + i) := fun a ha => by
      unfold mm_off
      rw [ll_c _ (by omega), ll_c _ (by omega), jt_offL ha, if_neg (by
        rcases (show s = 0 ∨ s = 1 by omega) with rfl | rfl <;> omega)]
    rw [key 0 (Or.inl rfl), key 1 (Or.inr rfl)]
    exact h2 i hi
theorem jt_off_ok {μ : ll_St} {s n : Nat} (h : mm_ok μ) : mm_ok (mm_off s n μ) := by
  refine ⟨fun i => ?_, fun i => ?_⟩
  · unfold mm_off
    rw [ll_c _ (by decide), ll_c _ (by decide)]
    exact mm_offL_1 _ _ h.1 i
  · unfold mm_off
    rw [ll_c _ (by decide)]
    by_cases hi : i = s
    · rw [hi, ll_e, mm_offL_o (by decide) (by decide)]
      have := h.2 s
      omega
    · rw [ll_n _ hi, mm_offL_o (by decide) (by decide)]
      exact h.2 i
theorem jt_off3 (μ : ll_St) (s n t : Nat) : mm_off s n μ 3 t = if t = s then μ 3 s + n else μ 3 t := by
  unfold mm_off
  by_cases h : t = s
  · rw [if_pos h, h, ll_e, mm_offL_o (by decide) (by decide)]
  · rw [if_neg h, ll_n _ h, ll_c _ (by decide), mm_offL_o (by decide) (by decide)]
/-- n bytes are taken on both sides -/
theorem jt_sk {w : Nat} {σ μ : ll_St} {s n : Nat} {S T : pm_S} (hs : s < 2) (h : jt_L w σ μ s S T) (hT : pm_sq T = []) (hn : n ≤ μ 2 s) : jt_L w (ll_skL s n σ) (mm_off s n μ) s (rf_dr n S) T := by
  obtain ⟨h1, ⟨h2, h3⟩, h4, h5⟩ := h
  have r := rf_R_sk hs hT n h1
  have g1 := h1.2.2.2.2.2.2.1
  have g2 := h1.2.2.2.2.2.2.2
  rw [rf_qv0 hT] at h3 g2
  refine ⟨r, ⟨jt_off_rq' hs h2 g1, ?_⟩, jt_off_ok h4, fun t => ?_⟩
  · rw [rf_qv0 hT]
    exact jt_off_rq h3 (by rw [← h3.1]; exact hn) g2
  · rw [jt_off3, rf_sk12, h5 s, h5 t]
/-! give -/
theorem jt_gv {w : Nat} {σ μ : ll_St} {s b d : Nat} {S T : pm_S} (hs : s < 2) (h : jt_L w σ μ s S T) (hb : b < 256) (hd : d < 2) (hf : μ 2 (1 - s) < 30) : ∃ S' : pm_S, jt_L w (ll_gv s (if d = 0 then b else b ||| 256) σ) (mm_gv s b d μ) s S' T := by
  obtain ⟨h1, ⟨h2, h3⟩, h4, h5⟩ := h
  obtain ⟨e, he⟩ : ∃ e, e = (if d = 0 then b else b ||| 256) := ⟨_, rfl⟩
  have hor : b ||| 256 = b + 256 := rf_or 8 1 (show b < 2 ^ 8 from hb)
  have e1 : e % 256 = b ∧ e / 256 = d ∧ e < 512 := by
    rw [he]
    rcases (show d = 0 ∨ d = 1 by omega) with rfl | rfl
    · rw [if_pos rfl]
      omega
    · rw [if_neg (by decide), hor]
      omega
  rw [← he]
  obtain ⟨S', r1, r2, q1, q2⟩ := rf_R_give hs h1 e1.2.2 (by rw [← h2.1]; exact hf)
  have g2 := h1.2.2.2.2.2.2.2
  refine ⟨S', r1, ⟨?_, ?_⟩, ⟨fun i => ?_, fun i => ?_⟩, fun t => ?_⟩
  · rw [q1]
    obtain ⟨k1, k2⟩ := h2
    constructor
    · unfold mm_gv
      rw [ll_e, k1, List.length_append]
      rfl
    · intro i hi
      rw [List.length_append] at hi
      have hi : i < (pm_qv S T).length + 1 := hi
      unfold mm_gv
      rw [ll_c (a := 0) (k := 2) _ (by decide), ll_c (a := 0) (k := 1) _ (by decide), ll_c (a := 1) (k := 2) _ (by decide)]
      by_cases hc : i = (pm_qv S T).length
      · rw [hc, k1, ll_e, ll_e]
        have : (pm_qv S T ++ [e]).getD (pm_qv S T).length 0 = e := by simp [List.getD_eq_getElem?_getD]
        rw [this]
        exact ⟨e1.1.symm, e1.2.1.symm⟩
      · rw [ll_n _ (by rw [k1]; omega), ll_n _ (by rw [k1]; omega), ll_c _ (by decide)]
        have : (pm_qv S T ++ [e]).getD i 0 = (pm_qv S T).getD i 0 := by
          rw [List.getD_eq_getElem?_getD, List.getD_eq_getElem?_getD, List.getElem?_append_left (by omega)]
        rw [this]
        exact k2 i (by omega)
  · rw [q2]
    obtain ⟨k1, k2⟩ := h3
    constructor
    · unfold mm_gv
      rw [ll_n _ (by omega), ll_c _ (by decide), ll_c _ (by decide), k1]
    · intro i hi
      have hne : s * 30 + i ≠ (1 - s) * 30 + μ 2 (1 - s) := by
        rcases (show s = 0 ∨ s = 1 by omega) with rfl | rfl
        · omega
        · have : μ 2 (1 - 1) < 30 := hf
          omega
      unfold mm_gv
      rw [ll_c (a := 0) (k := 2) _ (by decide), ll_c (a := 0) (k := 1) _ (by decide), ll_c (a := 1) (k := 2) _ (by decide), ll_n _ hne, ll_n _ hne, ll_c _ (by decide)]
      exact k2 i hi
  · unfold mm_gv
    rw [ll_c _ (by decide)]
    by_cases hi : i = (1 - s) * 30 + μ 2 (1 - s)
    · rw [hi, ll_e]
      omega
    · rw [ll_n _ hi, ll_c _ (by decide)]
      exact h4.1 i
  · unfold mm_gv
    by_cases hi : i = 1 - s
    · rw [hi, ll_e]
      omega
    · rw [ll_n _ hi, ll_c _ (by decide), ll_c _ (by decide)]
      exact h4.2 i
  · unfold mm_gv
    rw [ll_c _ (by decide), ll_c _ (by decide), ll_c _ (by decide), r2 t]
    exact h5 t
/-! reset, start -/
theorem jt_rs3 (μ : ll_St) (t : Nat) : mm_rs μ 3 t = if t < 2 then 0 else μ 3 t := by
  unfold mm_rs
  by_cases h1 : t = 1
  · rw [h1, ll_e, if_pos (by decide)]
  · rw [ll_n _ h1]
    by_cases h0 : t = 0
    · rw [h0, ll_e, if_pos (by decide)]
    · rw [ll_n _ h0, ll_c _ (by decide), ll_c _ (by decide), if_neg (by omega)]
theorem jt_rs2 (μ : ll_St) (t : Nat) : mm_rs μ 2 t = if t < 2 then 0 else μ 2 t := by
  unfold mm_rs
  rw [ll_c _ (by decide), ll_c _ (by decide)]
  by_cases h1 : t = 1
  · rw [h1, ll_e, if_pos (by decide)]
  · rw [ll_n _ h1]
    by_cases h0 : t = 0
    · rw [h0, ll_e, if_pos (by decide)]
    · rw [ll_n _ h0, if_neg (by omega)]
theorem jt_rq0 {μ : ll_St} {t : Nat} (h : μ 2 t = 0) : jt_rq μ t [] := ⟨h, fun i hi => absurd hi (Nat.not_lt_zero _)⟩
theorem jt_reset {σ μ : ll_St} (h : jt_R σ μ) : jt_R (ll_rs1 1 (ll_rs1 0 σ)) (mm_rs μ) := by
  obtain ⟨w, S, T, h1, -, h4, h5⟩ := h
  obtain ⟨r1, r2⟩ := rf_R_reset h1
  refine ⟨w, pm_0, pm_0, r1, ⟨jt_rq0 ?_, jt_rq0 ?_⟩, ⟨fun i => ?_, fun i => ?_⟩, fun t => ?_⟩
  · rw [jt_rs2, if_pos (by decide)]
  · rw [jt_rs2, if_pos (by decide)]
  · unfold mm_rs
    rw [ll_c _ (by decide), ll_c _ (by decide), ll_c _ (by decide), ll_c _ (by decide)]
    exact h4.1 i
  · rw [jt_rs2]
    split
    · exact Nat.zero_le _
    · exact h4.2 i
  · rw [jt_rs3, r2 t, h5 t]
def mm_s0 : ll_St := fun _ _ => 0
theorem jt_start {w : Nat} (hw : 1 ≤ w ∧ w ≤ 4) : jt_R (ll_s0 w) mm_s0 :=
  ⟨w, pm_0, pm_0, rf_R_start hw, ⟨jt_rq0 rfl, jt_rq0 rfl⟩, ⟨fun _ => Nat.zero_le _, fun _ => Nat.zero_le _⟩, fun _ => rfl⟩
/-! counting marks, adding bytes -/
theorem jt_mk {s : Nat} {σ μ : ll_St} : ∀ (n i a : Nat), (∀ j, i ≤ j → j < i + n → ll_ba s j σ / 256 = μ 1 (s * 30 + j) ∧ μ 1 (s * 30 + j) ≤ 1) → ll_mkL s σ n i a = mm_mkL s μ n i a
  | 0, _, _, _ => rfl
  | n + 1, i, a, h => by
    show ll_mkL s σ n (i + 1) (a + ll_ba s i σ / 256) = mm_mkL s μ n (i + 1) (if μ 1 (s * 30 + i) = 0 then a else a + 1)
    have h0 := h i (Nat.le_refl _) (by omega)
    have e : a + ll_ba s i σ / 256 = (if μ 1 (s * 30 + i) = 0 then a else a + 1) := by
      rw [h0.1]
      split <;> omega
    rw [e]
    exact jt_mk n (i + 1) _ (fun j h1 h2 => h j (by omega) (by omega))
theorem jt_mk_le {s : Nat} {σ : ll_St} : ∀ (n i a : Nat), (∀ j, i ≤ j → j < i + n → ll_ba s j σ / 256 ≤ 1) → a ≤ ll_mkL s σ n i a ∧ ll_mkL s σ n i a ≤ a + n
  | 0, _, _, _ => ⟨Nat.le_refl _, Nat.le_refl _⟩
  | n + 1, i, a, h => by
    show a ≤ ll_mkL s σ n (i + 1) (a + ll_ba s i σ / 256) ∧ ll_mkL s σ n (i + 1) (a + ll_ba s i σ / 256) ≤ a + (n + 1)
    have h0 := h i (Nat.le_refl _) (by omega)
    have := jt_mk_le n (i + 1) (a + ll_ba s i σ / 256) (fun j h1 h2 => h j (by omega) (by omega))
    omega
theorem jt_mk_0 {s : Nat} {σ : ll_St} : ∀ (n i a : Nat), (∀ j, i ≤ j → j < i + n → ll_ba s j σ / 256 = 0) → ll_mkL s σ n i a = a
  | 0, _, _, _ => rfl
  | n + 1, i, a, h => by
    show ll_mkL s σ n (i + 1) (a + ll_ba s i σ / 256) = a
    rw [h i (Nat.le_refl _) (by omega), Nat.add_zero]
    exact jt_mk_0 n (i + 1) a (fun j h1 h2 => h j (by omega) (by omega))
theorem jt_mk_1 {s : Nat} {σ : ll_St} : ∀ (n i a : Nat), (∀ j, i ≤ j → j < i + n → ll_ba s j σ / 256 ≤ 1) → ∀ k, i ≤ k → k < i + n → 1 ≤ ll_ba s k σ / 256 → a < ll_mkL s σ n i a
  | 0, i, a, _, k, h1, h2, _ => by omega
  | n + 1, i, a, h, k, h1, h2, h3 => by
    show a < ll_mkL s σ n (i + 1) (a + ll_ba s i σ / 256)
    by_cases hk : k = i
    · have := (jt_mk_le n (i + 1) (a + ll_ba s i σ / 256) (fun j h1 h2 => h j (by omega) (by omega))).1
      rw [hk] at h3
      omega
    · have := jt_mk_1 n (i + 1) (a + ll_ba s i σ / 256) (fun j h1 h2 => h j (by omega) (by omega)) k (by omega) (by omega) h3
      omega
theorem jt_sm {s : Nat} {σ μ : ll_St} : ∀ (n i a : Nat), (∀ j, i ≤ j → j < i + n → ll_ba s j σ % 256 = μ 0 (s * 30 + j)) → ll_smL s σ n i a = mm_smL s μ n i a
  | 0, _, _, _ => rfl
  | n + 1, i, a, h => by
    show ll_smL s σ n (i + 1) (a + ll_ba s i σ % 256) = mm_smL s μ n (i + 1) (a + μ 0 (s * 30 + i))
    rw [h i (Nat.le_refl _) (by omega)]
    exact jt_sm n (i + 1) _ (fun j h1 h2 => h j (by omega) (by omega))
theorem jt_first (f : Nat → Nat) : ∀ n, (∀ i, i < n → f i = 0) ∨ ∃ k, k < n ∧ ¬ f k = 0 ∧ ∀ i, i < k → f i = 0
  | 0 => Or.inl (fun i hi => absurd hi (Nat.not_lt_zero _))
  | n + 1 => by
    rcases jt_first f n with h | ⟨k, h1, h2, h3⟩
    · by_cases h0 : f n = 0
      · left
        intro i hi
        by_cases hn : i = n
        · rw [hn]
          exact h0
        · exact h i (by omega)
      · exact Or.inr ⟨n, by omega, h0, h⟩
    · exact Or.inr ⟨k, by omega, h2, h3⟩
end
section
/-! each call on both sides: the same answer, and the sides stay together -/
theorem jt_x (x : Int32) : (x < 0 ∨ 1 < x) ∨ ∃ s : Nat, s < 2 ∧ x = nI s := by
  by_cases h0 : x < 0
  · exact Or.inl (Or.inl h0)
  · by_cases h1 : x ≤ 1
    · obtain ⟨j, hj, e⟩ := nI_of2 (x := x) (M := 1) (n := 1) (by decide) h0 h1
      exact Or.inr ⟨j, by omega, e⟩
    · exact Or.inl (Or.inr (Int32.not_le.mp h1))
theorem jt_b (x : Int32) : (x < 0 ∨ 255 < x) ∨ ∃ s : Nat, s < 256 ∧ x = nI s := by
  by_cases h0 : x < 0
  · exact Or.inl (Or.inl h0)
  · by_cases h1 : x ≤ 255
    · obtain ⟨j, hj, e⟩ := nI_of2 (x := x) (M := 255) (n := 255) (by decide) h0 h1
      exact Or.inr ⟨j, by omega, e⟩
    · exact Or.inl (Or.inr (Int32.not_le.mp h1))
theorem jt_waiting (l : Launch) {σ μ : ll_St} (h : jt_R σ μ) (x : Int32) : ∃ (σ' μ' : ll_St) (ρ : Int32), ll_Mi l yX1_waiting wsX1_waiting rmX1_waiting [.int x] σ σ' ρ ∧ mm_Mi l yX2_waiting wsX2_waiting rmX2_waiting [.int x] μ μ' ρ ∧ jt_R σ' μ' := by
  rcases jt_x x with hb | ⟨s, hs, rfl⟩
  · exact ⟨σ, μ, -1, ll_k_waiting_bad l hb, mm_k_waiting_bad l hb, h⟩
  · obtain ⟨w, S, T, hR⟩ := jt_at h hs
    obtain ⟨S', T', hR', z1, z2⟩ := jt_stl hs hR
    obtain ⟨e1, e2, -, -, e3⟩ := jt_q hR' z2
    have k := ll_k_waiting l hR.1.2.2.1 hs
    rw [e1] at k
    exact ⟨_, _, _, k, mm_k_waiting l hs, jt_of hs hR'⟩
theorem jt_done (l : Launch) {σ μ : ll_St} (h : jt_R σ μ) (x : Int32) : ∃ (σ' μ' : ll_St) (ρ : Int32), ll_Mi l yX1_done wsX1_done rmX1_done [.int x] σ σ' ρ ∧ mm_Mi l yX2_done wsX2_done rmX2_done [.int x] μ μ' ρ ∧ jt_R σ' μ' := by
  rcases jt_x x with hb | ⟨s, hs, rfl⟩
  · exact ⟨σ, μ, -1, ll_k_done_bad l hb, mm_k_done_bad l hb, h⟩
  · obtain ⟨w, S, T, hR⟩ := jt_at h hs
    have k := ll_k_done l (σ := σ) hs
    rw [← hR.2.2.2 s] at k
    exact ⟨_, _, _, k, mm_k_done l hs, h⟩
theorem jt_fire (l : Launch) {σ μ : ll_St} (h : jt_R σ μ) (x : Int32) : ∃ (σ' μ' : ll_St) (ρ : Int32), ll_Mi l yX1_fire wsX1_fire rmX1_fire [.int x] σ σ' ρ ∧ mm_Mi l yX2_fire wsX2_fire rmX2_fire [.int x] μ μ' ρ ∧ jt_R σ' μ' := by
  rcases jt_x x with hb | ⟨s, hs, rfl⟩
  · exact ⟨σ, μ, -1, ll_k_fire_bad l hb, mm_k_fire_bad l hb, h⟩
  · obtain ⟨w, S, T, hR⟩ := jt_at h hs
    obtain ⟨S', r1, r2, q1, q2⟩ := rf_R_fire hs hR.1
    exact ⟨_, _, _, ll_k_fire l hR.1.2.2.1 hs, mm_k_fire l hs, jt_of hs (jt_keep hR r1 r2 q1 q2)⟩
theorem jt_messages (l : Launch) {σ μ : ll_St} (h : jt_R σ μ) (x : Int32) : ∃ (σ' μ' : ll_St) (ρ : Int32), ll_Mi l yX1_messages wsX1_messages rmX1_messages [.int x] σ σ' ρ ∧ mm_Mi l yX2_messages wsX2_messages rmX2_messages [.int x] μ μ' ρ ∧ jt_R σ' μ' := by
  rcases jt_x x with hb | ⟨s, hs, rfl⟩
  · exact ⟨σ, μ, -1, ll_k_messages_bad l hb, mm_k_messages_bad l hb, h⟩
  · obtain ⟨w, S, T, hR⟩ := jt_at h hs
    obtain ⟨S', T', hR', z1, z2⟩ := jt_stl hs hR
    obtain ⟨e1, e2, -, -, e3⟩ := jt_q hR' z2
    have k := ll_k_messages l hR.1.2.2.1 hs (by omega)
    rw [e1, jt_mk (μ := μ) (μ 2 s) 0 0 (fun j _ h2 => ⟨(e3 j (by omega)).2, hR.2.2.1.1 _⟩)] at k
    exact ⟨_, _, _, k, mm_k_messages l hR.2.2.1 hs, jt_of hs hR'⟩
theorem jt_sum (l : Launch) {σ μ : ll_St} (h : jt_R σ μ) (x : Int32) : ∃ (σ' μ' : ll_St) (ρ : Int32), ll_Mi l yX1_sum wsX1_sum rmX1_sum [.int x] σ σ' ρ ∧ mm_Mi l yX2_sum wsX2_sum rmX2_sum [.int x] μ μ' ρ ∧ jt_R σ' μ' := by
  rcases jt_x x with hb | ⟨s, hs, rfl⟩
  · exact ⟨σ, μ, -1, ll_k_sum_bad l hb, mm_k_sum_bad l hb, h⟩
  · obtain ⟨w, S, T, hR⟩ := jt_at h hs
    obtain ⟨S', T', hR', z1, z2⟩ := jt_stl hs hR
    obtain ⟨e1, e2, -, -, e3⟩ := jt_q hR' z2
    have k := ll_k_sum l hR.1.2.2.1 hs (by omega)
    rw [e1, jt_sm (μ := μ) (μ 2 s) 0 0 (fun j _ h2 => (e3 j (by omega)).1)] at k
    exact ⟨_, _, _, k, mm_k_sum l hR.2.2.1 hs, jt_of hs hR'⟩
theorem jt_peek (l : Launch) {σ μ : ll_St} (h : jt_R σ μ) (x y : Int32) : ∃ (σ' μ' : ll_St) (ρ : Int32), ll_Mi l yX1_peek wsX1_peek rmX1_peek [.int x, .int y] σ σ' ρ ∧ mm_Mi l yX2_peek wsX2_peek rmX2_peek [.int x, .int y] μ μ' ρ ∧ jt_R σ' μ' := by
  rcases jt_x x with hb | ⟨s, hs, rfl⟩
  · exact ⟨σ, μ, -1, ll_k_peek_bad l hb, mm_k_peek_bad l hb, h⟩
  · obtain ⟨w, S, T, hR⟩ := jt_at h hs
    obtain ⟨S', T', hR', z1, z2⟩ := jt_stl hs hR
    obtain ⟨e1, e2, -, -, e3⟩ := jt_q hR' z2
    rcases pk_ix y (n := μ 2 s) (by omega) with hi | hi | ⟨j, hj, rfl⟩
    · exact ⟨_, _, _, ll_k_peek_e l hR.1.2.2.1 hs (by omega) (Or.inl hi), mm_k_peek_e l hR.2.2.1 hs (Or.inl hi), jt_of hs hR'⟩
    · exact ⟨_, _, _, ll_k_peek_e l hR.1.2.2.1 hs (by omega) (Or.inr (by rw [e1]; exact hi)), mm_k_peek_e l hR.2.2.1 hs (Or.inr hi), jt_of hs hR'⟩
    · have k := ll_k_peek_ok l hR.1.2.2.1 hs (i := j) (by omega) (by omega)
      rw [(e3 j hj).1] at k
      exact ⟨_, _, _, k, mm_k_peek_ok l hR.2.2.1 hs hj, jt_of hs hR'⟩
theorem jt_ends (l : Launch) {σ μ : ll_St} (h : jt_R σ μ) (x y : Int32) : ∃ (σ' μ' : ll_St) (ρ : Int32), ll_Mi l yX1_ends wsX1_ends rmX1_ends [.int x, .int y] σ σ' ρ ∧ mm_Mi l yX2_ends wsX2_ends rmX2_ends [.int x, .int y] μ μ' ρ ∧ jt_R σ' μ' := by
  rcases jt_x x with hb | ⟨s, hs, rfl⟩
  · exact ⟨σ, μ, nI 0, ll_k_ends_bad l hb, mm_k_ends_bad l hb, h⟩
  · obtain ⟨w, S, T, hR⟩ := jt_at h hs
    obtain ⟨S', T', hR', z1, z2⟩ := jt_stl hs hR
    obtain ⟨e1, e2, -, -, e3⟩ := jt_q hR' z2
    rcases pk_ix y (n := μ 2 s) (by omega) with hi | hi | ⟨j, hj, rfl⟩
    · exact ⟨_, _, _, ll_k_ends_e l hR.1.2.2.1 hs (by omega) (Or.inl hi), mm_k_ends_e l hR.2.2.1 hs (Or.inl hi), jt_of hs hR'⟩
    · exact ⟨_, _, _, ll_k_ends_e l hR.1.2.2.1 hs (by omega) (Or.inr (by rw [e1]; exact hi)), mm_k_ends_e l hR.2.2.1 hs (Or.inr hi), jt_of hs hR'⟩
    · have k := ll_k_ends_ok l hR.1.2.2.1 hs (i := j) (by omega) (by omega)
      have e4 := (e3 j hj).2
      have e5 := hR.2.2.1.1 (s * 30 + j)
      have e6 : (if ll_ba s j (ll_stl 200 σ) ≤ 255 then 0 else 1) = μ 1 (s * 30 + j) := by
        split <;> omega
      rw [e6] at k
      exact ⟨_, _, _, k, mm_k_ends_ok l hR.2.2.1 hs hj, jt_of hs hR'⟩
theorem jt_skip (l : Launch) {σ μ : ll_St} (h : jt_R σ μ) (x : Int32) : ∃ (σ' μ' : ll_St) (ρ : Int32), ll_Mi l yX1_skip wsX1_skip rmX1_skip [.int x] σ σ' ρ ∧ mm_Mi l yX2_skip wsX2_skip rmX2_skip [.int x] μ μ' ρ ∧ jt_R σ' μ' := by
  rcases jt_x x with hb | ⟨s, hs, rfl⟩
  · exact ⟨σ, μ, -1, ll_k_skip_bad l hb, mm_k_skip_bad l hb, h⟩
  · obtain ⟨w, S, T, hR⟩ := jt_at h hs
    obtain ⟨S', T', hR', z1, z2⟩ := jt_stl hs hR
    obtain ⟨e1, e2, -, -, e3⟩ := jt_q hR' z2
    have k := ll_k_skip l hR.1.2.2.1 hs (by omega)
    rw [e1] at k
    exact ⟨_, _, _, k, mm_k_skip l hR.2.2.1 hs, jt_of hs (jt_sk hs hR' z2 (Nat.le_refl _))⟩
theorem jt_take (l : Launch) {σ μ : ll_St} (h : jt_R σ μ) (x : Int32) : ∃ (σ' μ' : ll_St) (ρ : Int32), ll_Mi l yX1_take wsX1_take rmX1_take [.int x] σ σ' ρ ∧ mm_Mi l yX2_take wsX2_take rmX2_take [.int x] μ μ' ρ ∧ jt_R σ' μ' := by
  rcases jt_x x with hb | ⟨s, hs, rfl⟩
  · exact ⟨σ, μ, -1, ll_k_take_bad l hb, mm_k_take_bad l hb, h⟩
  · obtain ⟨w, S, T, hR⟩ := jt_at h hs
    obtain ⟨S', T', hR', z1, z2⟩ := jt_stl hs hR
    obtain ⟨e1, e2, e0, eb, e3⟩ := jt_q hR' z2
    by_cases he : μ 2 s = 0
    · exact ⟨_, _, _, ll_k_take_e l hR.1.2.2.1 hs (by omega), mm_k_take_e l hR.2.2.1 hs he, jt_of hs hR'⟩
    · have k := ll_k_take_ok l hR.1.2.2.1 hs (by omega) (by omega)
      rw [rf_R_head hR'.1 (by omega), ← eb 0 (by omega), (e3 0 (by omega)).1, Nat.add_zero] at k
      exact ⟨_, _, _, k, mm_k_take_ok l hR.2.2.1 hs he, jt_of hs (jt_sk (n := 1) hs hR' z2 (by omega))⟩
theorem jt_takeMessage (l : Launch) {σ μ : ll_St} (h : jt_R σ μ) (x : Int32) : ∃ (σ' μ' : ll_St) (ρ : Int32), ll_Mi l yX1_takeMessage wsX1_takeMessage rmX1_takeMessage [.int x] σ σ' ρ ∧ mm_Mi l yX2_takeMessage wsX2_takeMessage rmX2_takeMessage [.int x] μ μ' ρ ∧ jt_R σ' μ' := by
  rcases jt_x x with hb | ⟨s, hs, rfl⟩
  · exact ⟨σ, μ, -1, ll_k_takeMessage_bad l hb, mm_k_takeMessage_bad l hb, h⟩
  · obtain ⟨w, S, T, hR⟩ := jt_at h hs
    obtain ⟨S', T', hR', z1, z2⟩ := jt_stl hs hR
    obtain ⟨e1, e2, e0, eb, e3⟩ := jt_q hR' z2
    have hle : ∀ j, 0 ≤ j → j < 0 + (ll_stl 200 σ) 10 s → ll_ba s j (ll_stl 200 σ) / 256 ≤ 1 := fun j _ hj => by
      rw [(e3 j (by omega)).2]
      exact hR.2.2.1.1 _
    rcases jt_first (fun i => μ 1 (s * 30 + i)) (μ 2 s) with hz | ⟨k, hk, hk1, hk2⟩
    · have hz : ∀ i, i < μ 2 s → μ 1 (s * 30 + i) = 0 := hz
      have he : ll_mkL s (ll_stl 200 σ) ((ll_stl 200 σ) 10 s) 0 0 = 0 := jt_mk_0 _ 0 0 (fun j _ hj => by
        rw [(e3 j (by omega)).2]
        exact hz j (by omega))
      exact ⟨_, _, _, ll_k_takeMessage_e l hR.1.2.2.1 hs (by omega) he, mm_k_takeMessage_e l hR.2.2.1 hs hz, jt_of hs hR'⟩
    · have hk1 : ¬ μ 1 (s * 30 + k) = 0 := hk1
      have hk2 : ∀ i, i < k → μ 1 (s * 30 + i) = 0 := hk2
      have hge : 1 ≤ ll_ba s k (ll_stl 200 σ) / 256 := by
        rw [(e3 k hk).2]
        omega
      have hm1 := jt_mk_1 ((ll_stl 200 σ) 10 s) 0 0 hle k (Nat.zero_le _) (by omega) hge
      have hm2 := (jt_mk_le ((ll_stl 200 σ) 10 s) 0 0 hle).2
      have hgl : 0 < (pm_gq S').length := by omega
      have hh := rf_R_head hR'.1 hgl
      have hcons : (pm_gq S').getD 0 0 :: pm_gq (rf_dr 1 S') = pm_gq S' := by
        show (pm_gq S').getD 0 0 :: (pm_gq S').drop 1 = pm_gq S'
        cases hq : pm_gq S' with
        | nil => rw [hq] at hgl; exact absurd hgl (Nat.lt_irrefl _)
        | cons a b => rfl
      have hd1 : (pm_gq (rf_dr 1 S')).length = (pm_gq S').length - 1 := List.length_drop
      obtain ⟨t1, t2⟩ := rf_tm hs z2 k 30 1 ((pm_gq S').getD 0 0) (ll_to s (ll_stl 200 σ)) (rf_dr 1 S') (rf_R_to hs hR'.1 z2) (by omega) (by omega) (fun i hi => by
        rw [hcons, ← eb i (by omega)]
        have := (e3 i (by omega)).2
        rw [hk2 i hi] at this
        omega) (by
        rw [hcons, ← eb k hk]
        omega)
      have kk := ll_k_takeMessage_ok l hR.1.2.2.1 hs (by omega) (by omega) (by omega) (by omega) (by rw [hh]; exact t2)
      rw [hh, t1, Nat.add_comm 1 k] at kk
      exact ⟨_, _, _, kk, mm_k_takeMessage_ok l hR.2.2.1 hs hk hk1 hk2, jt_of hs (jt_sk (n := k + 1) hs hR' z2 hk)⟩
theorem jt_carry (l : Launch) {σ μ : ll_St} (h : jt_R σ μ) (x fl bi : Int32) : ∃ (σ' μ' : ll_St) (ρ : Int32), ll_Mi l yX1_carry wsX1_carry rmX1_carry [.int x, .int fl, .int bi] σ σ' ρ ∧ mm_Mi l yX2_carry wsX2_carry rmX2_carry [.int x, .int fl, .int bi] μ μ' ρ ∧ jt_R σ' μ' := by
  rcases jt_x x with hb | ⟨s, hs, rfl⟩
  · exact ⟨σ, μ, -1, ll_k_carry_bad l hb, mm_k_carry_bad l hb, h⟩
  · obtain ⟨w, S, T, hR⟩ := jt_at h hs
    have hok := hR.1.2.2.1
    have h13 : σ 13 s = (pm_ln S).length := hR.1.2.2.2.1.1.2.2.2.2.2.2.2.2.2.1
    by_cases h0 : σ 13 s = 0
    · exact ⟨_, _, _, ll_k_carry_0 l hs h0, mm_k_carry l hs, h⟩
    · obtain ⟨f, rest, hl⟩ : ∃ f rest, pm_ln S = f :: rest := by
        cases hq : pm_ln S with
        | nil => rw [hq] at h13; exact absurd h13 h0
        | cons a b => exact ⟨a, b, rfl⟩
      by_cases f1 : fl = nI 1
      · subst f1
        obtain ⟨r1, r2⟩ := rf_R_tf hs hR.1 hl
        exact ⟨_, _, _, ll_k_carry_1 l hok hs h0, mm_k_carry l hs, jt_of hs (jt_keep hR r1 r2 rfl rfl)⟩
      · by_cases f2 : fl = nI 2
        · subst f2
          have hj := ll_bit_lt bi
          have hx : σ 14 (s * 16) ^^^ (1 * 2 ^ ll_bit bi) < 33554432 := by
            refine Nat.xor_lt_two_pow (n := 25) (hok.1 14 (s * 16) (by decide) (by decide)) ?_
            rw [Nat.one_mul]
            exact Nat.pow_lt_pow_right (by decide) hj
          obtain ⟨r1, r2⟩ := rf_R_flip hs hj hR.1 hl (ll_ok_set' hok (by decide) (fun _ _ => hx))
          exact ⟨_, _, _, ll_k_carry_2 l hok hs h0, mm_k_carry l hs, jt_of hs (jt_keep hR r1 r2 rfl rfl)⟩
        · by_cases f3 : fl = nI 3
          · subst f3
            obtain ⟨r1, r2⟩ := rf_R_dup hs hR.1 hl
            obtain ⟨-, q1, q2⟩ := pm_dup_J hR.1.2.1.2 hl hR.1.2.2.2.2.2.1.1 hR.1.2.2.2.2.2.1.2
            exact ⟨_, _, _, ll_k_carry_3 l hok hs h0, mm_k_carry l hs, jt_of hs (jt_keep hR r1 r2 q1 q2)⟩
          · obtain ⟨r1, r2⟩ := rf_R_co hs hR.1 hl
            obtain ⟨-, q1, q2⟩ := pm_carry_J hR.1.2.1.2 hl hR.1.2.2.2.2.2.1.1 hR.1.2.2.2.2.2.1.2
            exact ⟨_, _, _, ll_k_carry_4 l hok hs h0 (fun q => f1 (q.trans (by decide))) (fun q => f2 (q.trans (by decide))) (fun q => f3 (q.trans (by decide))), mm_k_carry l hs, jt_of hs (jt_keep hR r1 r2 q1 q2)⟩
theorem jt_give (l : Launch) {σ μ : ll_St} (h : jt_R σ μ) (x y : Int32) {d : Nat} (hd : d < 2) : ∃ (σ' μ' : ll_St) (ρ : Int32), ll_Mi l yX1_give wsX1_give rmX1_give [.int x, .int y, .int (nI d)] σ σ' ρ ∧ mm_Mi l yX2_give wsX2_give rmX2_give [.int x, .int y, .int (nI d)] μ μ' ρ ∧ jt_R σ' μ' := by
  rcases jt_x x with hb | ⟨s, hs, rfl⟩
  · exact ⟨σ, μ, -1, ll_k_give_bad l hb, mm_k_give_bad l hb, h⟩
  · rcases jt_b y with hy | ⟨b, hb, rfl⟩
    · exact ⟨σ, μ, -4, ll_k_give_byte l hs hy, mm_k_give_byte l hs hy, h⟩
    · obtain ⟨w, S, T, hR⟩ := jt_at h hs
      have hok := hR.1.2.2.1
      obtain ⟨h1, h2, h3⟩ := rf_R_wos hR.1
      have h4 : μ 2 (1 - s) = (pm_qv S T).length := hR.2.1.1.1
      have h5 := hR.2.2.1.2 (1 - s)
      by_cases hf : μ 2 (1 - s) = 30
      · exact ⟨_, _, _, ll_k_give_full l hok hs hb h1 (by omega) (by omega), mm_k_give_full l hR.2.2.1 hs hb hf, h⟩
      · obtain ⟨S', hR'⟩ := jt_gv hs hR hb hd (by omega)
        have k := ll_k_give_ok l hok hs hb hd h1 (by omega) (by omega) (by omega)
        rw [h2, ← h4] at k
        exact ⟨_, _, _, k, mm_k_give_ok l hR.2.2.1 hs hb hd hf, jt_of hs hR'⟩
end
section
/-! the constructors, and the law's cell -/
theorem ii_ha {ty : FieldType} (h : defaultValue ty = .int 0) (N : Nat) (cA : ClassId) : vp_cell cA (N, .inl (fun _ => nI 0)) = arrV cA N (fun _ => defaultValue ty) := by
  show arrV cA N (fun _ => Value.int (nI 0)) = arrV cA N (fun _ => defaultValue ty)
  rw [h, nI_0]
theorem ii_cls {s : State} {args : Array Value} {D : va_G} {ty : FieldType} (hp : ty = .int ∨ ty = .boolean) (harr : (Cond.arrayClass ty).before args s = true) (hK : va_K D vwCl [] s) : ∃ cA : ClassId, va_K D vwCl [(cA, ty)] s := by
  obtain ⟨cA, kA, comp, hfind, hk, hkind⟩ := Cond.arrayClass_spec harr
  refine ⟨cA, hK.1, fun k q hq => ?_⟩
  have hz : k < 1 := (List.getElem?_eq_some_iff.mp hq).1
  have h0 : k = 0 := by omega
  subst h0
  cases hq
  exact ⟨fun n z => ⟨fun k h => (by cases h), kA, hk, comp, hkind⟩, by rcases hp with rfl | rfl <;> exact hfind⟩
section II
variable {p : Program} {l : Launch} {e : Env} {R : Room} {s : State} {m : MethodId} {args : Array Value} {below : List Frame} {meth : Method} {c : Code} {H : Heap} {locs : List Loc} {cells slots : Nat} {Q : State → Prop} {cc : ByteArray} {pc nL : Nat} {ls : Array Slot} {rest : List Value} {D : va_G} {A : Nat → Prop} {ws ar : va_W} {tys : List (ClassId × FieldType)} {cA0 : ClassId} {ty : FieldType} {atype : ArrayType} {h : Nat} {fs : List Value}
theorem ii_new (hx : p.tables.exec = Jvm.exec) (hb : c.code = cc) (harr : (Cond.arrayClass ty).before args s = true) (hty : newarray.typeOf atype = ty) (hp : ty = .int ∨ ty = .boolean) (hK : va_K D vwCl tys s) (t0 : Nat) (ht : tys[t0]? = some (cA0, ty)) (hP : va_P D vwCl ws H) (hD : va_D A ws) (hS : va_S A s.heap H locs) (hA : ∀ q, s.heap.size ≤ q → A q) (N : Nat) (hN : N ≤ 64) (hcells : cells + 1 ≤ R.cells) (hslots : slots + N ≤ R.slots) (hdg : decode cc pc = .ok (.newarray atype, 2))
    (kk : ∀ (q : Nat) (H1 : Heap), va_P D vwCl (ws ++ [(q, .inl (cA0, N, .inl (fun _ => nI 0)))]) H1 → va_D A (ws ++ [(q, .inl (cA0, N, .inl (fun _ => nI 0)))]) → va_S A s.heap H1 locs → W p l e R s m args below meth c H1 locs (cells + 1) (slots + N) Q (F0 m (pc + 2) ls (.ref q :: rest))) : W p l e R s m args below meth c H locs cells slots Q (F0 m pc ls (.int (nI N) :: rest)) := by
  have hdv : defaultValue ty = .int 0 := by rcases hp with rfl | rfl <;> rfl
  have hby : N * componentBytes ty ≤ 536870912 := by
    have h4 : componentBytes ty ≤ 4 := by rcases hp with rfl | rfl <;> decide
    have := Nat.mul_le_mul hN h4
    omega
  refine va_newa hx hb (by rw [hty]; exact harr) hty hK hP hD hS hA (n := nI N) (N' := N) (a0 := (N, .inl (fun _ => nI 0))) (ii_ha hdv N) (nI_pos (by omega)) (nI_clamp (by omega)) hby hcells hslots hdg (fun q cA H1 hK1 hP1 hD1 hS1 => ?_)
  have h1 : va_RA s cA0 ty := (hK.2 t0 _ ht).2
  have h2 : va_RA s cA ty := (hK1.2 tys.length (cA, ty) (by simp)).2
  have e0 : cA = cA0 := by
    rcases hp with rfl | rfl
    · have h1 : s.vm.findClass ("[" ++ FieldType.int.toString) = some cA0 := h1
      have h2 : s.vm.findClass ("[" ++ FieldType.int.toString) = some cA := h2
      exact Option.some.inj (h2.symm.trans h1)
    · have h1 : s.vm.findClass ("[" ++ FieldType.boolean.toString) = some cA0 := h1
      have h2 : s.vm.findClass ("[" ++ FieldType.boolean.toString) = some cA := h2
      exact Option.some.inj (h2.symm.trans h1)
  subst e0
  exact kk q H1 hP1 hD1 hS1
/-- a new array, kept in a field -/
theorem ii_f1 (X : ll_C p m c cc nL s args) (hin2 : meth.name = "<init>") (harr : (Cond.arrayClass ty).before args s = true) (hty : newarray.typeOf atype = ty) (hp : ty = .int ∨ ty = .boolean) (hK : va_K D vwCl tys s) (t0 : Nat) (ht : tys[t0]? = some (cA0, ty)) (hP : va_P D vwCl ((h, .inr (0, fs)) :: ar) H) (hD : va_D A ((h, .inr (0, fs)) :: ar)) (hS : va_S A s.heap H locs) (hA : ∀ q, s.heap.size ≤ q → A q) (N : Nat) (hN : N ≤ 64) (k : Nat) (hk : k < 15) {idx : Nat} (hlk : Cond.fieldLink RX1 idx RX1 (TX1 k).2.1 (TX1 k).2.2.1 ∈ lw_all) (hfin : (TX1 k).2.2.2 = true) (hdecl : (TX1 k).1 = RX1) (hnar : ∀ q : Nat, narrow (tyX1 k) (.ref q) = .ref q) (hfit : ∀ q : Nat, fits (tyX1 k) (.ref q) = true) (hl : k < fs.length) (hcells : cells + 1 ≤ R.cells) (hslots : slots + N ≤ R.slots) (hdg : decode cc pc = .ok (.newarray atype, 2)) (hdg2 : decode cc (pc + 2) = .ok (.putfield idx, 3))
    (kk : ∀ (q : Nat) (H1 : Heap) (locs1 : List Loc), va_P D vwCl ((h, .inr (0, fs.set k (.ref q))) :: (ar ++ [(q, .inl (cA0, N, .inl (fun _ => nI 0)))])) H1 → va_D A ((h, .inr (0, fs.set k (.ref q))) :: (ar ++ [(q, .inl (cA0, N, .inl (fun _ => nI 0)))])) → va_S A s.heap H1 locs1 → W p l e R s m args below meth c H1 locs1 (cells + 1) (slots + N) Q (F0 m (pc + 2 + 3) ls rest)) : W p l e R s m args below meth c H locs cells slots Q (F0 m pc ls (.int (nI N) :: .ref h :: rest)) := by
  refine ii_new X.1 X.2.1 harr hty hp hK t0 ht hP hD hS hA N hN hcells hslots hdg (fun q H1 hP1 hD1 hS1 => ?_)
  exact va_putF (own := RX1) (ref := RX1) (C := RX1) (T := TX1) (N := 15) (ci := 0) (fs := fs) X.1 X.2.1 X.2.2.2.2 in_X1 tyX1 tyX1_ok nmX1 X.2.2.2.1 hK hP1 hD1 hS1 0 rfl rfl k hk (X.2.2.2.2 _ hlk) (fun x hx => by rw [hdecl] at hx; exact hx) hfin hin2 hdecl (tyX1_ok k hk) (hnar q) (hfit q) hl hdg2 (fun H2 locs2 hP2 hD2 hS2 => kk q H2 locs2 hP2 hD2 hS2)
/-- a new array, kept in a field -/
theorem ii_f2 (X : mm_C p m c cc nL s args) (hin2 : meth.name = "<init>") (harr : (Cond.arrayClass ty).before args s = true) (hty : newarray.typeOf atype = ty) (hp : ty = .int ∨ ty = .boolean) (hK : va_K D vwCl tys s) (t0 : Nat) (ht : tys[t0]? = some (cA0, ty)) (hP : va_P D vwCl ((h, .inr (1, fs)) :: ar) H) (hD : va_D A ((h, .inr (1, fs)) :: ar)) (hS : va_S A s.heap H locs) (hA : ∀ q, s.heap.size ≤ q → A q) (N : Nat) (hN : N ≤ 64) (k : Nat) (hk : k < 4) {idx : Nat} (hlk : Cond.fieldLink RX2 idx RX2 (TX2 k).2.1 (TX2 k).2.2.1 ∈ lw_all) (hfin : (TX2 k).2.2.2 = true) (hdecl : (TX2 k).1 = RX2) (hnar : ∀ q : Nat, narrow (tyX2 k) (.ref q) = .ref q) (hfit : ∀ q : Nat, fits (tyX2 k) (.ref q) = true) (hl : k < fs.length) (hcells : cells + 1 ≤ R.cells) (hslots : slots + N ≤ R.slots) (hdg : decode cc pc = .ok (.newarray atype, 2)) (hdg2 : decode cc (pc + 2) = .ok (.putfield idx, 3))
    (kk : ∀ (q : Nat) (H1 : Heap) (locs1 : List Loc), va_P D vwCl ((h, .inr (1, fs.set k (.ref q))) :: (ar ++ [(q, .inl (cA0, N, .inl (fun _ => nI 0)))])) H1 → va_D A ((h, .inr (1, fs.set k (.ref q))) :: (ar ++ [(q, .inl (cA0, N, .inl (fun _ => nI 0)))])) → va_S A s.heap H1 locs1 → W p l e R s m args below meth c H1 locs1 (cells + 1) (slots + N) Q (F0 m (pc + 2 + 3) ls rest)) : W p l e R s m args below meth c H locs cells slots Q (F0 m pc ls (.int (nI N) :: .ref h :: rest)) := by
  refine ii_new X.1 X.2.1 harr hty hp hK t0 ht hP hD hS hA N hN hcells hslots hdg (fun q H1 hP1 hD1 hS1 => ?_)
  exact va_putF (own := RX2) (ref := RX2) (C := RX2) (T := TX2) (N := 4) (ci := 1) (fs := fs) X.1 X.2.1 X.2.2.2.2 in_X2 tyX2 tyX2_ok nmX2 X.2.2.2.1 hK hP1 hD1 hS1 0 rfl rfl k hk (X.2.2.2.2 _ hlk) (fun x hx => by rw [hdecl] at hx; exact hx) hfin hin2 hdecl (tyX2_ok k hk) (hnar q) (hfit q) hl hdg2 (fun H2 locs2 hP2 hD2 hS2 => kk q H2 locs2 hP2 hD2 hS2)
end II
abbrev rmX1_init : Room := { frames := 1, cells := 14, slots := 182, locals := 12 }
abbrev wsX1_init : List Cond := ws_ yX1_init cX1_init 3 none
abbrev ll_f0 : List Value := [.int 0, .null, .null, .null, .null, .null, .null, .null, .null, .null, .null, .null, .null, .null, .null]
abbrev ll_U : Type := Nat × (Nat → Nat) × ClassId × ClassId
def ll_Bi (D : va_G) (h : Nat) (A : Nat → Prop) (u : ll_U) (t : State) : Prop := va_P D vwCl (ll_W h u.2.1 u.2.2.1 u.2.2.2 (ll_s0 u.1)) t.heap ∧ va_K D vwCl (ll_ty u.2.2.1 u.2.2.2) t ∧ va_D A (ll_W h u.2.1 u.2.2.1 u.2.2.2 (ll_s0 u.1))
def ll_Qn (D : va_G) (h : Nat) (A : Nat → Prop) (below : List Frame) (args : Array Value) (s : State) : State → Prop := MQ below (va_Qv (fun u : ll_U => 1 ≤ u.1 ∧ u.1 ≤ 4) (ll_Bi D h A) A) args s 14 182 A
section IL
variable {p : Program} {l : Launch} {e : Env} {s : State} {m : MethodId} {args : Array Value} {below : List Frame} {meth : Method} {c : Code} {H : Heap} {locs : List Loc} {ls : Array Slot} {D : va_G} {A : Nat → Prop} {ar : va_W} {cI cZ : ClassId} {h : Nat} {fr : List Value} {ad : Nat → Nat} {x : Int32}
set_option maxHeartbeats 4000000 in
set_option maxRecDepth 100000 in
theorem ll_b_init3 (X : ll_C p m c cX1_init 3 s args) (hr : meth.sig.returnType = none) (hlk : meth.locks = false) (hin2 : meth.name = "<init>") (hK : va_K D vwCl (ll_ty cI cZ) s) (hP : va_P D vwCl ((h, .inr (0, .int 0 :: fr)) :: ar) H) (hD : va_D A ((h, .inr (0, .int 0 :: fr)) :: ar)) (hS : va_S A s.heap H locs) {w : Nat} (hw : 1 ≤ w ∧ w ≤ 4) (hW : ((h, .inr (0, .int (nI w) :: fr)) :: ar) = ll_W h ad cI cZ (ll_s0 w)) (hl : lv_has ls 3 [(2, .int (nI w)), (0, .ref h), (1, .int x)]) : W p l e rmX1_init s m args below meth c H locs 14 182 (ll_Qn D h A below args s) (F0 m 121 ls []) := by
  have hx := X.1
  have hb := X.2.1
  refine lv_aload_n hx hb dX1_init_121 rfl (lv_at hl 1 rfl) ?_
  refine lv_iload_n hx hb dX1_init_122 rfl (lv_at hl 0 rfl) ?_
  refine va_putF (own := RX1) (ref := RX1) (C := RX1) (T := TX1) (N := 15) (ci := 0) (fs := .int 0 :: fr) hx hb X.2.2.2.2 in_X1 tyX1 tyX1_ok nmX1 X.2.2.2.1 hK hP hD hS 0 rfl rfl 0 (by decide) (X.2.2.2.2 _ q31) (fun _ h9 => h9) rfl hin2 rfl (tyX1_ok 0 (by decide)) rfl rfl (Nat.succ_pos _) dX1_init_123 (fun H locs hP hD hS => ?_)
  have hP : va_P D vwCl (ll_W h ad cI cZ (ll_s0 w)) H := by
    rw [← hW]
    exact hP
  have hD : va_D A (ll_W h ad cI cZ (ll_s0 w)) := by
    rw [← hW]
    exact hD
  exact W.vret hx hb hr (fun t ht hWm => ⟨⟨(w, ad, cI, cZ), rfl, hw, by rw [ht]; exact hP, va_K.moved hWm.alike hK, hD⟩, hS.F ht⟩) hS.2.2 dX1_init_126
set_option maxHeartbeats 4000000 in
set_option maxRecDepth 100000 in
theorem ll_b_init2 (X : ll_C p m c cX1_init 3 s args) (hr : meth.sig.returnType = none) (hlk : meth.locks = false) (hin2 : meth.name = "<init>") (hK : va_K D vwCl (ll_ty cI cZ) s) (hP : va_P D vwCl ((h, .inr (0, .int 0 :: fr)) :: ar) H) (hD : va_D A ((h, .inr (0, .int 0 :: fr)) :: ar)) (hS : va_S A s.heap H locs) {y : Int32} (hy : nI 1 ≤ y) (hW : ∀ w : Nat, ((h, .inr (0, .int (nI w) :: fr)) :: ar) = ll_W h ad cI cZ (ll_s0 w)) (hl : lv_has ls 3 [(2, .int y), (0, .ref h), (1, .int x)]) : W p l e rmX1_init s m args below meth c H locs 14 182 (ll_Qn D h A below args s) (F0 m 114 ls []) := by
  have hx := X.1
  have hb := X.2.1
  refine lv_iload_n hx hb dX1_init_114 rfl (lv_at hl 0 rfl) ?_
  refine nw_iconst hx hb 4 dX1_init_115 (by decide) ?_
  refine lv_icmp_le (tgt := 121) hx hb dX1_init_116 (by decide) (fun c2 => ?_) (fun c2 => ?_)
  · have h0 : ¬ y < 0 := fun q => absurd (Int32.lt_of_le_of_lt hy q) (by decide)
    obtain ⟨w, hw, rfl⟩ := nI_of2 (x := y) (M := nI 4) (n := 4) (by decide) h0 c2
    have h1 : 1 ≤ w := (nI_leI (by omega) (by omega)).mp hy
    exact ll_b_init3 X hr hlk hin2 hK hP hD hS ⟨h1, hw⟩ (hW w) hl
  · refine nw_iconst hx hb 4 dX1_init_119 (by decide) ?_
    refine lv_istore_n (lv' := [(2, .int (nI 4)), (0, .ref h), (1, .int x)]) hx hb dX1_init_120 rfl hl (by decide) rfl (fun ls hl => ?_)
    exact ll_b_init3 X hr hlk hin2 hK hP hD hS ⟨by decide, by decide⟩ (hW 4) hl
set_option maxHeartbeats 4000000 in
set_option maxRecDepth 100000 in
theorem ll_b_init (X : ll_C p m c cX1_init 3 s args) (hr : meth.sig.returnType = none) (hlk : meth.locks = false) (hin2 : meth.name = "<init>") (hK : va_K D vwCl (ll_ty cI cZ) s) (hP : va_P D vwCl [(h, .inr (0, ll_f0))] s.heap) (hD : va_D A [(h, .inr (0, ll_f0))]) (hA : ∀ q, s.heap.size ≤ q → A q) (hl : lv_has ls 3 [(0, .ref h), (1, .int x)]) : W p l e rmX1_init s m args below meth c s.heap [] 0 0 (ll_Qn D h A below args s) (F0 m 0 ls []) := by
  have hx := X.1
  have hb := X.2.1
  have hS : va_S A s.heap s.heap [] := va_S.rf
  refine lv_aload_n hx hb dX1_init_0 rfl (lv_at hl 0 rfl) ?_
  refine W.objInit hx hb X.2.2.2.1 (X.2.2.2.2 _ q28) (X.2.2.2.2 _ q29) (X.2.2.2.2 _ q30) rfl (by rw [X.2.2.1]; exact hl.1) rfl dX1_init_1 (Nat.le_of_ble_eq_true rfl) (Nat.le_of_ble_eq_true rfl) ?_
  refine W.eq (g2 := F0 m 4 ls []) rfl ?_
  refine lv_aload_n hx hb dX1_init_4 rfl (lv_at hl 0 rfl) ?_
  refine nw_iconst hx hb 2 dX1_init_5 (by decide) ?_
  refine ii_f1 (ty := .int) (cA0 := cI) X hin2 (X.2.2.2.2 _ q77) rfl (Or.inl rfl) hK 0 rfl hP hD hS hA 2 (by decide) 1 (by decide) q32 rfl rfl (fun _ => rfl) (fun _ => rfl) (Nat.le_of_ble_eq_true rfl) (Nat.le_of_ble_eq_true rfl) (Nat.le_of_ble_eq_true rfl) dX1_init_6 dX1_init_8 (fun a1 H locs hP hD hS => ?_)
  have hP : va_P D vwCl ((h, .inr (0, [.int 0, .ref a1, .null, .null, .null, .null, .null, .null, .null, .null, .null, .null, .null, .null, .null])) :: [(a1, .inl (cI, 2, .inl (fun _ => nI 0)))]) H := hP
  have hD : va_D A ((h, .inr (0, [.int 0, .ref a1, .null, .null, .null, .null, .null, .null, .null, .null, .null, .null, .null, .null, .null])) :: [(a1, .inl (cI, 2, .inl (fun _ => nI 0)))]) := hD
  refine W.widen (k := 1) (n := 2) (Nat.le_of_ble_eq_true rfl) (Nat.le_of_ble_eq_true rfl) ?_
  refine lv_aload_n hx hb dX1_init_11 rfl (lv_at hl 0 rfl) ?_
  refine nw_iconst hx hb 2 dX1_init_12 (by decide) ?_
  refine ii_f1 (ty := .int) (cA0 := cI) X hin2 (X.2.2.2.2 _ q77) rfl (Or.inl rfl) hK 0 rfl hP hD hS hA 2 (by decide) 2 (by decide) q33 rfl rfl (fun _ => rfl) (fun _ => rfl) (Nat.le_of_ble_eq_true rfl) (Nat.le_of_ble_eq_true rfl) (Nat.le_of_ble_eq_true rfl) dX1_init_13 dX1_init_15 (fun a2 H locs hP hD hS => ?_)
  have hP : va_P D vwCl ((h, .inr (0, [.int 0, .ref a1, .ref a2, .null, .null, .null, .null, .null, .null, .null, .null, .null, .null, .null, .null])) :: [(a1, .inl (cI, 2, .inl (fun _ => nI 0))), (a2, .inl (cI, 2, .inl (fun _ => nI 0)))]) H := hP
  have hD : va_D A ((h, .inr (0, [.int 0, .ref a1, .ref a2, .null, .null, .null, .null, .null, .null, .null, .null, .null, .null, .null, .null])) :: [(a1, .inl (cI, 2, .inl (fun _ => nI 0))), (a2, .inl (cI, 2, .inl (fun _ => nI 0)))]) := hD
  refine W.widen (k := 2) (n := 4) (Nat.le_of_ble_eq_true rfl) (Nat.le_of_ble_eq_true rfl) ?_
  refine lv_aload_n hx hb dX1_init_18 rfl (lv_at hl 0 rfl) ?_
  refine nw_bipush hx hb 64 dX1_init_19 (by decide) ?_
  refine ii_f1 (ty := .int) (cA0 := cI) X hin2 (X.2.2.2.2 _ q77) rfl (Or.inl rfl) hK 0 rfl hP hD hS hA 64 (by decide) 3 (by decide) q34 rfl rfl (fun _ => rfl) (fun _ => rfl) (Nat.le_of_ble_eq_true rfl) (Nat.le_of_ble_eq_true rfl) (Nat.le_of_ble_eq_true rfl) dX1_init_21 dX1_init_23 (fun a3 H locs hP hD hS => ?_)
  have hP : va_P D vwCl ((h, .inr (0, [.int 0, .ref a1, .ref a2, .ref a3, .null, .null, .null, .null, .null, .null, .null, .null, .null, .null, .null])) :: [(a1, .inl (cI, 2, .inl (fun _ => nI 0))), (a2, .inl (cI, 2, .inl (fun _ => nI 0))), (a3, .inl (cI, 64, .inl (fun _ => nI 0)))]) H := hP
  have hD : va_D A ((h, .inr (0, [.int 0, .ref a1, .ref a2, .ref a3, .null, .null, .null, .null, .null, .null, .null, .null, .null, .null, .null])) :: [(a1, .inl (cI, 2, .inl (fun _ => nI 0))), (a2, .inl (cI, 2, .inl (fun _ => nI 0))), (a3, .inl (cI, 64, .inl (fun _ => nI 0)))]) := hD
  refine W.widen (k := 3) (n := 68) (Nat.le_of_ble_eq_true rfl) (Nat.le_of_ble_eq_true rfl) ?_
  refine lv_aload_n hx hb dX1_init_26 rfl (lv_at hl 0 rfl) ?_
  refine nw_iconst hx hb 2 dX1_init_27 (by decide) ?_
  refine ii_f1 (ty := .int) (cA0 := cI) X hin2 (X.2.2.2.2 _ q77) rfl (Or.inl rfl) hK 0 rfl hP hD hS hA 2 (by decide) 4 (by decide) q35 rfl rfl (fun _ => rfl) (fun _ => rfl) (Nat.le_of_ble_eq_true rfl) (Nat.le_of_ble_eq_true rfl) (Nat.le_of_ble_eq_true rfl) dX1_init_28 dX1_init_30 (fun a4 H locs hP hD hS => ?_)
  have hP : va_P D vwCl ((h, .inr (0, [.int 0, .ref a1, .ref a2, .ref a3, .ref a4, .null, .null, .null, .null, .null, .null, .null, .null, .null, .null])) :: [(a1, .inl (cI, 2, .inl (fun _ => nI 0))), (a2, .inl (cI, 2, .inl (fun _ => nI 0))), (a3, .inl (cI, 64, .inl (fun _ => nI 0))), (a4, .inl (cI, 2, .inl (fun _ => nI 0)))]) H := hP
  have hD : va_D A ((h, .inr (0, [.int 0, .ref a1, .ref a2, .ref a3, .ref a4, .null, .null, .null, .null, .null, .null, .null, .null, .null, .null])) :: [(a1, .inl (cI, 2, .inl (fun _ => nI 0))), (a2, .inl (cI, 2, .inl (fun _ => nI 0))), (a3, .inl (cI, 64, .inl (fun _ => nI 0))), (a4, .inl (cI, 2, .inl (fun _ => nI 0)))]) := hD
  refine W.widen (k := 4) (n := 70) (Nat.le_of_ble_eq_true rfl) (Nat.le_of_ble_eq_true rfl) ?_
  refine lv_aload_n hx hb dX1_init_33 rfl (lv_at hl 0 rfl) ?_
  refine nw_iconst hx hb 2 dX1_init_34 (by decide) ?_
  refine ii_f1 (ty := .int) (cA0 := cI) X hin2 (X.2.2.2.2 _ q77) rfl (Or.inl rfl) hK 0 rfl hP hD hS hA 2 (by decide) 5 (by decide) q36 rfl rfl (fun _ => rfl) (fun _ => rfl) (Nat.le_of_ble_eq_true rfl) (Nat.le_of_ble_eq_true rfl) (Nat.le_of_ble_eq_true rfl) dX1_init_35 dX1_init_37 (fun a5 H locs hP hD hS => ?_)
  have hP : va_P D vwCl ((h, .inr (0, [.int 0, .ref a1, .ref a2, .ref a3, .ref a4, .ref a5, .null, .null, .null, .null, .null, .null, .null, .null, .null])) :: [(a1, .inl (cI, 2, .inl (fun _ => nI 0))), (a2, .inl (cI, 2, .inl (fun _ => nI 0))), (a3, .inl (cI, 64, .inl (fun _ => nI 0))), (a4, .inl (cI, 2, .inl (fun _ => nI 0))), (a5, .inl (cI, 2, .inl (fun _ => nI 0)))]) H := hP
  have hD : va_D A ((h, .inr (0, [.int 0, .ref a1, .ref a2, .ref a3, .ref a4, .ref a5, .null, .null, .null, .null, .null, .null, .null, .null, .null])) :: [(a1, .inl (cI, 2, .inl (fun _ => nI 0))), (a2, .inl (cI, 2, .inl (fun _ => nI 0))), (a3, .inl (cI, 64, .inl (fun _ => nI 0))), (a4, .inl (cI, 2, .inl (fun _ => nI 0))), (a5, .inl (cI, 2, .inl (fun _ => nI 0)))]) := hD
  refine W.widen (k := 5) (n := 72) (Nat.le_of_ble_eq_true rfl) (Nat.le_of_ble_eq_true rfl) ?_
  refine lv_aload_n hx hb dX1_init_40 rfl (lv_at hl 0 rfl) ?_
  refine nw_iconst hx hb 2 dX1_init_41 (by decide) ?_
  refine ii_f1 (ty := .int) (cA0 := cI) X hin2 (X.2.2.2.2 _ q77) rfl (Or.inl rfl) hK 0 rfl hP hD hS hA 2 (by decide) 6 (by decide) q37 rfl rfl (fun _ => rfl) (fun _ => rfl) (Nat.le_of_ble_eq_true rfl) (Nat.le_of_ble_eq_true rfl) (Nat.le_of_ble_eq_true rfl) dX1_init_42 dX1_init_44 (fun a6 H locs hP hD hS => ?_)
  have hP : va_P D vwCl ((h, .inr (0, [.int 0, .ref a1, .ref a2, .ref a3, .ref a4, .ref a5, .ref a6, .null, .null, .null, .null, .null, .null, .null, .null])) :: [(a1, .inl (cI, 2, .inl (fun _ => nI 0))), (a2, .inl (cI, 2, .inl (fun _ => nI 0))), (a3, .inl (cI, 64, .inl (fun _ => nI 0))), (a4, .inl (cI, 2, .inl (fun _ => nI 0))), (a5, .inl (cI, 2, .inl (fun _ => nI 0))), (a6, .inl (cI, 2, .inl (fun _ => nI 0)))]) H := hP
  have hD : va_D A ((h, .inr (0, [.int 0, .ref a1, .ref a2, .ref a3, .ref a4, .ref a5, .ref a6, .null, .null, .null, .null, .null, .null, .null, .null])) :: [(a1, .inl (cI, 2, .inl (fun _ => nI 0))), (a2, .inl (cI, 2, .inl (fun _ => nI 0))), (a3, .inl (cI, 64, .inl (fun _ => nI 0))), (a4, .inl (cI, 2, .inl (fun _ => nI 0))), (a5, .inl (cI, 2, .inl (fun _ => nI 0))), (a6, .inl (cI, 2, .inl (fun _ => nI 0)))]) := hD
  refine W.widen (k := 6) (n := 74) (Nat.le_of_ble_eq_true rfl) (Nat.le_of_ble_eq_true rfl) ?_
  refine lv_aload_n hx hb dX1_init_47 rfl (lv_at hl 0 rfl) ?_
  refine nw_iconst hx hb 2 dX1_init_48 (by decide) ?_
  refine ii_f1 (ty := .boolean) (cA0 := cZ) X hin2 (X.2.2.2.2 _ q78) rfl (Or.inr rfl) hK 1 rfl hP hD hS hA 2 (by decide) 7 (by decide) q38 rfl rfl (fun _ => rfl) (fun _ => rfl) (Nat.le_of_ble_eq_true rfl) (Nat.le_of_ble_eq_true rfl) (Nat.le_of_ble_eq_true rfl) dX1_init_49 dX1_init_51 (fun a7 H locs hP hD hS => ?_)
  have hP : va_P D vwCl ((h, .inr (0, [.int 0, .ref a1, .ref a2, .ref a3, .ref a4, .ref a5, .ref a6, .ref a7, .null, .null, .null, .null, .null, .null, .null])) :: [(a1, .inl (cI, 2, .inl (fun _ => nI 0))), (a2, .inl (cI, 2, .inl (fun _ => nI 0))), (a3, .inl (cI, 64, .inl (fun _ => nI 0))), (a4, .inl (cI, 2, .inl (fun _ => nI 0))), (a5, .inl (cI, 2, .inl (fun _ => nI 0))), (a6, .inl (cI, 2, .inl (fun _ => nI 0))), (a7, .inl (cZ, 2, .inl (fun _ => nI 0)))]) H := hP
  have hD : va_D A ((h, .inr (0, [.int 0, .ref a1, .ref a2, .ref a3, .ref a4, .ref a5, .ref a6, .ref a7, .null, .null, .null, .null, .null, .null, .null])) :: [(a1, .inl (cI, 2, .inl (fun _ => nI 0))), (a2, .inl (cI, 2, .inl (fun _ => nI 0))), (a3, .inl (cI, 64, .inl (fun _ => nI 0))), (a4, .inl (cI, 2, .inl (fun _ => nI 0))), (a5, .inl (cI, 2, .inl (fun _ => nI 0))), (a6, .inl (cI, 2, .inl (fun _ => nI 0))), (a7, .inl (cZ, 2, .inl (fun _ => nI 0)))]) := hD
  refine W.widen (k := 7) (n := 76) (Nat.le_of_ble_eq_true rfl) (Nat.le_of_ble_eq_true rfl) ?_
  refine lv_aload_n hx hb dX1_init_54 rfl (lv_at hl 0 rfl) ?_
  refine nw_iconst hx hb 2 dX1_init_55 (by decide) ?_
  refine ii_f1 (ty := .boolean) (cA0 := cZ) X hin2 (X.2.2.2.2 _ q78) rfl (Or.inr rfl) hK 1 rfl hP hD hS hA 2 (by decide) 8 (by decide) q39 rfl rfl (fun _ => rfl) (fun _ => rfl) (Nat.le_of_ble_eq_true rfl) (Nat.le_of_ble_eq_true rfl) (Nat.le_of_ble_eq_true rfl) dX1_init_56 dX1_init_58 (fun a8 H locs hP hD hS => ?_)
  have hP : va_P D vwCl ((h, .inr (0, [.int 0, .ref a1, .ref a2, .ref a3, .ref a4, .ref a5, .ref a6, .ref a7, .ref a8, .null, .null, .null, .null, .null, .null])) :: [(a1, .inl (cI, 2, .inl (fun _ => nI 0))), (a2, .inl (cI, 2, .inl (fun _ => nI 0))), (a3, .inl (cI, 64, .inl (fun _ => nI 0))), (a4, .inl (cI, 2, .inl (fun _ => nI 0))), (a5, .inl (cI, 2, .inl (fun _ => nI 0))), (a6, .inl (cI, 2, .inl (fun _ => nI 0))), (a7, .inl (cZ, 2, .inl (fun _ => nI 0))), (a8, .inl (cZ, 2, .inl (fun _ => nI 0)))]) H := hP
  have hD : va_D A ((h, .inr (0, [.int 0, .ref a1, .ref a2, .ref a3, .ref a4, .ref a5, .ref a6, .ref a7, .ref a8, .null, .null, .null, .null, .null, .null])) :: [(a1, .inl (cI, 2, .inl (fun _ => nI 0))), (a2, .inl (cI, 2, .inl (fun _ => nI 0))), (a3, .inl (cI, 64, .inl (fun _ => nI 0))), (a4, .inl (cI, 2, .inl (fun _ => nI 0))), (a5, .inl (cI, 2, .inl (fun _ => nI 0))), (a6, .inl (cI, 2, .inl (fun _ => nI 0))), (a7, .inl (cZ, 2, .inl (fun _ => nI 0))), (a8, .inl (cZ, 2, .inl (fun _ => nI 0)))]) := hD
  refine W.widen (k := 8) (n := 78) (Nat.le_of_ble_eq_true rfl) (Nat.le_of_ble_eq_true rfl) ?_
  refine lv_aload_n hx hb dX1_init_61 rfl (lv_at hl 0 rfl) ?_
  refine nw_iconst hx hb 2 dX1_init_62 (by decide) ?_
  refine ii_f1 (ty := .int) (cA0 := cI) X hin2 (X.2.2.2.2 _ q77) rfl (Or.inl rfl) hK 0 rfl hP hD hS hA 2 (by decide) 9 (by decide) q40 rfl rfl (fun _ => rfl) (fun _ => rfl) (Nat.le_of_ble_eq_true rfl) (Nat.le_of_ble_eq_true rfl) (Nat.le_of_ble_eq_true rfl) dX1_init_63 dX1_init_65 (fun a9 H locs hP hD hS => ?_)
  have hP : va_P D vwCl ((h, .inr (0, [.int 0, .ref a1, .ref a2, .ref a3, .ref a4, .ref a5, .ref a6, .ref a7, .ref a8, .ref a9, .null, .null, .null, .null, .null])) :: [(a1, .inl (cI, 2, .inl (fun _ => nI 0))), (a2, .inl (cI, 2, .inl (fun _ => nI 0))), (a3, .inl (cI, 64, .inl (fun _ => nI 0))), (a4, .inl (cI, 2, .inl (fun _ => nI 0))), (a5, .inl (cI, 2, .inl (fun _ => nI 0))), (a6, .inl (cI, 2, .inl (fun _ => nI 0))), (a7, .inl (cZ, 2, .inl (fun _ => nI 0))), (a8, .inl (cZ, 2, .inl (fun _ => nI 0))), (a9, .inl (cI, 2, .inl (fun _ => nI 0)))]) H := hP
  have hD : va_D A ((h, .inr (0, [.int 0, .ref a1, .ref a2, .ref a3, .ref a4, .ref a5, .ref a6, .ref a7, .ref a8, .ref a9, .null, .null, .null, .null, .null])) :: [(a1, .inl (cI, 2, .inl (fun _ => nI 0))), (a2, .inl (cI, 2, .inl (fun _ => nI 0))), (a3, .inl (cI, 64, .inl (fun _ => nI 0))), (a4, .inl (cI, 2, .inl (fun _ => nI 0))), (a5, .inl (cI, 2, .inl (fun _ => nI 0))), (a6, .inl (cI, 2, .inl (fun _ => nI 0))), (a7, .inl (cZ, 2, .inl (fun _ => nI 0))), (a8, .inl (cZ, 2, .inl (fun _ => nI 0))), (a9, .inl (cI, 2, .inl (fun _ => nI 0)))]) := hD
  refine W.widen (k := 9) (n := 80) (Nat.le_of_ble_eq_true rfl) (Nat.le_of_ble_eq_true rfl) ?_
  refine lv_aload_n hx hb dX1_init_68 rfl (lv_at hl 0 rfl) ?_
  refine nw_iconst hx hb 2 dX1_init_69 (by decide) ?_
  refine ii_f1 (ty := .int) (cA0 := cI) X hin2 (X.2.2.2.2 _ q77) rfl (Or.inl rfl) hK 0 rfl hP hD hS hA 2 (by decide) 10 (by decide) q41 rfl rfl (fun _ => rfl) (fun _ => rfl) (Nat.le_of_ble_eq_true rfl) (Nat.le_of_ble_eq_true rfl) (Nat.le_of_ble_eq_true rfl) dX1_init_70 dX1_init_72 (fun a10 H locs hP hD hS => ?_)
  have hP : va_P D vwCl ((h, .inr (0, [.int 0, .ref a1, .ref a2, .ref a3, .ref a4, .ref a5, .ref a6, .ref a7, .ref a8, .ref a9, .ref a10, .null, .null, .null, .null])) :: [(a1, .inl (cI, 2, .inl (fun _ => nI 0))), (a2, .inl (cI, 2, .inl (fun _ => nI 0))), (a3, .inl (cI, 64, .inl (fun _ => nI 0))), (a4, .inl (cI, 2, .inl (fun _ => nI 0))), (a5, .inl (cI, 2, .inl (fun _ => nI 0))), (a6, .inl (cI, 2, .inl (fun _ => nI 0))), (a7, .inl (cZ, 2, .inl (fun _ => nI 0))), (a8, .inl (cZ, 2, .inl (fun _ => nI 0))), (a9, .inl (cI, 2, .inl (fun _ => nI 0))), (a10, .inl (cI, 2, .inl (fun _ => nI 0)))]) H := hP
  have hD : va_D A ((h, .inr (0, [.int 0, .ref a1, .ref a2, .ref a3, .ref a4, .ref a5, .ref a6, .ref a7, .ref a8, .ref a9, .ref a10, .null, .null, .null, .null])) :: [(a1, .inl (cI, 2, .inl (fun _ => nI 0))), (a2, .inl (cI, 2, .inl (fun _ => nI 0))), (a3, .inl (cI, 64, .inl (fun _ => nI 0))), (a4, .inl (cI, 2, .inl (fun _ => nI 0))), (a5, .inl (cI, 2, .inl (fun _ => nI 0))), (a6, .inl (cI, 2, .inl (fun _ => nI 0))), (a7, .inl (cZ, 2, .inl (fun _ => nI 0))), (a8, .inl (cZ, 2, .inl (fun _ => nI 0))), (a9, .inl (cI, 2, .inl (fun _ => nI 0))), (a10, .inl (cI, 2, .inl (fun _ => nI 0)))]) := hD
  refine W.widen (k := 10) (n := 82) (Nat.le_of_ble_eq_true rfl) (Nat.le_of_ble_eq_true rfl) ?_
  refine lv_aload_n hx hb dX1_init_75 rfl (lv_at hl 0 rfl) ?_
  refine nw_bipush hx hb 64 dX1_init_76 (by decide) ?_
  refine ii_f1 (ty := .int) (cA0 := cI) X hin2 (X.2.2.2.2 _ q77) rfl (Or.inl rfl) hK 0 rfl hP hD hS hA 64 (by decide) 11 (by decide) q42 rfl rfl (fun _ => rfl) (fun _ => rfl) (Nat.le_of_ble_eq_true rfl) (Nat.le_of_ble_eq_true rfl) (Nat.le_of_ble_eq_true rfl) dX1_init_78 dX1_init_80 (fun a11 H locs hP hD hS => ?_)
  have hP : va_P D vwCl ((h, .inr (0, [.int 0, .ref a1, .ref a2, .ref a3, .ref a4, .ref a5, .ref a6, .ref a7, .ref a8, .ref a9, .ref a10, .ref a11, .null, .null, .null])) :: [(a1, .inl (cI, 2, .inl (fun _ => nI 0))), (a2, .inl (cI, 2, .inl (fun _ => nI 0))), (a3, .inl (cI, 64, .inl (fun _ => nI 0))), (a4, .inl (cI, 2, .inl (fun _ => nI 0))), (a5, .inl (cI, 2, .inl (fun _ => nI 0))), (a6, .inl (cI, 2, .inl (fun _ => nI 0))), (a7, .inl (cZ, 2, .inl (fun _ => nI 0))), (a8, .inl (cZ, 2, .inl (fun _ => nI 0))), (a9, .inl (cI, 2, .inl (fun _ => nI 0))), (a10, .inl (cI, 2, .inl (fun _ => nI 0))), (a11, .inl (cI, 64, .inl (fun _ => nI 0)))]) H := hP
  have hD : va_D A ((h, .inr (0, [.int 0, .ref a1, .ref a2, .ref a3, .ref a4, .ref a5, .ref a6, .ref a7, .ref a8, .ref a9, .ref a10, .ref a11, .null, .null, .null])) :: [(a1, .inl (cI, 2, .inl (fun _ => nI 0))), (a2, .inl (cI, 2, .inl (fun _ => nI 0))), (a3, .inl (cI, 64, .inl (fun _ => nI 0))), (a4, .inl (cI, 2, .inl (fun _ => nI 0))), (a5, .inl (cI, 2, .inl (fun _ => nI 0))), (a6, .inl (cI, 2, .inl (fun _ => nI 0))), (a7, .inl (cZ, 2, .inl (fun _ => nI 0))), (a8, .inl (cZ, 2, .inl (fun _ => nI 0))), (a9, .inl (cI, 2, .inl (fun _ => nI 0))), (a10, .inl (cI, 2, .inl (fun _ => nI 0))), (a11, .inl (cI, 64, .inl (fun _ => nI 0)))]) := hD
  refine W.widen (k := 11) (n := 146) (Nat.le_of_ble_eq_true rfl) (Nat.le_of_ble_eq_true rfl) ?_
  refine lv_aload_n hx hb dX1_init_83 rfl (lv_at hl 0 rfl) ?_
  refine nw_iconst hx hb 2 dX1_init_84 (by decide) ?_
  refine ii_f1 (ty := .int) (cA0 := cI) X hin2 (X.2.2.2.2 _ q77) rfl (Or.inl rfl) hK 0 rfl hP hD hS hA 2 (by decide) 12 (by decide) q43 rfl rfl (fun _ => rfl) (fun _ => rfl) (Nat.le_of_ble_eq_true rfl) (Nat.le_of_ble_eq_true rfl) (Nat.le_of_ble_eq_true rfl) dX1_init_85 dX1_init_87 (fun a12 H locs hP hD hS => ?_)
  have hP : va_P D vwCl ((h, .inr (0, [.int 0, .ref a1, .ref a2, .ref a3, .ref a4, .ref a5, .ref a6, .ref a7, .ref a8, .ref a9, .ref a10, .ref a11, .ref a12, .null, .null])) :: [(a1, .inl (cI, 2, .inl (fun _ => nI 0))), (a2, .inl (cI, 2, .inl (fun _ => nI 0))), (a3, .inl (cI, 64, .inl (fun _ => nI 0))), (a4, .inl (cI, 2, .inl (fun _ => nI 0))), (a5, .inl (cI, 2, .inl (fun _ => nI 0))), (a6, .inl (cI, 2, .inl (fun _ => nI 0))), (a7, .inl (cZ, 2, .inl (fun _ => nI 0))), (a8, .inl (cZ, 2, .inl (fun _ => nI 0))), (a9, .inl (cI, 2, .inl (fun _ => nI 0))), (a10, .inl (cI, 2, .inl (fun _ => nI 0))), (a11, .inl (cI, 64, .inl (fun _ => nI 0))), (a12, .inl (cI, 2, .inl (fun _ => nI 0)))]) H := hP
  have hD : va_D A ((h, .inr (0, [.int 0, .ref a1, .ref a2, .ref a3, .ref a4, .ref a5, .ref a6, .ref a7, .ref a8, .ref a9, .ref a10, .ref a11, .ref a12, .null, .null])) :: [(a1, .inl (cI, 2, .inl (fun _ => nI 0))), (a2, .inl (cI, 2, .inl (fun _ => nI 0))), (a3, .inl (cI, 64, .inl (fun _ => nI 0))), (a4, .inl (cI, 2, .inl (fun _ => nI 0))), (a5, .inl (cI, 2, .inl (fun _ => nI 0))), (a6, .inl (cI, 2, .inl (fun _ => nI 0))), (a7, .inl (cZ, 2, .inl (fun _ => nI 0))), (a8, .inl (cZ, 2, .inl (fun _ => nI 0))), (a9, .inl (cI, 2, .inl (fun _ => nI 0))), (a10, .inl (cI, 2, .inl (fun _ => nI 0))), (a11, .inl (cI, 64, .inl (fun _ => nI 0))), (a12, .inl (cI, 2, .inl (fun _ => nI 0)))]) := hD
  refine W.widen (k := 12) (n := 148) (Nat.le_of_ble_eq_true rfl) (Nat.le_of_ble_eq_true rfl) ?_
  refine lv_aload_n hx hb dX1_init_90 rfl (lv_at hl 0 rfl) ?_
  refine nw_iconst hx hb 2 dX1_init_91 (by decide) ?_
  refine ii_f1 (ty := .int) (cA0 := cI) X hin2 (X.2.2.2.2 _ q77) rfl (Or.inl rfl) hK 0 rfl hP hD hS hA 2 (by decide) 13 (by decide) q44 rfl rfl (fun _ => rfl) (fun _ => rfl) (Nat.le_of_ble_eq_true rfl) (Nat.le_of_ble_eq_true rfl) (Nat.le_of_ble_eq_true rfl) dX1_init_92 dX1_init_94 (fun a13 H locs hP hD hS => ?_)
  have hP : va_P D vwCl ((h, .inr (0, [.int 0, .ref a1, .ref a2, .ref a3, .ref a4, .ref a5, .ref a6, .ref a7, .ref a8, .ref a9, .ref a10, .ref a11, .ref a12, .ref a13, .null])) :: [(a1, .inl (cI, 2, .inl (fun _ => nI 0))), (a2, .inl (cI, 2, .inl (fun _ => nI 0))), (a3, .inl (cI, 64, .inl (fun _ => nI 0))), (a4, .inl (cI, 2, .inl (fun _ => nI 0))), (a5, .inl (cI, 2, .inl (fun _ => nI 0))), (a6, .inl (cI, 2, .inl (fun _ => nI 0))), (a7, .inl (cZ, 2, .inl (fun _ => nI 0))), (a8, .inl (cZ, 2, .inl (fun _ => nI 0))), (a9, .inl (cI, 2, .inl (fun _ => nI 0))), (a10, .inl (cI, 2, .inl (fun _ => nI 0))), (a11, .inl (cI, 64, .inl (fun _ => nI 0))), (a12, .inl (cI, 2, .inl (fun _ => nI 0))), (a13, .inl (cI, 2, .inl (fun _ => nI 0)))]) H := hP
  have hD : va_D A ((h, .inr (0, [.int 0, .ref a1, .ref a2, .ref a3, .ref a4, .ref a5, .ref a6, .ref a7, .ref a8, .ref a9, .ref a10, .ref a11, .ref a12, .ref a13, .null])) :: [(a1, .inl (cI, 2, .inl (fun _ => nI 0))), (a2, .inl (cI, 2, .inl (fun _ => nI 0))), (a3, .inl (cI, 64, .inl (fun _ => nI 0))), (a4, .inl (cI, 2, .inl (fun _ => nI 0))), (a5, .inl (cI, 2, .inl (fun _ => nI 0))), (a6, .inl (cI, 2, .inl (fun _ => nI 0))), (a7, .inl (cZ, 2, .inl (fun _ => nI 0))), (a8, .inl (cZ, 2, .inl (fun _ => nI 0))), (a9, .inl (cI, 2, .inl (fun _ => nI 0))), (a10, .inl (cI, 2, .inl (fun _ => nI 0))), (a11, .inl (cI, 64, .inl (fun _ => nI 0))), (a12, .inl (cI, 2, .inl (fun _ => nI 0))), (a13, .inl (cI, 2, .inl (fun _ => nI 0)))]) := hD
  refine W.widen (k := 13) (n := 150) (Nat.le_of_ble_eq_true rfl) (Nat.le_of_ble_eq_true rfl) ?_
  refine lv_aload_n hx hb dX1_init_97 rfl (lv_at hl 0 rfl) ?_
  refine nw_bipush hx hb 32 dX1_init_98 (by decide) ?_
  refine ii_f1 (ty := .int) (cA0 := cI) X hin2 (X.2.2.2.2 _ q77) rfl (Or.inl rfl) hK 0 rfl hP hD hS hA 32 (by decide) 14 (by decide) q45 rfl rfl (fun _ => rfl) (fun _ => rfl) (Nat.le_of_ble_eq_true rfl) (Nat.le_of_ble_eq_true rfl) (Nat.le_of_ble_eq_true rfl) dX1_init_100 dX1_init_102 (fun a14 H locs hP hD hS => ?_)
  have hP : va_P D vwCl ((h, .inr (0, [.int 0, .ref a1, .ref a2, .ref a3, .ref a4, .ref a5, .ref a6, .ref a7, .ref a8, .ref a9, .ref a10, .ref a11, .ref a12, .ref a13, .ref a14])) :: [(a1, .inl (cI, 2, .inl (fun _ => nI 0))), (a2, .inl (cI, 2, .inl (fun _ => nI 0))), (a3, .inl (cI, 64, .inl (fun _ => nI 0))), (a4, .inl (cI, 2, .inl (fun _ => nI 0))), (a5, .inl (cI, 2, .inl (fun _ => nI 0))), (a6, .inl (cI, 2, .inl (fun _ => nI 0))), (a7, .inl (cZ, 2, .inl (fun _ => nI 0))), (a8, .inl (cZ, 2, .inl (fun _ => nI 0))), (a9, .inl (cI, 2, .inl (fun _ => nI 0))), (a10, .inl (cI, 2, .inl (fun _ => nI 0))), (a11, .inl (cI, 64, .inl (fun _ => nI 0))), (a12, .inl (cI, 2, .inl (fun _ => nI 0))), (a13, .inl (cI, 2, .inl (fun _ => nI 0))), (a14, .inl (cI, 32, .inl (fun _ => nI 0)))]) H := hP
  have hD : va_D A ((h, .inr (0, [.int 0, .ref a1, .ref a2, .ref a3, .ref a4, .ref a5, .ref a6, .ref a7, .ref a8, .ref a9, .ref a10, .ref a11, .ref a12, .ref a13, .ref a14])) :: [(a1, .inl (cI, 2, .inl (fun _ => nI 0))), (a2, .inl (cI, 2, .inl (fun _ => nI 0))), (a3, .inl (cI, 64, .inl (fun _ => nI 0))), (a4, .inl (cI, 2, .inl (fun _ => nI 0))), (a5, .inl (cI, 2, .inl (fun _ => nI 0))), (a6, .inl (cI, 2, .inl (fun _ => nI 0))), (a7, .inl (cZ, 2, .inl (fun _ => nI 0))), (a8, .inl (cZ, 2, .inl (fun _ => nI 0))), (a9, .inl (cI, 2, .inl (fun _ => nI 0))), (a10, .inl (cI, 2, .inl (fun _ => nI 0))), (a11, .inl (cI, 64, .inl (fun _ => nI 0))), (a12, .inl (cI, 2, .inl (fun _ => nI 0))), (a13, .inl (cI, 2, .inl (fun _ => nI 0))), (a14, .inl (cI, 32, .inl (fun _ => nI 0)))]) := hD
  refine W.widen (k := 14) (n := 182) (Nat.le_of_ble_eq_true rfl) (Nat.le_of_ble_eq_true rfl) ?_
  have hW : ∀ w : Nat, ((h, .inr (0, .int (nI w) :: [.ref a1, .ref a2, .ref a3, .ref a4, .ref a5, .ref a6, .ref a7, .ref a8, .ref a9, .ref a10, .ref a11, .ref a12, .ref a13, .ref a14])) :: [(a1, .inl (cI, 2, .inl (fun _ => nI 0))), (a2, .inl (cI, 2, .inl (fun _ => nI 0))), (a3, .inl (cI, 64, .inl (fun _ => nI 0))), (a4, .inl (cI, 2, .inl (fun _ => nI 0))), (a5, .inl (cI, 2, .inl (fun _ => nI 0))), (a6, .inl (cI, 2, .inl (fun _ => nI 0))), (a7, .inl (cZ, 2, .inl (fun _ => nI 0))), (a8, .inl (cZ, 2, .inl (fun _ => nI 0))), (a9, .inl (cI, 2, .inl (fun _ => nI 0))), (a10, .inl (cI, 2, .inl (fun _ => nI 0))), (a11, .inl (cI, 64, .inl (fun _ => nI 0))), (a12, .inl (cI, 2, .inl (fun _ => nI 0))), (a13, .inl (cI, 2, .inl (fun _ => nI 0))), (a14, .inl (cI, 32, .inl (fun _ => nI 0)))]) = ll_W h (fun k => [0, a1, a2, a3, a4, a5, a6, a7, a8, a9, a10, a11, a12, a13, a14].getD k 0) cI cZ (ll_s0 w) := fun w => rfl
  refine lv_iload_n hx hb dX1_init_105 rfl (lv_at hl 1 rfl) ?_
  refine lv_istore_n (lv' := [(2, .int x), (0, .ref h), (1, .int x)]) hx hb dX1_init_106 rfl hl (by decide) rfl (fun ls hl => ?_)
  refine lv_iload_n hx hb dX1_init_107 rfl (lv_at hl 0 rfl) ?_
  refine nw_iconst hx hb 1 dX1_init_108 (by decide) ?_
  refine lv_icmp_ge (tgt := 114) hx hb dX1_init_109 (by decide) (fun c1 => ?_) (fun c1 => ?_)
  · exact ll_b_init2 X hr hlk hin2 hK hP hD hS c1 hW hl
  · refine nw_iconst hx hb 1 dX1_init_112 (by decide) ?_
    refine lv_istore_n (lv' := [(2, .int (nI 1)), (0, .ref h), (1, .int x)]) hx hb dX1_init_113 rfl hl (by decide) rfl (fun ls hl => ?_)
    exact ll_b_init2 X hr hlk hin2 hK hP hD hS (Int32.le_refl _) hW hl
end IL
set_option maxHeartbeats 4000000 in
set_option maxRecDepth 100000 in
theorem ll_k_init (l : Launch) (D : va_G) (h sz : Nat) (x : Int32) : Met l yX1_init wsX1_init rmX1_init (va_Pc [.ref h, .int x] (fun U => U.heap.size = sz ∧ va_P D vwCl [(h, .inr (0, ll_f0))] U.heap ∧ va_K D vwCl [] U ∧ va_D (fun _ => True) [(h, .inr (0, ll_f0))])) (va_Qv (fun u : ll_U => 1 ≤ u.1 ∧ u.1 ≤ 4) (ll_Bi D h (va_A [(h, .inr (0, ll_f0))] sz)) (va_A [(h, .inr (0, ll_f0))] sz)) 14 182 (va_A [(h, .inr (0, ll_f0))] sz) := by
  refine Met.ofW (cc := cX1_init) (maxL := 3) (ret := none) (show plainName RX1 = true by decide) rfl ?_
  intro p e s m args below meth c s₁ B hml hv
  obtain ⟨rfl, hsz, hP, hK0, hD0⟩ := hv
  have hts := atoms_spec (ws := wsX1_init) B.pre
  have hts : ∀ w ∈ lw_all, w.before _ s = true := fun w h => hts w (List.mem_cons_of_mem _ h)
  have hown : s.vm.findClass RX1 = some m.cls := findClass_of_methodNamed B.named
  have hin2 : meth.name = "<init>" := (name_of_methodNamed B.named B.method).1
  subst hsz
  have hD := hD0.self (sz := s.heap.size)
  have hA : ∀ q : Nat, s.heap.size ≤ q → va_A [(h, .inr (0, ll_f0))] s.heap.size q := fun q h => Or.inr h
  obtain ⟨cI, hKI⟩ := ii_cls (Or.inl rfl) (hts _ q77) hK0
  obtain ⟨cZ, hKZ⟩ := ii_cls (Or.inr rfl) (hts _ q78) hK0
  have hK : va_K D vwCl (ll_ty cI cZ) s := hKI.app hKZ
  have hl := lv_entry ([.ref h, .int x]) (n := 3) (Nat.le_of_ble_eq_true rfl)
  rw [lg_entry_eq]
  exact ll_b_init ⟨B.exec, B.bytes, hml, hown, hts⟩ B.returns B.notSynchronized hin2 hK hP hD hA hl
abbrev rmX2_init : Room := { frames := 1, cells := 4, slots := 124, locals := 12 }
abbrev wsX2_init : List Cond := ws_ yX2_init cX2_init 2 none
abbrev mm_f0 : List Value := [.null, .null, .null, .null]
abbrev mm_U : Type := (Nat → Nat) × ClassId × ClassId
def mm_Bi (D : va_G) (h : Nat) (A : Nat → Prop) (u : mm_U) (t : State) : Prop := va_P D vwCl (mm_W h u.1 u.2.1 u.2.2 mm_s0) t.heap ∧ va_K D vwCl (ll_ty u.2.1 u.2.2) t ∧ va_D A (mm_W h u.1 u.2.1 u.2.2 mm_s0)
def mm_Qn (D : va_G) (h : Nat) (A : Nat → Prop) (below : List Frame) (args : Array Value) (s : State) : State → Prop := MQ below (va_Qv (fun _ : mm_U => True) (mm_Bi D h A) A) args s 4 124 A
section IM
variable {p : Program} {l : Launch} {e : Env} {s : State} {m : MethodId} {args : Array Value} {below : List Frame} {meth : Method} {c : Code} {ls : Array Slot} {D : va_G} {A : Nat → Prop} {cI cZ : ClassId} {h : Nat} {x : Int32}
set_option maxHeartbeats 4000000 in
set_option maxRecDepth 100000 in
theorem mm_b_init (X : mm_C p m c cX2_init 2 s args) (hr : meth.sig.returnType = none) (hlk : meth.locks = false) (hin2 : meth.name = "<init>") (hK : va_K D vwCl (ll_ty cI cZ) s) (hP : va_P D vwCl [(h, .inr (1, mm_f0))] s.heap) (hD : va_D A [(h, .inr (1, mm_f0))]) (hA : ∀ q, s.heap.size ≤ q → A q) (hl : lv_has ls 2 [(0, .ref h), (1, .int x)]) : W p l e rmX2_init s m args below meth c s.heap [] 0 0 (mm_Qn D h A below args s) (F0 m 0 ls []) := by
  have hx := X.1
  have hb := X.2.1
  have hS : va_S A s.heap s.heap [] := va_S.rf
  refine lv_aload_n hx hb dX2_init_0 rfl (lv_at hl 0 rfl) ?_
  refine W.objInit hx hb X.2.2.2.1 (X.2.2.2.2 _ q224) (X.2.2.2.2 _ q29) (X.2.2.2.2 _ q30) rfl (by rw [X.2.2.1]; exact hl.1) rfl dX2_init_1 (Nat.le_of_ble_eq_true rfl) (Nat.le_of_ble_eq_true rfl) ?_
  refine W.eq (g2 := F0 m 4 ls []) rfl ?_
  refine lv_aload_n hx hb dX2_init_4 rfl (lv_at hl 0 rfl) ?_
  refine nw_bipush hx hb 60 dX2_init_5 (by decide) ?_
  refine ii_f2 (ty := .int) (cA0 := cI) X hin2 (X.2.2.2.2 _ q77) rfl (Or.inl rfl) hK 0 rfl hP hD hS hA 60 (by decide) 0 (by decide) q225 rfl rfl (fun _ => rfl) (fun _ => rfl) (Nat.le_of_ble_eq_true rfl) (Nat.le_of_ble_eq_true rfl) (Nat.le_of_ble_eq_true rfl) dX2_init_7 dX2_init_9 (fun a0 H locs hP hD hS => ?_)
  have hP : va_P D vwCl ((h, .inr (1, [.ref a0, .null, .null, .null])) :: [(a0, .inl (cI, 60, .inl (fun _ => nI 0)))]) H := hP
  have hD : va_D A ((h, .inr (1, [.ref a0, .null, .null, .null])) :: [(a0, .inl (cI, 60, .inl (fun _ => nI 0)))]) := hD
  refine W.widen (k := 1) (n := 60) (Nat.le_of_ble_eq_true rfl) (Nat.le_of_ble_eq_true rfl) ?_
  refine lv_aload_n hx hb dX2_init_12 rfl (lv_at hl 0 rfl) ?_
  refine nw_bipush hx hb 60 dX2_init_13 (by decide) ?_
  refine ii_f2 (ty := .boolean) (cA0 := cZ) X hin2 (X.2.2.2.2 _ q78) rfl (Or.inr rfl) hK 1 rfl hP hD hS hA 60 (by decide) 1 (by decide) q226 rfl rfl (fun _ => rfl) (fun _ => rfl) (Nat.le_of_ble_eq_true rfl) (Nat.le_of_ble_eq_true rfl) (Nat.le_of_ble_eq_true rfl) dX2_init_15 dX2_init_17 (fun a1 H locs hP hD hS => ?_)
  have hP : va_P D vwCl ((h, .inr (1, [.ref a0, .ref a1, .null, .null])) :: [(a0, .inl (cI, 60, .inl (fun _ => nI 0))), (a1, .inl (cZ, 60, .inl (fun _ => nI 0)))]) H := hP
  have hD : va_D A ((h, .inr (1, [.ref a0, .ref a1, .null, .null])) :: [(a0, .inl (cI, 60, .inl (fun _ => nI 0))), (a1, .inl (cZ, 60, .inl (fun _ => nI 0)))]) := hD
  refine W.widen (k := 2) (n := 120) (Nat.le_of_ble_eq_true rfl) (Nat.le_of_ble_eq_true rfl) ?_
  refine lv_aload_n hx hb dX2_init_20 rfl (lv_at hl 0 rfl) ?_
  refine nw_iconst hx hb 2 dX2_init_21 (by decide) ?_
  refine ii_f2 (ty := .int) (cA0 := cI) X hin2 (X.2.2.2.2 _ q77) rfl (Or.inl rfl) hK 0 rfl hP hD hS hA 2 (by decide) 2 (by decide) q227 rfl rfl (fun _ => rfl) (fun _ => rfl) (Nat.le_of_ble_eq_true rfl) (Nat.le_of_ble_eq_true rfl) (Nat.le_of_ble_eq_true rfl) dX2_init_22 dX2_init_24 (fun a2 H locs hP hD hS => ?_)
  have hP : va_P D vwCl ((h, .inr (1, [.ref a0, .ref a1, .ref a2, .null])) :: [(a0, .inl (cI, 60, .inl (fun _ => nI 0))), (a1, .inl (cZ, 60, .inl (fun _ => nI 0))), (a2, .inl (cI, 2, .inl (fun _ => nI 0)))]) H := hP
  have hD : va_D A ((h, .inr (1, [.ref a0, .ref a1, .ref a2, .null])) :: [(a0, .inl (cI, 60, .inl (fun _ => nI 0))), (a1, .inl (cZ, 60, .inl (fun _ => nI 0))), (a2, .inl (cI, 2, .inl (fun _ => nI 0)))]) := hD
  refine W.widen (k := 3) (n := 122) (Nat.le_of_ble_eq_true rfl) (Nat.le_of_ble_eq_true rfl) ?_
  refine lv_aload_n hx hb dX2_init_27 rfl (lv_at hl 0 rfl) ?_
  refine nw_iconst hx hb 2 dX2_init_28 (by decide) ?_
  refine ii_f2 (ty := .int) (cA0 := cI) X hin2 (X.2.2.2.2 _ q77) rfl (Or.inl rfl) hK 0 rfl hP hD hS hA 2 (by decide) 3 (by decide) q228 rfl rfl (fun _ => rfl) (fun _ => rfl) (Nat.le_of_ble_eq_true rfl) (Nat.le_of_ble_eq_true rfl) (Nat.le_of_ble_eq_true rfl) dX2_init_29 dX2_init_31 (fun a3 H locs hP hD hS => ?_)
  have hP : va_P D vwCl ((h, .inr (1, [.ref a0, .ref a1, .ref a2, .ref a3])) :: [(a0, .inl (cI, 60, .inl (fun _ => nI 0))), (a1, .inl (cZ, 60, .inl (fun _ => nI 0))), (a2, .inl (cI, 2, .inl (fun _ => nI 0))), (a3, .inl (cI, 2, .inl (fun _ => nI 0)))]) H := hP
  have hD : va_D A ((h, .inr (1, [.ref a0, .ref a1, .ref a2, .ref a3])) :: [(a0, .inl (cI, 60, .inl (fun _ => nI 0))), (a1, .inl (cZ, 60, .inl (fun _ => nI 0))), (a2, .inl (cI, 2, .inl (fun _ => nI 0))), (a3, .inl (cI, 2, .inl (fun _ => nI 0)))]) := hD
  refine W.widen (k := 4) (n := 124) (Nat.le_of_ble_eq_true rfl) (Nat.le_of_ble_eq_true rfl) ?_
  have hP : va_P D vwCl (mm_W h (fun k => [a0, a1, a2, a3].getD k 0) cI cZ mm_s0) H := hP
  have hD : va_D A (mm_W h (fun k => [a0, a1, a2, a3].getD k 0) cI cZ mm_s0) := hD
  exact W.vret hx hb hr (fun t ht hWm => ⟨⟨(fun k => [a0, a1, a2, a3].getD k 0, cI, cZ), rfl, trivial, by rw [ht]; exact hP, va_K.moved hWm.alike hK, hD⟩, hS.F ht⟩) hS.2.2 dX2_init_34
end IM
set_option maxHeartbeats 4000000 in
set_option maxRecDepth 100000 in
theorem mm_k_init (l : Launch) (D : va_G) (h sz : Nat) (x : Int32) : Met l yX2_init wsX2_init rmX2_init (va_Pc [.ref h, .int x] (fun U => U.heap.size = sz ∧ va_P D vwCl [(h, .inr (1, mm_f0))] U.heap ∧ va_K D vwCl [] U ∧ va_D (fun _ => True) [(h, .inr (1, mm_f0))])) (va_Qv (fun _ : mm_U => True) (mm_Bi D h (va_A [(h, .inr (1, mm_f0))] sz)) (va_A [(h, .inr (1, mm_f0))] sz)) 4 124 (va_A [(h, .inr (1, mm_f0))] sz) := by
  refine Met.ofW (cc := cX2_init) (maxL := 2) (ret := none) (show plainName RX2 = true by decide) rfl ?_
  intro p e s m args below meth c s₁ B hml hv
  obtain ⟨rfl, hsz, hP, hK0, hD0⟩ := hv
  have hts := atoms_spec (ws := wsX2_init) B.pre
  have hts : ∀ w ∈ lw_all, w.before _ s = true := fun w h => hts w (List.mem_cons_of_mem _ h)
  have hown : s.vm.findClass RX2 = some m.cls := findClass_of_methodNamed B.named
  have hin2 : meth.name = "<init>" := (name_of_methodNamed B.named B.method).1
  subst hsz
  have hD := hD0.self (sz := s.heap.size)
  have hA : ∀ q : Nat, s.heap.size ≤ q → va_A [(h, .inr (1, mm_f0))] s.heap.size q := fun q h => Or.inr h
  obtain ⟨cI, hKI⟩ := ii_cls (Or.inl rfl) (hts _ q77) hK0
  obtain ⟨cZ, hKZ⟩ := ii_cls (Or.inr rfl) (hts _ q78) hK0
  have hK : va_K D vwCl (ll_ty cI cZ) s := hKI.app hKZ
  have hl := lv_entry ([.ref h, .int x]) (n := 2) (Nat.le_of_ble_eq_true rfl)
  rw [lg_entry_eq]
  exact mm_b_init ⟨B.exec, B.bytes, hml, hown, hts⟩ B.returns B.notSynchronized hin2 hK hP hD hA hl
/-! the law's cell: some int of the script, or 0 -/
abbrev rmX0_cell : Room := { frames := 0, cells := 0, slots := 0, locals := 0 }
abbrev wsX0_cell : List Cond := ws_ yX0_cell cX0_cell 2 (some .int)
set_option maxHeartbeats 4000000 in
set_option maxRecDepth 100000 in
theorem lz_k_cell (l : Launch) (b L : Nat) (xs : Nat → Int32) (hL : L ≤ 257) : Met l yX0_cell wsX0_cell rmX0_cell (va_Pc [.ref b, .int (nI 0)] (fun U => va_X b L xs U U.heap ∧ b < U.heap.size)) (va_Qi (fun (_ : Int32) (_ : Unit) => True) (fun _ _ => True) (fun _ => False)) 0 0 (fun _ => False) := by
  refine Met.ofW (cc := cX0_cell) (maxL := 2) (ret := some .int) (show plainName RX0 = true by decide) rfl ?_
  intro p e s m args below meth c s₁ B hml hv
  obtain ⟨rfl, hX, hbl⟩ := hv
  have hx := B.exec
  have hb := B.bytes
  have hr := B.returns
  have hlocks := B.notSynchronized
  have hS : va_S (fun _ => False) s.heap s.heap [] := va_S.rf
  have hl := lv_entry ([.ref b, .int (nI 0)]) (n := 2) (Nat.le_of_ble_eq_true rfl)
  rw [lg_entry_eq]
  generalize (lg_sl ([.ref b, .int (nI 0)]) ++ List.replicate (2 - (lg_sl ([.ref b, .int (nI 0)])).length) Slot.unset).toArray = ls at hl ⊢
  have hl : lv_has ls 2 [(0, .ref b), (1, .int (nI 0))] := hl
  refine lv_iload_n hx hb dX0_cell_0 rfl (lv_at hl 1 rfl) ?_
  refine lv_aload_n hx hb dX0_cell_1 rfl (lv_at hl 0 rfl) ?_
  refine va_slen hx hb hX hbl (fun h => h) hS dX0_cell_2 ?_
  refine lv_icmp_ge (tgt := 12) hx hb dX0_cell_3 (by decide) (fun c1 => ?_) (fun c1 => ?_)
  · refine lv_iconst (v := 0) hx hb dX0_cell_12 (by decide) ?_
    exact W.iret hx hb hr (fun t ht hW => ⟨⟨0, (), rfl, trivial, trivial⟩, hS.F ht⟩) hS.2.2 dX0_cell_13
  · have hlt : 0 < L := by
      rcases Nat.eq_zero_or_pos L with q | q
      · exact absurd (by rw [q]; exact Int32.le_refl _) c1
      · exact q
    refine lv_aload_n hx hb dX0_cell_6 rfl (lv_at hl 0 rfl) ?_
    refine lv_iload_n hx hb dX0_cell_7 rfl (lv_at hl 1 rfl) ?_
    refine va_sld hx hb hX hbl (fun h => h) hS (vp_in_nI hlt (by omega)) dX0_cell_8 ?_
    refine lv_goto (tgt := 13) hx hb dX0_cell_9 (by decide) ?_
    exact W.iret hx hb hr (fun t ht hW => ⟨⟨_, (), rfl, trivial, trivial⟩, hS.F ht⟩) hS.2.2 dX0_cell_13
end
section
/-! THE CLAIM OUT OF ONE WALK OF THE LAW'S BODY. Your part is whole_start (and what it stands on); all else here is the same for every law, but numbers. -/
def R_law : String := "LossyLinkLaw"
def lw_P (b : Addr) (xs : List Int32) (args : Array Value) (s : State) : Prop := args = #[.ref b] ∧ s.IntsAt b xs ∧ xs.length ≤ 257 ∧ (Jvm.Cond.and given_1 narrow_1).before args s = true
def lw_Q (_ : Array Value) (s : State) (o : Outcome) (t : State) : Prop := o = .returned (some (.int 1)) ∧ Framed s o t [] 600000 7290000
def lw_Z (below : List Frame) (a : Array Value) (s : State) : State → Prop := fun t => ∃ o, t.status = .running ∧ Ended t below o ∧ lw_Q a s o t
/-- the law's own end, with 1 on the stack, nothing written that was there before, its room as the claim has it -/
theorem lw_ret {p : Program} {l : Launch} {e : Env} {s : State} {m : MethodId} {below : List Frame} {meth : Method} {c : Code} {b : Nat} (hx : p.tables.exec = Jvm.exec) (hb : c.code = code) (hr : meth.sig.returnType = ret) (hlocks : meth.locks = false) {pc : Nat} {H : Heap} {ls : Array Slot} (hdg : decode code pc = .ok (.ireturn, 1)) : W p l e room_1 s m #[Value.ref b] below meth c H [] 600000 7290000 (lw_Z below #[Value.ref b] s) (F0 m pc ls [.int 1]) := by
  intro T hT X
  obtain ⟨fs, hret, hrun, hended, hW, hframe⟩ := X.leave (v := some (.int 1)) (hlocks := hlocks) (fun h => by rw [hr] at h; cases h)
  have hmeth' : T.vm.method? m = some meth := X.method'
  refine ⟨T.setFrames fs, ?_, .returned (some (.int 1)), hrun, hended, rfl, ⟨_, rfl⟩, hW, hframe⟩
  jvm_step X.here [X.here.top, hx, hb, hdg, hmeth', hr, ret, narrow_b1]
  (try refine ⟨rfl, ?_⟩); (try refine ⟨rfl, ?_⟩)
  first | (intro acts; rw [hret _ acts rfl rfl rfl]) | rw [hret _ _ rfl rfl rfl]
  exact Steps.refl _
/-- what holds at the law's entry: the machine, the code, the tables' words (any of lw_tbl by 'hts w (by decide +kernel)'), the script of L ints xs at the cell b, what the Statement gives of the start (any of its parts by flat_of_before) -/
def lw_At (p : Program) (s : State) (m : MethodId) (meth : Method) (c : Code) (b L : Nat) (xs : Nat → Int32) : Prop :=
  p.tables.exec = Jvm.exec ∧ c.code = code ∧ meth.sig.returnType = ret ∧ c.maxLocals = 4 ∧ s.vm.findClass R_law = some m.cls ∧ (∀ w ∈ lw_tbl, w.before #[Value.ref b] s = true) ∧ va_X b L xs s s.heap ∧ b < s.heap.size ∧ meth.locks = false ∧ (Jvm.Cond.and given_1 narrow_1).before #[Value.ref b] s = true
/-! the law's world: a LossyLink and a LossyLinkModel -/
def lz_Z (D : va_G) (h : Nat) (ad : Nat → Nat) (cI cZ : ClassId) (g : Nat) (ae : Nat → Nat) (dI dZ : ClassId) (s : State) (σ μ : ll_St) (H : Heap) (locs : List Loc) : Prop := (va_K D vwCl (ll_ty cI cZ) s ∧ va_K D vwCl (ll_ty dI dZ) s) ∧ va_P D vwCl (ll_W h ad cI cZ σ ++ mm_W g ae dI dZ μ) H ∧ va_D (fun q : Nat => s.heap.size ≤ q) (ll_W h ad cI cZ σ ++ mm_W g ae dI dZ μ) ∧ va_S (fun q : Nat => s.heap.size ≤ q) s.heap H locs
abbrev lz_C (p : Program) (m : MethodId) (c : Code) (s : State) (args : Array Value) : Prop := CallFix p m c cL_law 4 s args lw_all R_law
section LZ
variable {p : Program} {l : Launch} {e : Env} {R : Room} {s : State} {m : MethodId} {args : Array Value} {below : List Frame} {meth : Method} {c : Code} {H : Heap} {locs : List Loc} {cells slots : Nat} {Q : State → Prop} {pc : Nat} {ls : Array Slot} {rest : List Value} {D : va_G} {h g : Nat} {ad ae : Nat → Nat} {cI cZ dI dZ : ClassId} {σ τ μ : ll_St} {ρ : Int32}
set_option maxHeartbeats 4000000 in
theorem lz_c1 {y : MethodName} {bytes : ByteArray} {maxL n index : Nat} {ty : FieldType} {rm : Room} {As : List Value} {st0 : List Value} (X : lz_C p m c s args) (Z : lz_Z D h ad cI cZ g ae dI dZ s σ μ H locs) (hM : ll_Mi l y (ws_ y bytes maxL (some ty)) rm As σ τ ρ) (cw : CallW R s args R_law RX1 index y bytes maxL (some ty) (ws_ y bytes maxL (some ty)) rm 0 0 n) (hn : As.length = n) (hsz : ls.size = 4) (hst : st0 = As.reverse ++ .ref h :: rest) (hro : (rest.map fun v => v.category).sum ≤ 8) (hcap : cells ≤ R.cells ∧ slots ≤ R.slots) (hdg : decode cL_law pc = .ok (.invokevirtual index, 3))
    (kk : ∀ (H1 : Heap) (locs1 : List Loc), lz_Z D h ad cI cZ g ae dI dZ s τ μ H1 locs1 → W p l e R s m args below meth c H1 locs1 cells slots Q (F0 m (pc + 3) ls (.int ρ :: rest))) : W p l e R s m args below meth c H locs cells slots Q (F0 m pc ls st0) := by
  obtain ⟨⟨hK1, hK2⟩, hP, hD, hS⟩ := Z
  have hA : ∀ q : Nat, s.heap.size ≤ q → (fun q : Nat => s.heap.size ≤ q) q := fun _ h => h
  have hPc := hP.sub (ws' := ll_W h ad cI cZ σ) [0, 1, 2, 3, 4, 5, 6, 7, 8, 9, 10, 11, 12, 13, 14] rfl
  have hDc := hD.sub (ws' := ll_W h ad cI cZ σ) [0, 1, 2, 3, 4, 5, 6, 7, 8, 9, 10, 11, 12, 13, 14] (by decide) rfl
  have hFc := va_free (wc := ll_W h ad cI cZ σ) hD hS hA [0, 1, 2, 3, 4, 5, 6, 7, 8, 9, 10, 11, 12, 13, 14] rfl
  refine va_calli (va_runV (As := As) (rest := rest) X (hM D h ad cI cZ H.size) cw ⟨ll_blind _ _, va_recv hK1 hPc (ci := 0) (q0 := 0) rfl rfl, fun U hU hW => ⟨rfl, by rw [hU], by rw [hU]; exact hPc, va_K.moved hW.alike hK1, hDc.weaken (fun _ _ _ _ => trivial)⟩⟩ rfl hn hsz hst (lv_room hro) hdg hcap) hS (fun q _ h => hFc q h) hFc (fun r u t H1 locs1 ht hvm hu hB hz1 hk1 hS1 => ?_)
  obtain ⟨hP1, hKx, hD1⟩ := hB
  obtain ⟨hu0, hu⟩ := hu
  subst hu
  subst hu0
  rw [ht] at hP1
  obtain ⟨hP2, hD2⟩ := va_join (wr := mm_W g ae dI dZ μ) hP hD [0, 1, 2, 3, 4, 5, 6, 7, 8, 9, 10, 11, 12, 13, 14] [15, 16, 17, 18, 19] rfl rfl (by decide) (by decide) hk1 hFc hP1 hD1
  exact kk H1 locs1 ⟨⟨hK1, hK2⟩, hP2.sub [5, 6, 7, 8, 9, 10, 11, 12, 13, 14, 15, 16, 17, 18, 19, 0, 1, 2, 3, 4] rfl, hD2.sub [5, 6, 7, 8, 9, 10, 11, 12, 13, 14, 15, 16, 17, 18, 19, 0, 1, 2, 3, 4] (by decide) rfl, hS1⟩
set_option maxHeartbeats 4000000 in
theorem lz_v1 {y : MethodName} {bytes : ByteArray} {maxL n index : Nat} {rm : Room} {As : List Value} {st0 : List Value} (X : lz_C p m c s args) (Z : lz_Z D h ad cI cZ g ae dI dZ s σ μ H locs) (hM : ll_Mv l y (ws_ y bytes maxL none) rm As σ τ) (cw : CallW R s args R_law RX1 index y bytes maxL none (ws_ y bytes maxL none) rm 0 0 n) (hn : As.length = n) (hsz : ls.size = 4) (hst : st0 = As.reverse ++ .ref h :: rest) (hro : (rest.map fun v => v.category).sum ≤ 8) (hcap : cells ≤ R.cells ∧ slots ≤ R.slots) (hdg : decode cL_law pc = .ok (.invokevirtual index, 3))
    (kk : ∀ (H1 : Heap) (locs1 : List Loc), lz_Z D h ad cI cZ g ae dI dZ s τ μ H1 locs1 → W p l e R s m args below meth c H1 locs1 cells slots Q (F0 m (pc + 3) ls rest)) : W p l e R s m args below meth c H locs cells slots Q (F0 m pc ls st0) := by
  obtain ⟨⟨hK1, hK2⟩, hP, hD, hS⟩ := Z
  have hA : ∀ q : Nat, s.heap.size ≤ q → (fun q : Nat => s.heap.size ≤ q) q := fun _ h => h
  have hPc := hP.sub (ws' := ll_W h ad cI cZ σ) [0, 1, 2, 3, 4, 5, 6, 7, 8, 9, 10, 11, 12, 13, 14] rfl
  have hDc := hD.sub (ws' := ll_W h ad cI cZ σ) [0, 1, 2, 3, 4, 5, 6, 7, 8, 9, 10, 11, 12, 13, 14] (by decide) rfl
  have hFc := va_free (wc := ll_W h ad cI cZ σ) hD hS hA [0, 1, 2, 3, 4, 5, 6, 7, 8, 9, 10, 11, 12, 13, 14] rfl
  refine va_callv (va_runV (As := As) (rest := rest) X (hM D h ad cI cZ H.size) cw ⟨ll_blind _ _, va_recv hK1 hPc (ci := 0) (q0 := 0) rfl rfl, fun U hU hW => ⟨rfl, by rw [hU], by rw [hU]; exact hPc, va_K.moved hW.alike hK1, hDc.weaken (fun _ _ _ _ => trivial)⟩⟩ rfl hn hsz hst (lv_room hro) hdg hcap) hS (fun q _ h => hFc q h) hFc (fun u t H1 locs1 ht hvm hu hB hz1 hk1 hS1 => ?_)
  obtain ⟨hP1, hKx, hD1⟩ := hB
  subst hu
  rw [ht] at hP1
  obtain ⟨hP2, hD2⟩ := va_join (wr := mm_W g ae dI dZ μ) hP hD [0, 1, 2, 3, 4, 5, 6, 7, 8, 9, 10, 11, 12, 13, 14] [15, 16, 17, 18, 19] rfl rfl (by decide) (by decide) hk1 hFc hP1 hD1
  exact kk H1 locs1 ⟨⟨hK1, hK2⟩, hP2.sub [5, 6, 7, 8, 9, 10, 11, 12, 13, 14, 15, 16, 17, 18, 19, 0, 1, 2, 3, 4] rfl, hD2.sub [5, 6, 7, 8, 9, 10, 11, 12, 13, 14, 15, 16, 17, 18, 19, 0, 1, 2, 3, 4] (by decide) rfl, hS1⟩
set_option maxHeartbeats 4000000 in
theorem lz_c2 {y : MethodName} {bytes : ByteArray} {maxL n index : Nat} {ty : FieldType} {rm : Room} {As : List Value} {st0 : List Value} (X : lz_C p m c s args) (Z : lz_Z D h ad cI cZ g ae dI dZ s σ μ H locs) (hM : mm_Mi l y (ws_ y bytes maxL (some ty)) rm As μ τ ρ) (cw : CallW R s args R_law RX2 index y bytes maxL (some ty) (ws_ y bytes maxL (some ty)) rm 0 0 n) (hn : As.length = n) (hsz : ls.size = 4) (hst : st0 = As.reverse ++ .ref g :: rest) (hro : (rest.map fun v => v.category).sum ≤ 8) (hcap : cells ≤ R.cells ∧ slots ≤ R.slots) (hdg : decode cL_law pc = .ok (.invokevirtual index, 3))
    (kk : ∀ (H1 : Heap) (locs1 : List Loc), lz_Z D h ad cI cZ g ae dI dZ s σ τ H1 locs1 → W p l e R s m args below meth c H1 locs1 cells slots Q (F0 m (pc + 3) ls (.int ρ :: rest))) : W p l e R s m args below meth c H locs cells slots Q (F0 m pc ls st0) := by
  obtain ⟨⟨hK1, hK2⟩, hP, hD, hS⟩ := Z
  have hA : ∀ q : Nat, s.heap.size ≤ q → (fun q : Nat => s.heap.size ≤ q) q := fun _ h => h
  have hPc := hP.sub (ws' := mm_W g ae dI dZ μ) [15, 16, 17, 18, 19] rfl
  have hDc := hD.sub (ws' := mm_W g ae dI dZ μ) [15, 16, 17, 18, 19] (by decide) rfl
  have hFc := va_free (wc := mm_W g ae dI dZ μ) hD hS hA [15, 16, 17, 18, 19] rfl
  refine va_calli (va_runV (As := As) (rest := rest) X (hM D g ae dI dZ H.size) cw ⟨mm_blind _ _, va_recv hK2 hPc (ci := 1) (q0 := 0) rfl rfl, fun U hU hW => ⟨rfl, by rw [hU], by rw [hU]; exact hPc, va_K.moved hW.alike hK2, hDc.weaken (fun _ _ _ _ => trivial)⟩⟩ rfl hn hsz hst (lv_room hro) hdg hcap) hS (fun q _ h => hFc q h) hFc (fun r u t H1 locs1 ht hvm hu hB hz1 hk1 hS1 => ?_)
  obtain ⟨hP1, hKx, hD1⟩ := hB
  obtain ⟨hu0, hu⟩ := hu
  subst hu
  subst hu0
  rw [ht] at hP1
  obtain ⟨hP2, hD2⟩ := va_join (wr := ll_W h ad cI cZ σ) hP hD [15, 16, 17, 18, 19] [0, 1, 2, 3, 4, 5, 6, 7, 8, 9, 10, 11, 12, 13, 14] rfl rfl (by decide) (by decide) hk1 hFc hP1 hD1
  exact kk H1 locs1 ⟨⟨hK1, hK2⟩, hP2, hD2, hS1⟩
set_option maxHeartbeats 4000000 in
theorem lz_v2 {y : MethodName} {bytes : ByteArray} {maxL n index : Nat} {rm : Room} {As : List Value} {st0 : List Value} (X : lz_C p m c s args) (Z : lz_Z D h ad cI cZ g ae dI dZ s σ μ H locs) (hM : mm_Mv l y (ws_ y bytes maxL none) rm As μ τ) (cw : CallW R s args R_law RX2 index y bytes maxL none (ws_ y bytes maxL none) rm 0 0 n) (hn : As.length = n) (hsz : ls.size = 4) (hst : st0 = As.reverse ++ .ref g :: rest) (hro : (rest.map fun v => v.category).sum ≤ 8) (hcap : cells ≤ R.cells ∧ slots ≤ R.slots) (hdg : decode cL_law pc = .ok (.invokevirtual index, 3))
    (kk : ∀ (H1 : Heap) (locs1 : List Loc), lz_Z D h ad cI cZ g ae dI dZ s σ τ H1 locs1 → W p l e R s m args below meth c H1 locs1 cells slots Q (F0 m (pc + 3) ls rest)) : W p l e R s m args below meth c H locs cells slots Q (F0 m pc ls st0) := by
  obtain ⟨⟨hK1, hK2⟩, hP, hD, hS⟩ := Z
  have hA : ∀ q : Nat, s.heap.size ≤ q → (fun q : Nat => s.heap.size ≤ q) q := fun _ h => h
  have hPc := hP.sub (ws' := mm_W g ae dI dZ μ) [15, 16, 17, 18, 19] rfl
  have hDc := hD.sub (ws' := mm_W g ae dI dZ μ) [15, 16, 17, 18, 19] (by decide) rfl
  have hFc := va_free (wc := mm_W g ae dI dZ μ) hD hS hA [15, 16, 17, 18, 19] rfl
  refine va_callv (va_runV (As := As) (rest := rest) X (hM D g ae dI dZ H.size) cw ⟨mm_blind _ _, va_recv hK2 hPc (ci := 1) (q0 := 0) rfl rfl, fun U hU hW => ⟨rfl, by rw [hU], by rw [hU]; exact hPc, va_K.moved hW.alike hK2, hDc.weaken (fun _ _ _ _ => trivial)⟩⟩ rfl hn hsz hst (lv_room hro) hdg hcap) hS (fun q _ h => hFc q h) hFc (fun u t H1 locs1 ht hvm hu hB hz1 hk1 hS1 => ?_)
  obtain ⟨hP1, hKx, hD1⟩ := hB
  subst hu
  rw [ht] at hP1
  obtain ⟨hP2, hD2⟩ := va_join (wr := ll_W h ad cI cZ σ) hP hD [15, 16, 17, 18, 19] [0, 1, 2, 3, 4, 5, 6, 7, 8, 9, 10, 11, 12, 13, 14] rfl rfl (by decide) (by decide) hk1 hFc hP1 hD1
  exact kk H1 locs1 ⟨⟨hK1, hK2⟩, hP2, hD2, hS1⟩
/-- an int of the script on the stack -/
theorem lz_arg {b L i x1 x2 : Nat} {xs : Nat → Int32} (hx : p.tables.exec = Jvm.exec) (hb : c.code = cL_law) (hX : va_X b L xs s s.heap) (hbl : b < s.heap.size) (hS : va_S (fun q : Nat => s.heap.size ≤ q) s.heap H locs) (hL : L ≤ 257) (hl : lv_has ls 4 [(3, .int (nI i)), (0, .ref b), (1, .ref x1), (2, .ref x2)]) (j : Nat) (hj : i + j < L) {n : Int} (d0 : decode cL_law pc = .ok (.aload_n 0, 1)) (d1 : decode cL_law (pc + 1) = .ok (.iload_n 3, 1)) (d2 : decode cL_law (pc + 1 + 1) = .ok (.iconst n, 1)) (hn : Int32.ofInt n = nI j) (d3 : decode cL_law (pc + 1 + 1 + 1) = .ok (.iadd, 1)) (d4 : decode cL_law (pc + 1 + 1 + 1 + 1) = .ok (.iaload, 1)) (kk : W p l e R s m args below meth c H locs cells slots Q (F0 m (pc + 1 + 1 + 1 + 1 + 1) ls (.int (xs (i + j)) :: rest))) : W p l e R s m args below meth c H locs cells slots Q (F0 m pc ls rest) := by
  refine lv_aload_n hx hb d0 rfl (lv_at hl 1 rfl) ?_
  refine lv_iload_n hx hb d1 rfl (lv_at hl 0 rfl) ?_
  refine nw_iconst hx hb j d2 hn ?_
  refine nw_iadd hx hb d3 ?_
  refine va_sld hx hb hX hbl (Nat.not_le.mpr hbl) hS (vp_in_nI hj (by omega)) d4 ?_
  rw [nI_clamp (by omega)]
  exact kk
theorem lz_cmp {L i : Nat} (hL : L ≤ 257) (hi : i ≤ 300) : Int32.ofNat L - nI 4 < nI i ↔ ¬ i + 4 ≤ L := by
  rw [Int32.lt_iff_toInt_lt, show Int32.ofNat L = nI L from rfl, pk_sub_toInt (by omega) (by omega), nI_toInt (by omega)]
  omega
end LZ
theorem cwL1_give {s : State} {args : Array Value} (hts : ∀ w ∈ lw_all, w.before args s = true) : CallW room_1 s args R_law RX1 21 yX1_give cX1_give 5 (some .int) wsX1_give rmX1_give 0 0 3 := cwV 3 hts (lw_V q79 q80 q81 q21 q82) rfl rfl rfl (by decide +kernel) ⟨Nat.le_of_ble_eq_true rfl, Nat.le_of_ble_eq_true rfl⟩
theorem cwL2_give {s : State} {args : Array Value} (hts : ∀ w ∈ lw_all, w.before args s = true) : CallW room_1 s args R_law RX2 25 yX2_give cX2_give 5 (some .int) wsX2_give rmX2_give 0 0 3 := cwV 3 hts (lw_V q238 q239 q240 q22 q241) rfl rfl rfl (by decide +kernel) ⟨Nat.le_of_ble_eq_true rfl, Nat.le_of_ble_eq_true rfl⟩
theorem cwL1_take {s : State} {args : Array Value} (hts : ∀ w ∈ lw_all, w.before args s = true) : CallW room_1 s args R_law RX1 26 yX1_take cX1_take 4 (some .int) wsX1_take rmX1_take 0 0 1 := cwV 1 hts (lw_V q105 q106 q107 q21 q108) rfl rfl rfl (by decide +kernel) ⟨Nat.le_of_ble_eq_true rfl, Nat.le_of_ble_eq_true rfl⟩
theorem cwL2_take {s : State} {args : Array Value} (hts : ∀ w ∈ lw_all, w.before args s = true) : CallW room_1 s args R_law RX2 30 yX2_take cX2_take 3 (some .int) wsX2_take rmX2_take 0 0 1 := cwV 1 hts (lw_V q246 q247 q248 q22 q249) rfl rfl rfl (by decide +kernel) ⟨Nat.le_of_ble_eq_true rfl, Nat.le_of_ble_eq_true rfl⟩
theorem cwL1_takeMessage {s : State} {args : Array Value} (hts : ∀ w ∈ lw_all, w.before args s = true) : CallW room_1 s args R_law RX1 31 yX1_takeMessage cX1_takeMessage 6 (some .int) wsX1_takeMessage rmX1_takeMessage 0 0 1 := cwV 1 hts (lw_V q164 q165 q166 q21 q167) rfl rfl rfl (by decide +kernel) ⟨Nat.le_of_ble_eq_true rfl, Nat.le_of_ble_eq_true rfl⟩
theorem cwL2_takeMessage {s : State} {args : Array Value} (hts : ∀ w ∈ lw_all, w.before args s = true) : CallW room_1 s args R_law RX2 34 yX2_takeMessage cX2_takeMessage 3 (some .int) wsX2_takeMessage rmX2_takeMessage 0 0 1 := cwV 1 hts (lw_V q254 q255 q256 q22 q257) rfl rfl rfl (by decide +kernel) ⟨Nat.le_of_ble_eq_true rfl, Nat.le_of_ble_eq_true rfl⟩
theorem cwL1_skip {s : State} {args : Array Value} (hts : ∀ w ∈ lw_all, w.before args s = true) : CallW room_1 s args R_law RX1 35 yX1_skip cX1_skip 4 (some .int) wsX1_skip rmX1_skip 0 0 1 := cwV 1 hts (lw_V q176 q177 q178 q21 q179) rfl rfl rfl (by decide +kernel) ⟨Nat.le_of_ble_eq_true rfl, Nat.le_of_ble_eq_true rfl⟩
theorem cwL2_skip {s : State} {args : Array Value} (hts : ∀ w ∈ lw_all, w.before args s = true) : CallW room_1 s args R_law RX2 38 yX2_skip cX2_skip 3 (some .int) wsX2_skip rmX2_skip 0 0 1 := cwV 1 hts (lw_V q258 q259 q260 q22 q261) rfl rfl rfl (by decide +kernel) ⟨Nat.le_of_ble_eq_true rfl, Nat.le_of_ble_eq_true rfl⟩
theorem cwL1_reset {s : State} {args : Array Value} (hts : ∀ w ∈ lw_all, w.before args s = true) : CallW room_1 s args R_law RX1 39 yX1_reset cX1_reset 2 none wsX1_reset rmX1_reset 0 0 0 := cwV 0 hts (lw_V q180 q181 q182 q21 q183) rfl rfl rfl (by decide +kernel) ⟨Nat.le_of_ble_eq_true rfl, Nat.le_of_ble_eq_true rfl⟩
theorem cwL2_reset {s : State} {args : Array Value} (hts : ∀ w ∈ lw_all, w.before args s = true) : CallW room_1 s args R_law RX2 42 yX2_reset cX2_reset 1 none wsX2_reset rmX2_reset 0 0 0 := cwV 0 hts (lw_V q262 q263 q264 q22 q265) rfl rfl rfl (by decide +kernel) ⟨Nat.le_of_ble_eq_true rfl, Nat.le_of_ble_eq_true rfl⟩
theorem cwL1_carry {s : State} {args : Array Value} (hts : ∀ w ∈ lw_all, w.before args s = true) : CallW room_1 s args R_law RX1 43 yX1_carry cX1_carry 5 (some .int) wsX1_carry rmX1_carry 0 0 3 := cwV 3 hts (lw_V q184 q185 q186 q21 q187) rfl rfl rfl (by decide +kernel) ⟨Nat.le_of_ble_eq_true rfl, Nat.le_of_ble_eq_true rfl⟩
theorem cwL2_carry {s : State} {args : Array Value} (hts : ∀ w ∈ lw_all, w.before args s = true) : CallW room_1 s args R_law RX2 47 yX2_carry cX2_carry 4 (some .int) wsX2_carry rmX2_carry 0 0 3 := cwV 3 hts (lw_V q266 q267 q268 q22 q269) rfl rfl rfl (by decide +kernel) ⟨Nat.le_of_ble_eq_true rfl, Nat.le_of_ble_eq_true rfl⟩
theorem cwL1_fire {s : State} {args : Array Value} (hts : ∀ w ∈ lw_all, w.before args s = true) : CallW room_1 s args R_law RX1 48 yX1_fire cX1_fire 2 (some .int) wsX1_fire rmX1_fire 0 0 1 := cwV 1 hts (lw_V q188 q189 q190 q21 q191) rfl rfl rfl (by decide +kernel) ⟨Nat.le_of_ble_eq_true rfl, Nat.le_of_ble_eq_true rfl⟩
theorem cwL2_fire {s : State} {args : Array Value} (hts : ∀ w ∈ lw_all, w.before args s = true) : CallW room_1 s args R_law RX2 51 yX2_fire cX2_fire 2 (some .int) wsX2_fire rmX2_fire 0 0 1 := cwV 1 hts (lw_V q270 q271 q272 q22 q273) rfl rfl rfl (by decide +kernel) ⟨Nat.le_of_ble_eq_true rfl, Nat.le_of_ble_eq_true rfl⟩
theorem cwL1_waiting {s : State} {args : Array Value} (hts : ∀ w ∈ lw_all, w.before args s = true) : CallW room_1 s args R_law RX1 52 yX1_waiting cX1_waiting 2 (some .int) wsX1_waiting rmX1_waiting 0 0 1 := cwV 1 hts (lw_V q192 q193 q194 q21 q195) rfl rfl rfl (by decide +kernel) ⟨Nat.le_of_ble_eq_true rfl, Nat.le_of_ble_eq_true rfl⟩
theorem cwL2_waiting {s : State} {args : Array Value} (hts : ∀ w ∈ lw_all, w.before args s = true) : CallW room_1 s args R_law RX2 55 yX2_waiting cX2_waiting 2 (some .int) wsX2_waiting rmX2_waiting 0 0 1 := cwV 1 hts (lw_V q274 q275 q276 q22 q277) rfl rfl rfl (by decide +kernel) ⟨Nat.le_of_ble_eq_true rfl, Nat.le_of_ble_eq_true rfl⟩
theorem cwL1_messages {s : State} {args : Array Value} (hts : ∀ w ∈ lw_all, w.before args s = true) : CallW room_1 s args R_law RX1 56 yX1_messages cX1_messages 2 (some .int) wsX1_messages rmX1_messages 0 0 1 := cwV 1 hts (lw_V q196 q197 q198 q21 q199) rfl rfl rfl (by decide +kernel) ⟨Nat.le_of_ble_eq_true rfl, Nat.le_of_ble_eq_true rfl⟩
theorem cwL2_messages {s : State} {args : Array Value} (hts : ∀ w ∈ lw_all, w.before args s = true) : CallW room_1 s args R_law RX2 59 yX2_messages cX2_messages 4 (some .int) wsX2_messages rmX2_messages 0 0 1 := cwV 1 hts (lw_V q278 q279 q280 q22 q281) rfl rfl rfl (by decide +kernel) ⟨Nat.le_of_ble_eq_true rfl, Nat.le_of_ble_eq_true rfl⟩
theorem cwL1_peek {s : State} {args : Array Value} (hts : ∀ w ∈ lw_all, w.before args s = true) : CallW room_1 s args R_law RX1 60 yX1_peek cX1_peek 4 (some .int) wsX1_peek rmX1_peek 0 0 2 := cwV 2 hts (lw_V q200 q201 q202 q21 q203) rfl rfl rfl (by decide +kernel) ⟨Nat.le_of_ble_eq_true rfl, Nat.le_of_ble_eq_true rfl⟩
theorem cwL2_peek {s : State} {args : Array Value} (hts : ∀ w ∈ lw_all, w.before args s = true) : CallW room_1 s args R_law RX2 64 yX2_peek cX2_peek 3 (some .int) wsX2_peek rmX2_peek 0 0 2 := cwV 2 hts (lw_V q282 q283 q284 q22 q285) rfl rfl rfl (by decide +kernel) ⟨Nat.le_of_ble_eq_true rfl, Nat.le_of_ble_eq_true rfl⟩
theorem cwL1_ends {s : State} {args : Array Value} (hts : ∀ w ∈ lw_all, w.before args s = true) : CallW room_1 s args R_law RX1 65 yX1_ends cX1_ends 4 (some .boolean) wsX1_ends rmX1_ends 0 0 2 := cwV 2 hts (lw_V q204 q205 q206 q21 q207) rfl rfl rfl (by decide +kernel) ⟨Nat.le_of_ble_eq_true rfl, Nat.le_of_ble_eq_true rfl⟩
theorem cwL2_ends {s : State} {args : Array Value} (hts : ∀ w ∈ lw_all, w.before args s = true) : CallW room_1 s args R_law RX2 69 yX2_ends cX2_ends 3 (some .boolean) wsX2_ends rmX2_ends 0 0 2 := cwV 2 hts (lw_V q286 q287 q288 q22 q289) rfl rfl rfl (by decide +kernel) ⟨Nat.le_of_ble_eq_true rfl, Nat.le_of_ble_eq_true rfl⟩
theorem cwL1_done {s : State} {args : Array Value} (hts : ∀ w ∈ lw_all, w.before args s = true) : CallW room_1 s args R_law RX1 70 yX1_done cX1_done 2 (some .int) wsX1_done rmX1_done 0 0 1 := cwV 1 hts (lw_V q208 q209 q210 q21 q211) rfl rfl rfl (by decide +kernel) ⟨Nat.le_of_ble_eq_true rfl, Nat.le_of_ble_eq_true rfl⟩
theorem cwL2_done {s : State} {args : Array Value} (hts : ∀ w ∈ lw_all, w.before args s = true) : CallW room_1 s args R_law RX2 73 yX2_done cX2_done 2 (some .int) wsX2_done rmX2_done 0 0 1 := cwV 1 hts (lw_V q290 q291 q292 q22 q293) rfl rfl rfl (by decide +kernel) ⟨Nat.le_of_ble_eq_true rfl, Nat.le_of_ble_eq_true rfl⟩
theorem cwL1_sum {s : State} {args : Array Value} (hts : ∀ w ∈ lw_all, w.before args s = true) : CallW room_1 s args R_law RX1 74 yX1_sum cX1_sum 5 (some .int) wsX1_sum rmX1_sum 0 0 1 := cwV 1 hts (lw_V q212 q213 q214 q21 q215) rfl rfl rfl (by decide +kernel) ⟨Nat.le_of_ble_eq_true rfl, Nat.le_of_ble_eq_true rfl⟩
theorem cwL2_sum {s : State} {args : Array Value} (hts : ∀ w ∈ lw_all, w.before args s = true) : CallW room_1 s args R_law RX2 77 yX2_sum cX2_sum 4 (some .int) wsX2_sum rmX2_sum 0 0 1 := cwV 1 hts (lw_V q294 q295 q296 q22 q297) rfl rfl rfl (by decide +kernel) ⟨Nat.le_of_ble_eq_true rfl, Nat.le_of_ble_eq_true rfl⟩
end
section
/-! the cases of the law's switch -/
section LC
variable {p : Program} {e : Env} {s : State} {m : MethodId} {below : List Frame} {meth : Method} {c : Code} {H : Heap} {locs : List Loc} {Q : State → Prop} {ls : Array Slot} {D : va_G} {h g : Nat} {ad ae : Nat → Nat} {cI cZ dI dZ : ClassId} {σ μ : ll_St} {b L i : Nat} {xs : Nat → Int32}
set_option maxHeartbeats 4000000 in
set_option maxRecDepth 100000 in
theorem lz_k_give (l : Launch) (X : lz_C p m c s #[Value.ref b]) (hX : va_X b L xs s s.heap) (hbl : b < s.heap.size) (hL : L ≤ 257) (hi : i + 4 ≤ L) (hl : lv_has ls 4 [(3, .int (nI i)), (0, .ref b), (1, .ref h), (2, .ref g)]) (hR : jt_R σ μ) (Z : lz_Z D h ad cI cZ g ae dI dZ s σ μ H locs) (K : ∀ (σ' μ' : ll_St) (H' : Heap) (locs' : List Loc), jt_R σ' μ' → lz_Z D h ad cI cZ g ae dI dZ s σ' μ' H' locs' → W p l e room_1 s m #[Value.ref b] below meth c H' locs' 20 325 Q (F0 m 471 ls [])) : W p l e room_1 s m #[Value.ref b] below meth c H locs 20 325 Q (F0 m 108 ls []) := by
  have hx := X.1
  have hb := X.2.1
  by_cases hz : xs (i + 3) = 0
  · obtain ⟨σ2, μ2, ρ, k1, k2, hR2⟩ := jt_give l hR (xs (i + 1)) (xs (i + 2)) (d := 0) (by decide)
    refine lv_aload_n hx hb dL_law_108 rfl (lv_at hl 2 rfl) ?_
    refine lz_arg hx hb hX hbl Z.2.2.2 hL hl 1 (by omega) dL_law_109 dL_law_110 dL_law_111 (by decide) dL_law_112 dL_law_113 ?_
    refine lz_arg hx hb hX hbl Z.2.2.2 hL hl 2 (by omega) dL_law_114 dL_law_115 dL_law_116 (by decide) dL_law_117 dL_law_118 ?_
    refine lz_arg hx hb hX hbl Z.2.2.2 hL hl 3 (by omega) dL_law_119 dL_law_120 dL_law_121 (by decide) dL_law_122 dL_law_123 ?_
    refine lv_if_eq (tgt := 131) hx hb dL_law_124 (by decide) (fun q => ?_) (fun q => ?_)
    rotate_left
    · exact absurd hz q
    refine nw_iconst hx hb 0 dL_law_131 (by decide) ?_
    refine lz_c1 X Z k1 (cwL1_give X.2.2.2.2) rfl hl.1 rfl (Nat.le_of_ble_eq_true rfl) ⟨Nat.le_of_ble_eq_true rfl, Nat.le_of_ble_eq_true rfl⟩ dL_law_132 (fun H locs Z => ?_)
    refine lv_aload_n hx hb dL_law_135 rfl (lv_at hl 3 rfl) ?_
    refine lz_arg hx hb hX hbl Z.2.2.2 hL hl 1 (by omega) dL_law_136 dL_law_137 dL_law_138 (by decide) dL_law_139 dL_law_140 ?_
    refine lz_arg hx hb hX hbl Z.2.2.2 hL hl 2 (by omega) dL_law_141 dL_law_142 dL_law_143 (by decide) dL_law_144 dL_law_145 ?_
    refine lz_arg hx hb hX hbl Z.2.2.2 hL hl 3 (by omega) dL_law_146 dL_law_147 dL_law_148 (by decide) dL_law_149 dL_law_150 ?_
    refine lv_if_eq (tgt := 158) hx hb dL_law_151 (by decide) (fun q => ?_) (fun q => ?_)
    rotate_left
    · exact absurd hz q
    refine nw_iconst hx hb 0 dL_law_158 (by decide) ?_
    refine lz_c2 X Z k2 (cwL2_give X.2.2.2.2) rfl hl.1 rfl (Nat.le_of_ble_eq_true rfl) ⟨Nat.le_of_ble_eq_true rfl, Nat.le_of_ble_eq_true rfl⟩ dL_law_159 (fun H locs Z => ?_)
    exact lv_icmp_eq (tgt := 471) hx hb dL_law_162 (by decide) (fun _ => K σ2 μ2 H locs hR2 Z) (fun q => absurd rfl q)
  · obtain ⟨σ2, μ2, ρ, k1, k2, hR2⟩ := jt_give l hR (xs (i + 1)) (xs (i + 2)) (d := 1) (by decide)
    refine lv_aload_n hx hb dL_law_108 rfl (lv_at hl 2 rfl) ?_
    refine lz_arg hx hb hX hbl Z.2.2.2 hL hl 1 (by omega) dL_law_109 dL_law_110 dL_law_111 (by decide) dL_law_112 dL_law_113 ?_
    refine lz_arg hx hb hX hbl Z.2.2.2 hL hl 2 (by omega) dL_law_114 dL_law_115 dL_law_116 (by decide) dL_law_117 dL_law_118 ?_
    refine lz_arg hx hb hX hbl Z.2.2.2 hL hl 3 (by omega) dL_law_119 dL_law_120 dL_law_121 (by decide) dL_law_122 dL_law_123 ?_
    refine lv_if_eq (tgt := 131) hx hb dL_law_124 (by decide) (fun q => ?_) (fun q => ?_)
    · exact absurd q hz
    refine nw_iconst hx hb 1 dL_law_127 (by decide) ?_
    refine lv_goto (tgt := 132) hx hb dL_law_128 (by decide) ?_
    refine lz_c1 X Z k1 (cwL1_give X.2.2.2.2) rfl hl.1 rfl (Nat.le_of_ble_eq_true rfl) ⟨Nat.le_of_ble_eq_true rfl, Nat.le_of_ble_eq_true rfl⟩ dL_law_132 (fun H locs Z => ?_)
    refine lv_aload_n hx hb dL_law_135 rfl (lv_at hl 3 rfl) ?_
    refine lz_arg hx hb hX hbl Z.2.2.2 hL hl 1 (by omega) dL_law_136 dL_law_137 dL_law_138 (by decide) dL_law_139 dL_law_140 ?_
    refine lz_arg hx hb hX hbl Z.2.2.2 hL hl 2 (by omega) dL_law_141 dL_law_142 dL_law_143 (by decide) dL_law_144 dL_law_145 ?_
    refine lz_arg hx hb hX hbl Z.2.2.2 hL hl 3 (by omega) dL_law_146 dL_law_147 dL_law_148 (by decide) dL_law_149 dL_law_150 ?_
    refine lv_if_eq (tgt := 158) hx hb dL_law_151 (by decide) (fun q => ?_) (fun q => ?_)
    · exact absurd q hz
    refine nw_iconst hx hb 1 dL_law_154 (by decide) ?_
    refine lv_goto (tgt := 159) hx hb dL_law_155 (by decide) ?_
    refine lz_c2 X Z k2 (cwL2_give X.2.2.2.2) rfl hl.1 rfl (Nat.le_of_ble_eq_true rfl) ⟨Nat.le_of_ble_eq_true rfl, Nat.le_of_ble_eq_true rfl⟩ dL_law_159 (fun H locs Z => ?_)
    exact lv_icmp_eq (tgt := 471) hx hb dL_law_162 (by decide) (fun _ => K σ2 μ2 H locs hR2 Z) (fun q => absurd rfl q)
set_option maxHeartbeats 4000000 in
set_option maxRecDepth 100000 in
theorem lz_k_take (l : Launch) (X : lz_C p m c s #[Value.ref b]) (hX : va_X b L xs s s.heap) (hbl : b < s.heap.size) (hL : L ≤ 257) (hi : i + 4 ≤ L) (hl : lv_has ls 4 [(3, .int (nI i)), (0, .ref b), (1, .ref h), (2, .ref g)]) (hR : jt_R σ μ) (Z : lz_Z D h ad cI cZ g ae dI dZ s σ μ H locs) (K : ∀ (σ' μ' : ll_St) (H' : Heap) (locs' : List Loc), jt_R σ' μ' → lz_Z D h ad cI cZ g ae dI dZ s σ' μ' H' locs' → W p l e room_1 s m #[Value.ref b] below meth c H' locs' 20 325 Q (F0 m 471 ls [])) : W p l e room_1 s m #[Value.ref b] below meth c H locs 20 325 Q (F0 m 167 ls []) := by
  have hx := X.1
  have hb := X.2.1
  obtain ⟨σ2, μ2, ρ, k1, k2, hR2⟩ := jt_take l hR (xs (i + 1))
  refine lv_aload_n hx hb dL_law_167 rfl (lv_at hl 2 rfl) ?_
  refine lz_arg hx hb hX hbl Z.2.2.2 hL hl 1 (by omega) dL_law_168 dL_law_169 dL_law_170 (by decide) dL_law_171 dL_law_172 ?_
  refine lz_c1 X Z k1 (cwL1_take X.2.2.2.2) rfl hl.1 rfl (Nat.le_of_ble_eq_true rfl) ⟨Nat.le_of_ble_eq_true rfl, Nat.le_of_ble_eq_true rfl⟩ dL_law_173 (fun H locs Z => ?_)
  refine lv_aload_n hx hb dL_law_176 rfl (lv_at hl 3 rfl) ?_
  refine lz_arg hx hb hX hbl Z.2.2.2 hL hl 1 (by omega) dL_law_177 dL_law_178 dL_law_179 (by decide) dL_law_180 dL_law_181 ?_
  refine lz_c2 X Z k2 (cwL2_take X.2.2.2.2) rfl hl.1 rfl (Nat.le_of_ble_eq_true rfl) ⟨Nat.le_of_ble_eq_true rfl, Nat.le_of_ble_eq_true rfl⟩ dL_law_182 (fun H locs Z => ?_)
  exact lv_icmp_eq (tgt := 471) hx hb dL_law_185 (by decide) (fun _ => K σ2 μ2 H locs hR2 Z) (fun q => absurd rfl q)
set_option maxHeartbeats 4000000 in
set_option maxRecDepth 100000 in
theorem lz_k_takeMessage (l : Launch) (X : lz_C p m c s #[Value.ref b]) (hX : va_X b L xs s s.heap) (hbl : b < s.heap.size) (hL : L ≤ 257) (hi : i + 4 ≤ L) (hl : lv_has ls 4 [(3, .int (nI i)), (0, .ref b), (1, .ref h), (2, .ref g)]) (hR : jt_R σ μ) (Z : lz_Z D h ad cI cZ g ae dI dZ s σ μ H locs) (K : ∀ (σ' μ' : ll_St) (H' : Heap) (locs' : List Loc), jt_R σ' μ' → lz_Z D h ad cI cZ g ae dI dZ s σ' μ' H' locs' → W p l e room_1 s m #[Value.ref b] below meth c H' locs' 20 325 Q (F0 m 471 ls [])) : W p l e room_1 s m #[Value.ref b] below meth c H locs 20 325 Q (F0 m 190 ls []) := by
  have hx := X.1
  have hb := X.2.1
  obtain ⟨σ2, μ2, ρ, k1, k2, hR2⟩ := jt_takeMessage l hR (xs (i + 1))
  refine lv_aload_n hx hb dL_law_190 rfl (lv_at hl 2 rfl) ?_
  refine lz_arg hx hb hX hbl Z.2.2.2 hL hl 1 (by omega) dL_law_191 dL_law_192 dL_law_193 (by decide) dL_law_194 dL_law_195 ?_
  refine lz_c1 X Z k1 (cwL1_takeMessage X.2.2.2.2) rfl hl.1 rfl (Nat.le_of_ble_eq_true rfl) ⟨Nat.le_of_ble_eq_true rfl, Nat.le_of_ble_eq_true rfl⟩ dL_law_196 (fun H locs Z => ?_)
  refine lv_aload_n hx hb dL_law_199 rfl (lv_at hl 3 rfl) ?_
  refine lz_arg hx hb hX hbl Z.2.2.2 hL hl 1 (by omega) dL_law_200 dL_law_201 dL_law_202 (by decide) dL_law_203 dL_law_204 ?_
  refine lz_c2 X Z k2 (cwL2_takeMessage X.2.2.2.2) rfl hl.1 rfl (Nat.le_of_ble_eq_true rfl) ⟨Nat.le_of_ble_eq_true rfl, Nat.le_of_ble_eq_true rfl⟩ dL_law_205 (fun H locs Z => ?_)
  exact lv_icmp_eq (tgt := 471) hx hb dL_law_208 (by decide) (fun _ => K σ2 μ2 H locs hR2 Z) (fun q => absurd rfl q)
set_option maxHeartbeats 4000000 in
set_option maxRecDepth 100000 in
theorem lz_k_skip (l : Launch) (X : lz_C p m c s #[Value.ref b]) (hX : va_X b L xs s s.heap) (hbl : b < s.heap.size) (hL : L ≤ 257) (hi : i + 4 ≤ L) (hl : lv_has ls 4 [(3, .int (nI i)), (0, .ref b), (1, .ref h), (2, .ref g)]) (hR : jt_R σ μ) (Z : lz_Z D h ad cI cZ g ae dI dZ s σ μ H locs) (K : ∀ (σ' μ' : ll_St) (H' : Heap) (locs' : List Loc), jt_R σ' μ' → lz_Z D h ad cI cZ g ae dI dZ s σ' μ' H' locs' → W p l e room_1 s m #[Value.ref b] below meth c H' locs' 20 325 Q (F0 m 471 ls [])) : W p l e room_1 s m #[Value.ref b] below meth c H locs 20 325 Q (F0 m 213 ls []) := by
  have hx := X.1
  have hb := X.2.1
  obtain ⟨σ2, μ2, ρ, k1, k2, hR2⟩ := jt_skip l hR (xs (i + 1))
  refine lv_aload_n hx hb dL_law_213 rfl (lv_at hl 2 rfl) ?_
  refine lz_arg hx hb hX hbl Z.2.2.2 hL hl 1 (by omega) dL_law_214 dL_law_215 dL_law_216 (by decide) dL_law_217 dL_law_218 ?_
  refine lz_c1 X Z k1 (cwL1_skip X.2.2.2.2) rfl hl.1 rfl (Nat.le_of_ble_eq_true rfl) ⟨Nat.le_of_ble_eq_true rfl, Nat.le_of_ble_eq_true rfl⟩ dL_law_219 (fun H locs Z => ?_)
  refine lv_aload_n hx hb dL_law_222 rfl (lv_at hl 3 rfl) ?_
  refine lz_arg hx hb hX hbl Z.2.2.2 hL hl 1 (by omega) dL_law_223 dL_law_224 dL_law_225 (by decide) dL_law_226 dL_law_227 ?_
  refine lz_c2 X Z k2 (cwL2_skip X.2.2.2.2) rfl hl.1 rfl (Nat.le_of_ble_eq_true rfl) ⟨Nat.le_of_ble_eq_true rfl, Nat.le_of_ble_eq_true rfl⟩ dL_law_228 (fun H locs Z => ?_)
  exact lv_icmp_eq (tgt := 471) hx hb dL_law_231 (by decide) (fun _ => K σ2 μ2 H locs hR2 Z) (fun q => absurd rfl q)
set_option maxHeartbeats 4000000 in
set_option maxRecDepth 100000 in
theorem lz_k_reset (l : Launch) (X : lz_C p m c s #[Value.ref b]) (hX : va_X b L xs s s.heap) (hbl : b < s.heap.size) (hL : L ≤ 257) (hi : i + 4 ≤ L) (hl : lv_has ls 4 [(3, .int (nI i)), (0, .ref b), (1, .ref h), (2, .ref g)]) (hR : jt_R σ μ) (Z : lz_Z D h ad cI cZ g ae dI dZ s σ μ H locs) (K : ∀ (σ' μ' : ll_St) (H' : Heap) (locs' : List Loc), jt_R σ' μ' → lz_Z D h ad cI cZ g ae dI dZ s σ' μ' H' locs' → W p l e room_1 s m #[Value.ref b] below meth c H' locs' 20 325 Q (F0 m 471 ls [])) : W p l e room_1 s m #[Value.ref b] below meth c H locs 20 325 Q (F0 m 236 ls []) := by
  have hx := X.1
  have hb := X.2.1
  refine lv_aload_n hx hb dL_law_236 rfl (lv_at hl 2 rfl) ?_
  refine lz_v1 X Z (ll_k_reset l) (cwL1_reset X.2.2.2.2) rfl hl.1 rfl (Nat.le_of_ble_eq_true rfl) ⟨Nat.le_of_ble_eq_true rfl, Nat.le_of_ble_eq_true rfl⟩ dL_law_237 (fun H locs Z => ?_)
  refine lv_aload_n hx hb dL_law_240 rfl (lv_at hl 3 rfl) ?_
  refine lz_v2 X Z (mm_k_reset l) (cwL2_reset X.2.2.2.2) rfl hl.1 rfl (Nat.le_of_ble_eq_true rfl) ⟨Nat.le_of_ble_eq_true rfl, Nat.le_of_ble_eq_true rfl⟩ dL_law_241 (fun H locs Z => ?_)
  exact lv_goto (tgt := 471) hx hb dL_law_244 (by decide) (K _ _ H locs (jt_reset hR) Z)
set_option maxHeartbeats 4000000 in
set_option maxRecDepth 100000 in
theorem lz_k_carry (l : Launch) (X : lz_C p m c s #[Value.ref b]) (hX : va_X b L xs s s.heap) (hbl : b < s.heap.size) (hL : L ≤ 257) (hi : i + 4 ≤ L) (hl : lv_has ls 4 [(3, .int (nI i)), (0, .ref b), (1, .ref h), (2, .ref g)]) (hR : jt_R σ μ) (Z : lz_Z D h ad cI cZ g ae dI dZ s σ μ H locs) (K : ∀ (σ' μ' : ll_St) (H' : Heap) (locs' : List Loc), jt_R σ' μ' → lz_Z D h ad cI cZ g ae dI dZ s σ' μ' H' locs' → W p l e room_1 s m #[Value.ref b] below meth c H' locs' 20 325 Q (F0 m 471 ls [])) : W p l e room_1 s m #[Value.ref b] below meth c H locs 20 325 Q (F0 m 247 ls []) := by
  have hx := X.1
  have hb := X.2.1
  obtain ⟨σ2, μ2, ρ, k1, k2, hR2⟩ := jt_carry l hR (xs (i + 1)) (xs (i + 2)) (xs (i + 3))
  refine lv_aload_n hx hb dL_law_247 rfl (lv_at hl 2 rfl) ?_
  refine lz_arg hx hb hX hbl Z.2.2.2 hL hl 1 (by omega) dL_law_248 dL_law_249 dL_law_250 (by decide) dL_law_251 dL_law_252 ?_
  refine lz_arg hx hb hX hbl Z.2.2.2 hL hl 2 (by omega) dL_law_253 dL_law_254 dL_law_255 (by decide) dL_law_256 dL_law_257 ?_
  refine lz_arg hx hb hX hbl Z.2.2.2 hL hl 3 (by omega) dL_law_258 dL_law_259 dL_law_260 (by decide) dL_law_261 dL_law_262 ?_
  refine lz_c1 X Z k1 (cwL1_carry X.2.2.2.2) rfl hl.1 rfl (Nat.le_of_ble_eq_true rfl) ⟨Nat.le_of_ble_eq_true rfl, Nat.le_of_ble_eq_true rfl⟩ dL_law_263 (fun H locs Z => ?_)
  refine lv_aload_n hx hb dL_law_266 rfl (lv_at hl 3 rfl) ?_
  refine lz_arg hx hb hX hbl Z.2.2.2 hL hl 1 (by omega) dL_law_267 dL_law_268 dL_law_269 (by decide) dL_law_270 dL_law_271 ?_
  refine lz_arg hx hb hX hbl Z.2.2.2 hL hl 2 (by omega) dL_law_272 dL_law_273 dL_law_274 (by decide) dL_law_275 dL_law_276 ?_
  refine lz_arg hx hb hX hbl Z.2.2.2 hL hl 3 (by omega) dL_law_277 dL_law_278 dL_law_279 (by decide) dL_law_280 dL_law_281 ?_
  refine lz_c2 X Z k2 (cwL2_carry X.2.2.2.2) rfl hl.1 rfl (Nat.le_of_ble_eq_true rfl) ⟨Nat.le_of_ble_eq_true rfl, Nat.le_of_ble_eq_true rfl⟩ dL_law_282 (fun H locs Z => ?_)
  exact lv_icmp_eq (tgt := 471) hx hb dL_law_285 (by decide) (fun _ => K σ2 μ2 H locs hR2 Z) (fun q => absurd rfl q)
set_option maxHeartbeats 4000000 in
set_option maxRecDepth 100000 in
theorem lz_k_fire (l : Launch) (X : lz_C p m c s #[Value.ref b]) (hX : va_X b L xs s s.heap) (hbl : b < s.heap.size) (hL : L ≤ 257) (hi : i + 4 ≤ L) (hl : lv_has ls 4 [(3, .int (nI i)), (0, .ref b), (1, .ref h), (2, .ref g)]) (hR : jt_R σ μ) (Z : lz_Z D h ad cI cZ g ae dI dZ s σ μ H locs) (K : ∀ (σ' μ' : ll_St) (H' : Heap) (locs' : List Loc), jt_R σ' μ' → lz_Z D h ad cI cZ g ae dI dZ s σ' μ' H' locs' → W p l e room_1 s m #[Value.ref b] below meth c H' locs' 20 325 Q (F0 m 471 ls [])) : W p l e room_1 s m #[Value.ref b] below meth c H locs 20 325 Q (F0 m 290 ls []) := by
  have hx := X.1
  have hb := X.2.1
  obtain ⟨σ2, μ2, ρ, k1, k2, hR2⟩ := jt_fire l hR (xs (i + 1))
  refine lv_aload_n hx hb dL_law_290 rfl (lv_at hl 2 rfl) ?_
  refine lz_arg hx hb hX hbl Z.2.2.2 hL hl 1 (by omega) dL_law_291 dL_law_292 dL_law_293 (by decide) dL_law_294 dL_law_295 ?_
  refine lz_c1 X Z k1 (cwL1_fire X.2.2.2.2) rfl hl.1 rfl (Nat.le_of_ble_eq_true rfl) ⟨Nat.le_of_ble_eq_true rfl, Nat.le_of_ble_eq_true rfl⟩ dL_law_296 (fun H locs Z => ?_)
  refine lv_aload_n hx hb dL_law_299 rfl (lv_at hl 3 rfl) ?_
  refine lz_arg hx hb hX hbl Z.2.2.2 hL hl 1 (by omega) dL_law_300 dL_law_301 dL_law_302 (by decide) dL_law_303 dL_law_304 ?_
  refine lz_c2 X Z k2 (cwL2_fire X.2.2.2.2) rfl hl.1 rfl (Nat.le_of_ble_eq_true rfl) ⟨Nat.le_of_ble_eq_true rfl, Nat.le_of_ble_eq_true rfl⟩ dL_law_305 (fun H locs Z => ?_)
  exact lv_icmp_eq (tgt := 471) hx hb dL_law_308 (by decide) (fun _ => K σ2 μ2 H locs hR2 Z) (fun q => absurd rfl q)
set_option maxHeartbeats 4000000 in
set_option maxRecDepth 100000 in
theorem lz_k_waiting (l : Launch) (X : lz_C p m c s #[Value.ref b]) (hX : va_X b L xs s s.heap) (hbl : b < s.heap.size) (hL : L ≤ 257) (hi : i + 4 ≤ L) (hl : lv_has ls 4 [(3, .int (nI i)), (0, .ref b), (1, .ref h), (2, .ref g)]) (hR : jt_R σ μ) (Z : lz_Z D h ad cI cZ g ae dI dZ s σ μ H locs) (K : ∀ (σ' μ' : ll_St) (H' : Heap) (locs' : List Loc), jt_R σ' μ' → lz_Z D h ad cI cZ g ae dI dZ s σ' μ' H' locs' → W p l e room_1 s m #[Value.ref b] below meth c H' locs' 20 325 Q (F0 m 471 ls [])) : W p l e room_1 s m #[Value.ref b] below meth c H locs 20 325 Q (F0 m 313 ls []) := by
  have hx := X.1
  have hb := X.2.1
  obtain ⟨σ2, μ2, ρ, k1, k2, hR2⟩ := jt_waiting l hR (xs (i + 1))
  refine lv_aload_n hx hb dL_law_313 rfl (lv_at hl 2 rfl) ?_
  refine lz_arg hx hb hX hbl Z.2.2.2 hL hl 1 (by omega) dL_law_314 dL_law_315 dL_law_316 (by decide) dL_law_317 dL_law_318 ?_
  refine lz_c1 X Z k1 (cwL1_waiting X.2.2.2.2) rfl hl.1 rfl (Nat.le_of_ble_eq_true rfl) ⟨Nat.le_of_ble_eq_true rfl, Nat.le_of_ble_eq_true rfl⟩ dL_law_319 (fun H locs Z => ?_)
  refine lv_aload_n hx hb dL_law_322 rfl (lv_at hl 3 rfl) ?_
  refine lz_arg hx hb hX hbl Z.2.2.2 hL hl 1 (by omega) dL_law_323 dL_law_324 dL_law_325 (by decide) dL_law_326 dL_law_327 ?_
  refine lz_c2 X Z k2 (cwL2_waiting X.2.2.2.2) rfl hl.1 rfl (Nat.le_of_ble_eq_true rfl) ⟨Nat.le_of_ble_eq_true rfl, Nat.le_of_ble_eq_true rfl⟩ dL_law_328 (fun H locs Z => ?_)
  exact lv_icmp_eq (tgt := 471) hx hb dL_law_331 (by decide) (fun _ => K σ2 μ2 H locs hR2 Z) (fun q => absurd rfl q)
set_option maxHeartbeats 4000000 in
set_option maxRecDepth 100000 in
theorem lz_k_messages (l : Launch) (X : lz_C p m c s #[Value.ref b]) (hX : va_X b L xs s s.heap) (hbl : b < s.heap.size) (hL : L ≤ 257) (hi : i + 4 ≤ L) (hl : lv_has ls 4 [(3, .int (nI i)), (0, .ref b), (1, .ref h), (2, .ref g)]) (hR : jt_R σ μ) (Z : lz_Z D h ad cI cZ g ae dI dZ s σ μ H locs) (K : ∀ (σ' μ' : ll_St) (H' : Heap) (locs' : List Loc), jt_R σ' μ' → lz_Z D h ad cI cZ g ae dI dZ s σ' μ' H' locs' → W p l e room_1 s m #[Value.ref b] below meth c H' locs' 20 325 Q (F0 m 471 ls [])) : W p l e room_1 s m #[Value.ref b] below meth c H locs 20 325 Q (F0 m 336 ls []) := by
  have hx := X.1
  have hb := X.2.1
  obtain ⟨σ2, μ2, ρ, k1, k2, hR2⟩ := jt_messages l hR (xs (i + 1))
  refine lv_aload_n hx hb dL_law_336 rfl (lv_at hl 2 rfl) ?_
  refine lz_arg hx hb hX hbl Z.2.2.2 hL hl 1 (by omega) dL_law_337 dL_law_338 dL_law_339 (by decide) dL_law_340 dL_law_341 ?_
  refine lz_c1 X Z k1 (cwL1_messages X.2.2.2.2) rfl hl.1 rfl (Nat.le_of_ble_eq_true rfl) ⟨Nat.le_of_ble_eq_true rfl, Nat.le_of_ble_eq_true rfl⟩ dL_law_342 (fun H locs Z => ?_)
  refine lv_aload_n hx hb dL_law_345 rfl (lv_at hl 3 rfl) ?_
  refine lz_arg hx hb hX hbl Z.2.2.2 hL hl 1 (by omega) dL_law_346 dL_law_347 dL_law_348 (by decide) dL_law_349 dL_law_350 ?_
  refine lz_c2 X Z k2 (cwL2_messages X.2.2.2.2) rfl hl.1 rfl (Nat.le_of_ble_eq_true rfl) ⟨Nat.le_of_ble_eq_true rfl, Nat.le_of_ble_eq_true rfl⟩ dL_law_351 (fun H locs Z => ?_)
  exact lv_icmp_eq (tgt := 471) hx hb dL_law_354 (by decide) (fun _ => K σ2 μ2 H locs hR2 Z) (fun q => absurd rfl q)
set_option maxHeartbeats 4000000 in
set_option maxRecDepth 100000 in
theorem lz_k_peek (l : Launch) (X : lz_C p m c s #[Value.ref b]) (hX : va_X b L xs s s.heap) (hbl : b < s.heap.size) (hL : L ≤ 257) (hi : i + 4 ≤ L) (hl : lv_has ls 4 [(3, .int (nI i)), (0, .ref b), (1, .ref h), (2, .ref g)]) (hR : jt_R σ μ) (Z : lz_Z D h ad cI cZ g ae dI dZ s σ μ H locs) (K : ∀ (σ' μ' : ll_St) (H' : Heap) (locs' : List Loc), jt_R σ' μ' → lz_Z D h ad cI cZ g ae dI dZ s σ' μ' H' locs' → W p l e room_1 s m #[Value.ref b] below meth c H' locs' 20 325 Q (F0 m 471 ls [])) : W p l e room_1 s m #[Value.ref b] below meth c H locs 20 325 Q (F0 m 359 ls []) := by
  have hx := X.1
  have hb := X.2.1
  obtain ⟨σ2, μ2, ρ, k1, k2, hR2⟩ := jt_peek l hR (xs (i + 1)) (xs (i + 2))
  refine lv_aload_n hx hb dL_law_359 rfl (lv_at hl 2 rfl) ?_
  refine lz_arg hx hb hX hbl Z.2.2.2 hL hl 1 (by omega) dL_law_360 dL_law_361 dL_law_362 (by decide) dL_law_363 dL_law_364 ?_
  refine lz_arg hx hb hX hbl Z.2.2.2 hL hl 2 (by omega) dL_law_365 dL_law_366 dL_law_367 (by decide) dL_law_368 dL_law_369 ?_
  refine lz_c1 X Z k1 (cwL1_peek X.2.2.2.2) rfl hl.1 rfl (Nat.le_of_ble_eq_true rfl) ⟨Nat.le_of_ble_eq_true rfl, Nat.le_of_ble_eq_true rfl⟩ dL_law_370 (fun H locs Z => ?_)
  refine lv_aload_n hx hb dL_law_373 rfl (lv_at hl 3 rfl) ?_
  refine lz_arg hx hb hX hbl Z.2.2.2 hL hl 1 (by omega) dL_law_374 dL_law_375 dL_law_376 (by decide) dL_law_377 dL_law_378 ?_
  refine lz_arg hx hb hX hbl Z.2.2.2 hL hl 2 (by omega) dL_law_379 dL_law_380 dL_law_381 (by decide) dL_law_382 dL_law_383 ?_
  refine lz_c2 X Z k2 (cwL2_peek X.2.2.2.2) rfl hl.1 rfl (Nat.le_of_ble_eq_true rfl) ⟨Nat.le_of_ble_eq_true rfl, Nat.le_of_ble_eq_true rfl⟩ dL_law_384 (fun H locs Z => ?_)
  exact lv_icmp_eq (tgt := 471) hx hb dL_law_387 (by decide) (fun _ => K σ2 μ2 H locs hR2 Z) (fun q => absurd rfl q)
set_option maxHeartbeats 4000000 in
set_option maxRecDepth 100000 in
theorem lz_k_ends (l : Launch) (X : lz_C p m c s #[Value.ref b]) (hX : va_X b L xs s s.heap) (hbl : b < s.heap.size) (hL : L ≤ 257) (hi : i + 4 ≤ L) (hl : lv_has ls 4 [(3, .int (nI i)), (0, .ref b), (1, .ref h), (2, .ref g)]) (hR : jt_R σ μ) (Z : lz_Z D h ad cI cZ g ae dI dZ s σ μ H locs) (K : ∀ (σ' μ' : ll_St) (H' : Heap) (locs' : List Loc), jt_R σ' μ' → lz_Z D h ad cI cZ g ae dI dZ s σ' μ' H' locs' → W p l e room_1 s m #[Value.ref b] below meth c H' locs' 20 325 Q (F0 m 471 ls [])) : W p l e room_1 s m #[Value.ref b] below meth c H locs 20 325 Q (F0 m 392 ls []) := by
  have hx := X.1
  have hb := X.2.1
  obtain ⟨σ2, μ2, ρ, k1, k2, hR2⟩ := jt_ends l hR (xs (i + 1)) (xs (i + 2))
  refine lv_aload_n hx hb dL_law_392 rfl (lv_at hl 2 rfl) ?_
  refine lz_arg hx hb hX hbl Z.2.2.2 hL hl 1 (by omega) dL_law_393 dL_law_394 dL_law_395 (by decide) dL_law_396 dL_law_397 ?_
  refine lz_arg hx hb hX hbl Z.2.2.2 hL hl 2 (by omega) dL_law_398 dL_law_399 dL_law_400 (by decide) dL_law_401 dL_law_402 ?_
  refine lz_c1 X Z k1 (cwL1_ends X.2.2.2.2) rfl hl.1 rfl (Nat.le_of_ble_eq_true rfl) ⟨Nat.le_of_ble_eq_true rfl, Nat.le_of_ble_eq_true rfl⟩ dL_law_403 (fun H locs Z => ?_)
  refine lv_aload_n hx hb dL_law_406 rfl (lv_at hl 3 rfl) ?_
  refine lz_arg hx hb hX hbl Z.2.2.2 hL hl 1 (by omega) dL_law_407 dL_law_408 dL_law_409 (by decide) dL_law_410 dL_law_411 ?_
  refine lz_arg hx hb hX hbl Z.2.2.2 hL hl 2 (by omega) dL_law_412 dL_law_413 dL_law_414 (by decide) dL_law_415 dL_law_416 ?_
  refine lz_c2 X Z k2 (cwL2_ends X.2.2.2.2) rfl hl.1 rfl (Nat.le_of_ble_eq_true rfl) ⟨Nat.le_of_ble_eq_true rfl, Nat.le_of_ble_eq_true rfl⟩ dL_law_417 (fun H locs Z => ?_)
  exact lv_icmp_eq (tgt := 471) hx hb dL_law_420 (by decide) (fun _ => K σ2 μ2 H locs hR2 Z) (fun q => absurd rfl q)
set_option maxHeartbeats 4000000 in
set_option maxRecDepth 100000 in
theorem lz_k_done (l : Launch) (X : lz_C p m c s #[Value.ref b]) (hX : va_X b L xs s s.heap) (hbl : b < s.heap.size) (hL : L ≤ 257) (hi : i + 4 ≤ L) (hl : lv_has ls 4 [(3, .int (nI i)), (0, .ref b), (1, .ref h), (2, .ref g)]) (hR : jt_R σ μ) (Z : lz_Z D h ad cI cZ g ae dI dZ s σ μ H locs) (K : ∀ (σ' μ' : ll_St) (H' : Heap) (locs' : List Loc), jt_R σ' μ' → lz_Z D h ad cI cZ g ae dI dZ s σ' μ' H' locs' → W p l e room_1 s m #[Value.ref b] below meth c H' locs' 20 325 Q (F0 m 471 ls [])) : W p l e room_1 s m #[Value.ref b] below meth c H locs 20 325 Q (F0 m 425 ls []) := by
  have hx := X.1
  have hb := X.2.1
  obtain ⟨σ2, μ2, ρ, k1, k2, hR2⟩ := jt_done l hR (xs (i + 1))
  refine lv_aload_n hx hb dL_law_425 rfl (lv_at hl 2 rfl) ?_
  refine lz_arg hx hb hX hbl Z.2.2.2 hL hl 1 (by omega) dL_law_426 dL_law_427 dL_law_428 (by decide) dL_law_429 dL_law_430 ?_
  refine lz_c1 X Z k1 (cwL1_done X.2.2.2.2) rfl hl.1 rfl (Nat.le_of_ble_eq_true rfl) ⟨Nat.le_of_ble_eq_true rfl, Nat.le_of_ble_eq_true rfl⟩ dL_law_431 (fun H locs Z => ?_)
  refine lv_aload_n hx hb dL_law_434 rfl (lv_at hl 3 rfl) ?_
  refine lz_arg hx hb hX hbl Z.2.2.2 hL hl 1 (by omega) dL_law_435 dL_law_436 dL_law_437 (by decide) dL_law_438 dL_law_439 ?_
  refine lz_c2 X Z k2 (cwL2_done X.2.2.2.2) rfl hl.1 rfl (Nat.le_of_ble_eq_true rfl) ⟨Nat.le_of_ble_eq_true rfl, Nat.le_of_ble_eq_true rfl⟩ dL_law_440 (fun H locs Z => ?_)
  exact lv_icmp_eq (tgt := 471) hx hb dL_law_443 (by decide) (fun _ => K σ2 μ2 H locs hR2 Z) (fun q => absurd rfl q)
set_option maxHeartbeats 4000000 in
set_option maxRecDepth 100000 in
theorem lz_k_sum (l : Launch) (X : lz_C p m c s #[Value.ref b]) (hX : va_X b L xs s s.heap) (hbl : b < s.heap.size) (hL : L ≤ 257) (hi : i + 4 ≤ L) (hl : lv_has ls 4 [(3, .int (nI i)), (0, .ref b), (1, .ref h), (2, .ref g)]) (hR : jt_R σ μ) (Z : lz_Z D h ad cI cZ g ae dI dZ s σ μ H locs) (K : ∀ (σ' μ' : ll_St) (H' : Heap) (locs' : List Loc), jt_R σ' μ' → lz_Z D h ad cI cZ g ae dI dZ s σ' μ' H' locs' → W p l e room_1 s m #[Value.ref b] below meth c H' locs' 20 325 Q (F0 m 471 ls [])) : W p l e room_1 s m #[Value.ref b] below meth c H locs 20 325 Q (F0 m 448 ls []) := by
  have hx := X.1
  have hb := X.2.1
  obtain ⟨σ2, μ2, ρ, k1, k2, hR2⟩ := jt_sum l hR (xs (i + 1))
  refine lv_aload_n hx hb dL_law_448 rfl (lv_at hl 2 rfl) ?_
  refine lz_arg hx hb hX hbl Z.2.2.2 hL hl 1 (by omega) dL_law_449 dL_law_450 dL_law_451 (by decide) dL_law_452 dL_law_453 ?_
  refine lz_c1 X Z k1 (cwL1_sum X.2.2.2.2) rfl hl.1 rfl (Nat.le_of_ble_eq_true rfl) ⟨Nat.le_of_ble_eq_true rfl, Nat.le_of_ble_eq_true rfl⟩ dL_law_454 (fun H locs Z => ?_)
  refine lv_aload_n hx hb dL_law_457 rfl (lv_at hl 3 rfl) ?_
  refine lz_arg hx hb hX hbl Z.2.2.2 hL hl 1 (by omega) dL_law_458 dL_law_459 dL_law_460 (by decide) dL_law_461 dL_law_462 ?_
  refine lz_c2 X Z k2 (cwL2_sum X.2.2.2.2) rfl hl.1 rfl (Nat.le_of_ble_eq_true rfl) ⟨Nat.le_of_ble_eq_true rfl, Nat.le_of_ble_eq_true rfl⟩ dL_law_463 (fun H locs Z => ?_)
  exact lv_icmp_eq (tgt := 471) hx hb dL_law_466 (by decide) (fun _ => K σ2 μ2 H locs hR2 Z) (fun q => absurd rfl q)
end LC
end
section
/-! the law's loop, and the claim -/
section LL0
variable {p : Program} {e : Env} {s : State} {m : MethodId} {below : List Frame} {meth : Method} {c : Code} {D : va_G} {h g : Nat} {ad ae : Nat → Nat} {cI cZ dI dZ : ClassId} {b L : Nat} {xs : Nat → Int32}
set_option maxHeartbeats 4000000 in
set_option maxRecDepth 100000 in
theorem lz_loop (l : Launch) (X : lz_C p m c s #[Value.ref b]) (hr : meth.sig.returnType = ret) (hlocks : meth.locks = false) (hX : va_X b L xs s s.heap) (hbl : b < s.heap.size) (hL : L ≤ 257) : ∀ (n i : Nat) (σ μ : ll_St), L + 1 ≤ i + n → i ≤ L + 4 → jt_R σ μ → ∀ (H : Heap) (locs : List Loc), lz_Z D h ad cI cZ g ae dI dZ s σ μ H locs → ∀ ls : Array Slot, lv_has ls 4 [(3, .int (nI i)), (0, .ref b), (1, .ref h), (2, .ref g)] → W p l e room_1 s m #[Value.ref b] below meth c H locs 20 325 (lw_Z below #[Value.ref b] s) (F0 m 28 ls []) := by
  have hx := X.1
  have hb := X.2.1
  intro n
  induction n with
  | zero =>
    intro i σ μ hn hi hR H locs Z ls hl
    refine lv_iload_n hx hb dL_law_28 rfl (lv_at hl 0 rfl) ?_
    refine lv_aload_n hx hb dL_law_29 rfl (lv_at hl 1 rfl) ?_
    refine va_slen hx hb hX hbl (Nat.not_le.mpr hbl) Z.2.2.2 dL_law_30 ?_
    refine nw_iconst hx hb 4 dL_law_31 (by decide) ?_
    refine lv_isub hx hb dL_law_32 ?_
    refine lv_icmp_gt (tgt := 477) hx hb dL_law_33 (by decide) (fun q => ?_) (fun q => ?_)
    · refine lv_iconst (v := 1) hx hb dL_law_477 (by decide) ?_
      refine va_forget Z.2.2.2.2.2 ?_
      refine W.widen (k := 600000) (n := 7290000) (Nat.le_of_ble_eq_true rfl) (Nat.le_of_ble_eq_true rfl) ?_
      exact lw_ret hx hb hr hlocks dL_law_478
    · exact absurd ((lz_cmp hL (by omega)).mpr (by omega)) q
  | succ n ih =>
    intro i σ μ hn hi hR H locs Z ls hl
    refine lv_iload_n hx hb dL_law_28 rfl (lv_at hl 0 rfl) ?_
    refine lv_aload_n hx hb dL_law_29 rfl (lv_at hl 1 rfl) ?_
    refine va_slen hx hb hX hbl (Nat.not_le.mpr hbl) Z.2.2.2 dL_law_30 ?_
    refine nw_iconst hx hb 4 dL_law_31 (by decide) ?_
    refine lv_isub hx hb dL_law_32 ?_
    refine lv_icmp_gt (tgt := 477) hx hb dL_law_33 (by decide) (fun q => ?_) (fun q => ?_)
    · refine lv_iconst (v := 1) hx hb dL_law_477 (by decide) ?_
      refine va_forget Z.2.2.2.2.2 ?_
      refine W.widen (k := 600000) (n := 7290000) (Nat.le_of_ble_eq_true rfl) (Nat.le_of_ble_eq_true rfl) ?_
      exact lw_ret hx hb hr hlocks dL_law_478
    · have hlt : i + 4 ≤ L := by
        rcases Nat.lt_or_ge L (i + 4) with z | z
        · exact absurd ((lz_cmp hL (by omega)).mpr (by omega)) q
        · exact z
      have K : ∀ (σ' μ' : ll_St) (H' : Heap) (locs' : List Loc), jt_R σ' μ' → lz_Z D h ad cI cZ g ae dI dZ s σ' μ' H' locs' → W p l e room_1 s m #[Value.ref b] below meth c H' locs' 20 325 (lw_Z below #[Value.ref b] s) (F0 m 471 ls []) := by
        intro σ' μ' H' locs' hR' Z'
        refine lv_iinc (v := nI (i + 4)) (lv' := [(3, .int (nI (i + 4))), (0, .ref b), (1, .ref h), (2, .ref g)]) hx hb dL_law_471 hl (k := 0) rfl (by rw [← nI_add]; rfl) (by decide) rfl (fun ls hl => ?_)
        refine lv_goto (tgt := 28) hx hb dL_law_474 (by decide) ?_
        exact ih (i + 4) σ' μ' (by omega) (by omega) hR' H' locs' Z' ls hl
      refine lv_aload_n hx hb dL_law_36 rfl (lv_at hl 1 rfl) ?_
      refine lv_iload_n hx hb dL_law_37 rfl (lv_at hl 0 rfl) ?_
      refine va_sld hx hb hX hbl (Nat.not_le.mpr hbl) Z.2.2.2 (vp_in_nI (show i < L by omega) (by omega)) dL_law_38 ?_
      refine nw_bipush hx hb 15 dL_law_39 (by decide) ?_
      refine lv_iand hx hb dL_law_41 ?_
      obtain ⟨t, ht, et⟩ := pk_andE (xs (nI i).toNatClampNeg) (m := nI 15) 4 (by decide)
      refine nw_asx (nI t) et ?_
      have ht : t < 16 := ht
      by_cases h13 : 13 ≤ t
      · exact lv_tableOut (tgt := 471) hx hb dL_law_42 (Or.inr (by rw [nI_toInt (by omega)]; omega)) (by decide) (K σ μ H locs hR Z)
      · rcases (show t = 0 ∨ t = 1 ∨ t = 2 ∨ t = 3 ∨ t = 4 ∨ t = 5 ∨ t = 6 ∨ t = 7 ∨ t = 8 ∨ t = 9 ∨ t = 10 ∨ t = 11 ∨ t = 12 by omega) with rfl | rfl | rfl | rfl | rfl | rfl | rfl | rfl | rfl | rfl | rfl | rfl | rfl
        · exact lv_tableIn (tgt := 108) (off := 66) hx hb dL_law_42 (by decide) (by decide) (by decide +kernel) (by decide) (lz_k_give l X hX hbl hL hlt hl hR Z K)
        · exact lv_tableIn (tgt := 167) (off := 125) hx hb dL_law_42 (by decide) (by decide) (by decide +kernel) (by decide) (lz_k_take l X hX hbl hL hlt hl hR Z K)
        · exact lv_tableIn (tgt := 190) (off := 148) hx hb dL_law_42 (by decide) (by decide) (by decide +kernel) (by decide) (lz_k_takeMessage l X hX hbl hL hlt hl hR Z K)
        · exact lv_tableIn (tgt := 213) (off := 171) hx hb dL_law_42 (by decide) (by decide) (by decide +kernel) (by decide) (lz_k_skip l X hX hbl hL hlt hl hR Z K)
        · exact lv_tableIn (tgt := 236) (off := 194) hx hb dL_law_42 (by decide) (by decide) (by decide +kernel) (by decide) (lz_k_reset l X hX hbl hL hlt hl hR Z K)
        · exact lv_tableIn (tgt := 247) (off := 205) hx hb dL_law_42 (by decide) (by decide) (by decide +kernel) (by decide) (lz_k_carry l X hX hbl hL hlt hl hR Z K)
        · exact lv_tableIn (tgt := 290) (off := 248) hx hb dL_law_42 (by decide) (by decide) (by decide +kernel) (by decide) (lz_k_fire l X hX hbl hL hlt hl hR Z K)
        · exact lv_tableIn (tgt := 313) (off := 271) hx hb dL_law_42 (by decide) (by decide) (by decide +kernel) (by decide) (lz_k_waiting l X hX hbl hL hlt hl hR Z K)
        · exact lv_tableIn (tgt := 336) (off := 294) hx hb dL_law_42 (by decide) (by decide) (by decide +kernel) (by decide) (lz_k_messages l X hX hbl hL hlt hl hR Z K)
        · exact lv_tableIn (tgt := 359) (off := 317) hx hb dL_law_42 (by decide) (by decide) (by decide +kernel) (by decide) (lz_k_peek l X hX hbl hL hlt hl hR Z K)
        · exact lv_tableIn (tgt := 392) (off := 350) hx hb dL_law_42 (by decide) (by decide) (by decide +kernel) (by decide) (lz_k_ends l X hX hbl hL hlt hl hR Z K)
        · exact lv_tableIn (tgt := 425) (off := 383) hx hb dL_law_42 (by decide) (by decide) (by decide +kernel) (by decide) (lz_k_done l X hX hbl hL hlt hl hR Z K)
        · exact lv_tableIn (tgt := 448) (off := 406) hx hb dL_law_42 (by decide) (by decide) (by decide +kernel) (by decide) (lz_k_sum l X hX hbl hL hlt hl hR Z K)
end LL0
set_option maxHeartbeats 4000000 in
/-- a call of cell out of the law -/
theorem lz_cell {p : Program} {l : Launch} {e : Env} {s : State} {m : MethodId} {args : Array Value} {below : List Frame} {meth : Method} {c : Code} {H : Heap} {locs : List Loc} {cells slots : Nat} {Q : State → Prop} {pc : Nat} {ls : Array Slot} {rest : List Value} {D : va_G} {ws : va_W} {b L : Nat} {xs : Nat → Int32} (X : lz_C p m c s args) (hX : va_X b L xs s s.heap) (hbl : b < s.heap.size) (hL : L ≤ 257) (hP : va_P D vwCl ws H) (hS : va_S (fun q : Nat => s.heap.size ≤ q) s.heap H locs) (hsz : ls.size = 4) (hro : (rest.map fun v => v.category).sum ≤ 8) (hcap : cells ≤ room_1.cells ∧ slots ≤ room_1.slots) (hdg : decode cL_law pc = .ok (.invokestatic 9, 3))
    (kk : ∀ (r : Int32) (H1 : Heap) (locs1 : List Loc), va_P D vwCl ws H1 → va_S (fun q : Nat => s.heap.size ≤ q) s.heap H1 locs1 → W p l e room_1 s m args below meth c H1 locs1 cells slots Q (F0 m (pc + 3) ls (.int r :: rest))) : W p l e room_1 s m args below meth c H locs cells slots Q (F0 m pc ls (.int (nI 0) :: .ref b :: rest)) := by
  have hXH : va_X b L xs s H := hX.kept (hS.2.1 b hbl (Nat.not_le.mpr hbl))
  have hcw : CallB room_1 s args R_law 9 yX0_cell cX0_cell 2 (some .int) wsX0_cell rmX0_cell 0 0 2 ∧ (Cond.static yX0_cell).before args s = true := va_cwS 2 X.2.2.2.2 (lw_S q216 q217 q20 q218) rfl rfl rfl (by decide +kernel) ⟨Nat.le_of_ble_eq_true rfl, Nat.le_of_ble_eq_true rfl⟩
  refine va_calli (va_runS (As := [.ref b, .int (nI 0)]) (rest := rest) X (lz_k_cell l b L xs hL) hcw ⟨fun a U g mk q => ⟨q.1, va_X.moved (u := U) (U := U.calling g mk a) (Vm.Alike.refl U.vm) q.2.1, q.2.2⟩, fun U hU hW => ⟨rfl, by rw [hU]; exact va_X.moved hW.alike hXH, by rw [hU]; exact Nat.lt_of_lt_of_le hbl hS.1⟩⟩ rfl rfl hsz rfl (lv_room hro) hdg hcap) hS (fun q _ h => h.elim) (fun q h => h.elim) (fun r u t H1 locs1 ht hvm hu hB hz1 hk1 hS1 => ?_)
  exact kk r H1 locs1 (hP.kept (fun k q hq => hk1 q.1 ((hP k q hq).lt) (fun h => h))) hS1
set_option maxHeartbeats 4000000 in
set_option maxRecDepth 100000 in
theorem whole_start {p : Program} {e : Env} {s : State} {m : MethodId} {below : List Frame} {meth : Method} {c : Code} (l : Launch) {b L : Nat} {xs : Nat → Int32} (hL : L ≤ 257) (C0 : lw_At p s m meth c b L xs) : W p l e room_1 s m #[Value.ref b] below meth c s.heap [] 0 0 (lw_Z below #[Value.ref b] s) (entryFrame m ([Value.ref b] : List Value).toArray 4) := by
  obtain ⟨hx, hb, hr, hml, hown, hts0, hX, hbl, hlocks, hgv⟩ := id C0
  have hts : ∀ w ∈ lw_all, w.before #[Value.ref b] s = true := fun w h => hts0 w (lw_all_tbl h)
  have X : lz_C p m c s #[Value.ref b] := ⟨hx, hb, hml, hown, hts⟩
  have hA : ∀ q : Nat, s.heap.size ≤ q → (fun q : Nat => s.heap.size ≤ q) q := fun _ h => h
  obtain ⟨c0, iS0, hKn0⟩ := u_known (C := RX1) (T := TX1) (N := 15) (n := 15) hts in_X1 (hts _ q24)
  obtain ⟨c1, iS1, hKn1⟩ := u_known (C := RX2) (T := TX2) (N := 4) (n := 4) hts in_X2 (hts _ q220)
  obtain ⟨D, hKc⟩ : ∃ D : va_G, ∀ (k : Nat) (q : vw_C), vwCl[k]? = some q → u_Kn s q.1 q.2.1 q.2.2 (D.1 k) (D.2 k) := by
    refine ⟨(fun k => if k = 0 then c0 else c1, fun k => if k = 0 then iS0 else iS1), ?_⟩
    intro k q hq
    match k, hq with
    | 0, hq => cases hq; exact hKn0
    | 1, hq => cases hq; exact hKn1
    | k + 2, hq => simp [vwCl] at hq
  have hS : va_S (fun q : Nat => s.heap.size ≤ q) s.heap s.heap [] := va_S.rf
  have hK : va_K D vwCl [] s := ⟨hKc, fun k q h => by simp at h⟩
  have hP : va_P D vwCl [] s.heap := fun k q h => by simp at h
  have hD : va_D (fun q : Nat => s.heap.size ≤ q) [] := ⟨fun i j p q h => by simp at h, fun k q h => by simp at h⟩
  have hl := lv_entry ([.ref b]) (n := 4) (Nat.le_of_ble_eq_true rfl)
  rw [lg_entry_eq]
  generalize (lg_sl ([.ref b]) ++ List.replicate (4 - (lg_sl ([.ref b])).length) Slot.unset).toArray = ls at hl ⊢
  have hl : lv_has ls 4 [(0, .ref b)] := hl
  -- the LossyLink
  refine va_new (ci := 0) (fs := ll_f0) (C := RX1) (T := TX1) (N := 15) hx hb hts in_X1 tyX1 tyX1_ok hown (hts _ q23) (hts _ q24) (hts _ q21) hK hP hD hS hA rfl (fun j hj => by rcases (show j = 0 ∨ j = 1 ∨ j = 2 ∨ j = 3 ∨ j = 4 ∨ j = 5 ∨ j = 6 ∨ j = 7 ∨ j = 8 ∨ j = 9 ∨ j = 10 ∨ j = 11 ∨ j = 12 ∨ j = 13 ∨ j = 14 by omega) with rfl | rfl | rfl | rfl | rfl | rfl | rfl | rfl | rfl | rfl | rfl | rfl | rfl | rfl | rfl <;> rfl) (Nat.le_of_ble_eq_true rfl) (Nat.le_of_ble_eq_true rfl) dL_law_0 (fun h H hP hD hS => ?_)
  have hP : va_P D vwCl [(h, .inr (0, ll_f0))] H := hP
  have hD : va_D (fun q : Nat => s.heap.size ≤ q) [(h, .inr (0, ll_f0))] := hD
  refine W.widen (k := 1) (n := 15) (Nat.le_of_ble_eq_true rfl) (Nat.le_of_ble_eq_true rfl) ?_
  refine lv_dup hx hb dL_law_3 rfl ?_
  refine lv_aload_n hx hb dL_law_4 rfl (lv_at hl 0 rfl) ?_
  refine nw_iconst hx hb 0 dL_law_5 (by decide) ?_
  refine lz_cell X hX hbl hL hP hS hl.1 (Nat.le_of_ble_eq_true rfl) ⟨Nat.le_of_ble_eq_true rfl, Nat.le_of_ble_eq_true rfl⟩ dL_law_6 (fun r H locs hP hS => ?_)
  have hFc := va_free (wc := [(h, .inr (0, ll_f0))]) hD hS hA [0] rfl
  refine va_callv (va_runI (As := [.int r]) (rest := [.ref h]) X (ll_k_init l D h H.size r) (cwI 1 hts (lw_meth q27) rfl rfl rfl (hts _ q21) (hts _ q25) (hts _ q26) rfl (by decide +kernel) ⟨Nat.le_of_ble_eq_true rfl, Nat.le_of_ble_eq_true rfl⟩) ⟨fun a U g mk q => by obtain ⟨q0, q1, qP, qK, qD⟩ := q; exact ⟨q0, q1, qP, va_K.moved (u := U) (U := U.calling g mk a) (Vm.Alike.refl U.vm) qK, qD⟩, fun U hU hW => ⟨rfl, by rw [hU], by rw [hU]; exact hP, va_K.moved hW.alike hK, hD.weaken (fun _ _ _ _ => trivial)⟩⟩ rfl rfl hl.1 rfl (lv_room (Nat.le_of_ble_eq_true rfl)) dL_law_9 ⟨Nat.le_of_ble_eq_true rfl, Nat.le_of_ble_eq_true rfl⟩) hS (fun q _ h => hFc q h) hFc (fun u t H1 locs ht hvm hw hB hz1 hk1 hS => ?_)
  obtain ⟨w, ad, cI, cZ⟩ := u
  have hw : 1 ≤ w ∧ w ≤ 4 := hw
  obtain ⟨hP1, hK1, hD1⟩ := hB
  rw [ht] at hP1
  have hK1 : va_K D vwCl (ll_ty cI cZ) s := va_K.moved hvm.symm hK1
  have hP : va_P D vwCl (ll_W h ad cI cZ (ll_s0 w)) H1 := hP1
  have hD : va_D (fun q : Nat => s.heap.size ≤ q) (ll_W h ad cI cZ (ll_s0 w)) := hD1.weaken (fun _ _ _ q => hFc _ q)
  refine W.widen (k := 15) (n := 197) (Nat.le_of_ble_eq_true rfl) (Nat.le_of_ble_eq_true rfl) ?_
  refine lv_astore_n (lv' := [(1, .ref h), (0, .ref b)]) hx hb dL_law_12 rfl hl (by decide) rfl (fun ls hl => ?_)
  -- the LossyLinkModel
  refine va_new (ci := 1) (fs := mm_f0) (C := RX2) (T := TX2) (N := 4) hx hb hts in_X2 tyX2 tyX2_ok hown (hts _ q219) (hts _ q220) (hts _ q22) hK1 hP hD hS hA rfl (fun j hj => by rcases (show j = 0 ∨ j = 1 ∨ j = 2 ∨ j = 3 by omega) with rfl | rfl | rfl | rfl <;> rfl) (Nat.le_of_ble_eq_true rfl) (Nat.le_of_ble_eq_true rfl) dL_law_13 (fun g H hP hD hS => ?_)
  refine W.widen (k := 16) (n := 201) (Nat.le_of_ble_eq_true rfl) (Nat.le_of_ble_eq_true rfl) ?_
  refine lv_dup hx hb dL_law_16 rfl ?_
  refine lv_aload_n hx hb dL_law_17 rfl (lv_at hl 1 rfl) ?_
  refine nw_iconst hx hb 0 dL_law_18 (by decide) ?_
  refine lz_cell X hX hbl hL hP hS hl.1 (Nat.le_of_ble_eq_true rfl) ⟨Nat.le_of_ble_eq_true rfl, Nat.le_of_ble_eq_true rfl⟩ dL_law_19 (fun r H locs hP hS => ?_)
  have hPc := hP.sub (ws' := [(g, .inr (1, mm_f0))]) [15] rfl
  have hDc := hD.sub (ws' := [(g, .inr (1, mm_f0))]) [15] (by decide) rfl
  have hFc := va_free (wc := [(g, .inr (1, mm_f0))]) hD hS hA [15] rfl
  refine va_callv (va_runI (As := [.int r]) (rest := [.ref g]) X (mm_k_init l D g H.size r) (cwI 1 hts (lw_meth q223) rfl rfl rfl (hts _ q22) (hts _ q221) (hts _ q222) rfl (by decide +kernel) ⟨Nat.le_of_ble_eq_true rfl, Nat.le_of_ble_eq_true rfl⟩) ⟨fun a U g mk q => by obtain ⟨q0, q1, qP, qK, qD⟩ := q; exact ⟨q0, q1, qP, va_K.moved (u := U) (U := U.calling g mk a) (Vm.Alike.refl U.vm) qK, qD⟩, fun U hU hW => ⟨rfl, by rw [hU], by rw [hU]; exact hPc, va_K.moved hW.alike hK, hDc.weaken (fun _ _ _ _ => trivial)⟩⟩ rfl rfl hl.1 rfl (lv_room (Nat.le_of_ble_eq_true rfl)) dL_law_22 ⟨Nat.le_of_ble_eq_true rfl, Nat.le_of_ble_eq_true rfl⟩) hS (fun q _ h => hFc q h) hFc (fun u t H1 locs ht hvm hw2 hB hz1 hk1 hS => ?_)
  obtain ⟨ae, dI, dZ⟩ := u
  obtain ⟨hP1, hK2, hD1⟩ := hB
  rw [ht] at hP1
  have hK2 : va_K D vwCl (ll_ty dI dZ) s := va_K.moved hvm.symm hK2
  obtain ⟨hP, hD⟩ := va_join (wr := ll_W h ad cI cZ (ll_s0 w)) (w1 := mm_W g ae dI dZ mm_s0) hP hD [15] [0, 1, 2, 3, 4, 5, 6, 7, 8, 9, 10, 11, 12, 13, 14] rfl rfl (by decide) (by decide) hk1 hFc hP1 hD1
  refine W.widen (k := 20) (n := 325) (Nat.le_of_ble_eq_true rfl) (Nat.le_of_ble_eq_true rfl) ?_
  refine lv_astore_n (lv' := [(2, .ref g), (1, .ref h), (0, .ref b)]) hx hb dL_law_25 rfl hl (by decide) rfl (fun ls hl => ?_)
  refine nw_iconst hx hb 1 dL_law_26 (by decide) ?_
  refine lv_istore_n (lv' := [(3, .int (nI 1)), (2, .ref g), (1, .ref h), (0, .ref b)]) hx hb dL_law_27 rfl hl (by decide) rfl (fun ls hl => ?_)
  exact lz_loop l X hr hlocks hX hbl hL (L + 1) 1 (ll_s0 w) mm_s0 (by omega) (by omega) (jt_start hw) H1 locs ⟨⟨hK1, hK2⟩, hP, hD, hS⟩ ls (lv_sub hl [0, 3, 2, 1] rfl)
set_option maxHeartbeats 4000000 in
theorem lw_walk (l : Launch) (b : Addr) (xs : List Int32) : MetFree l x (headSpec (Jvm.Cond.code x code maxLocals ret :: tables_1) room_1) (lw_P b xs) (fun _ _ _ _ _ => True) lw_Q := by
  refine MetFree.of_bodyS (code := code) (maxLocals := maxLocals) (ret := ret) (by decide) ?_ ?_
  · intro args s m h hn
    obtain ⟨meth, c, h1, h2, h3, h4, h5, h6, -, -⟩ := Cond.code_spec hn (atoms_spec (ws := Jvm.Cond.code x code maxLocals ret :: tables_1) h _ List.mem_cons_self)
    exact ⟨meth, c, h1, h2, h3, h4, h5, h6⟩
  · intro p e s m args below meth c s₁ B hml0 hP _
    obtain ⟨rfl, hx, hbd, hgv⟩ := hP
    obtain ⟨scr, harrAt, hlist, hof, hsmall⟩ := hx
    obtain ⟨hcb, hkn, -, -⟩ := State.arrayAt?_spec harrAt
    have hown : s.vm.findClass R_law = some m.cls := findClass_of_methodNamed B.named
    have hts0 : ∀ c ∈ (Jvm.Cond.code x code maxLocals ret :: tables_1), c.before #[Value.ref b] s = true := atoms_spec (ws := Jvm.Cond.code x code maxLocals ret :: tables_1) B.pre
    have hts : ∀ w ∈ lw_tbl, w.before #[Value.ref b] s = true := k2_hts_sels lw_privs (fun w hw => hts0 w (List.mem_cons_of_mem _ hw)) lw_privs_ok
    have hml : c.maxLocals = 4 := B.maxLocals_eq (hts0 _ List.mem_cons_self)
    have X₀ : Stand p l e room_1 s m #[Value.ref b] below meth c s₁ [] 0 0 := Stand.of_body B
    have hh0 : s₁.heap = s.heap := by rw [B.state]; rfl
    have hsz : scr.slots.size = xs.length := by rw [← Array.length_toList, hlist, List.length_map]
    have hval : ∀ j : Nat, j < xs.length → scr.slots[j]? = some (.int (xs.getD j 0)) := fun j hj => by
      rw [← Array.getElem?_toList, hlist]
      simp [hj]
    have hbl : b < s.heap.size := (Array.getElem?_eq_some_iff.mp hcb).1
    have hX : va_X b xs.length (fun j => xs.getD j 0) s s.heap := ⟨scr, hcb, hof, hkn, hsz, hval⟩
    have K : W p l e room_1 s m #[Value.ref b] below meth c s₁.heap [] 0 0 (lw_Z below #[Value.ref b] s) (entryFrame m ([Value.ref b] : List Value).toArray 4) := by
      rw [hh0]
      exact whole_start l hbd ⟨B.exec, B.bytes, B.returns, hml, hown, hts, hX, hbl, B.notSynchronized, hgv⟩
    obtain ⟨t, a1, o, b1, b2, b3⟩ := K s₁ rfl X₀
    exact ⟨t, o, a1, b1, b2, b3⟩
theorem lw_pre_spec {args : Array Value} {s : State} (h : (Jvm.Cond.and given_1 narrow_1).before args s = true) (hr : rest_1_c.before args s = true) : ∃ (b : Addr) (xs : List Int32), lw_P b xs args s := by
  have hs := flat_of_before _ h
  have hq := flat_of_before _ hr
  have hc : (Cond.count 1).before args s = true := hs _ (by decide +kernel)
  have harr : (Cond.arrayOf (.arg 0) .int).before args s = true := hs _ (by decide +kernel)
  have hle : (Cond.le (.length (.arg 0)) (.int 257)).before args s = true := hs _ (by decide +kernel)
  have hlen : (Cond.isInt (.length (.arg 0))).before args s = true := hq _ (by decide +kernel)
  have hall : (Cond.all (.arg 0) (.isInt (.elem (.arg 0) (.index 0)))).before args s = true := hq _ (by decide +kernel)
  obtain ⟨b, xs, hb, hx⟩ := State.ints_of_pre rfl harr hlen hall
  have hsm : xs.length < 2 ^ 31 := hx.choose_spec.2.2.2
  have hev : (Term.length (.arg 0)).eval args s none [] s = some (.int xs.length.toInt32) := hx.length_eval hb
  have hv := Cond.le_ints hev (show (Term.int 257).eval args s none [] s = some (.int 257) from rfl)
  have hd : xs.length.toInt32 ≤ 257 := by
    simpa [Cond.before, Cond.holds, hv] using hle
  have hN : xs.length ≤ 257 := (Int32.ofNat_le_ofNat hsm (by decide)).mp (show Int32.ofNat xs.length ≤ Int32.ofNat 257 from hd)
  exact ⟨b, xs, Cond.one_arg hc (show args[0]? = some (.ref b) from hb), hx, hN, h⟩
theorem lw_comes (l : Launch) : Comes l x (Jvm.Cond.code x code maxLocals ret :: tables_1) room_1 (fun tb e args s => Calls_1 tb e args s ∧ rest_1 tb e args s ∧ Pre_1 tb e args s)
    (fun _ _ args s o t => lw_Q args s o t) := by
  intro p e ha hc hk s m args below hf hfit hheap happ hpre
  obtain ⟨b, xs, hP⟩ := lw_pre_spec hpre.2.2 hpre.2.1
  obtain ⟨k, o, h1, h2, h3, hQ⟩ := lw_walk l b xs p e ha hc hk s m args below hf ((Spec.applies_iff_loose hf).mp happ).1 hP trivial
  exact ⟨k, o, h1, h2, h3, hQ⟩
theorem lw_frame {s t : State} {o : Outcome} {args : Array Value} (h : Framed s o t [] 600000 7290000) :
    Framed s o t (fieldLocs frame_1_writes args s ++ arrayLocs frame_1_arrays args s ++ staticLocs frame_1_statics s) 600000 7290000 := h
theorem lw_limb (L : Cond) (hL : ∀ (args : Array Value) (s t : State), L.after args s (.returned (some (.int 1))) t = true) :
    ArmFor flags0 classFile x code maxLocals ret World_1 tables_1 room_1 Calls_1 rest_1 Pre_1
      (fun tb e a s o t => postC L tb e a s o t ∧ Framed s o t (fieldLocs frame_1_writes a s ++ arrayLocs frame_1_arrays a s ++ staticLocs frame_1_statics s) 600000 7290000) := by
  intro l _ _ _ p e ha hc hk s m args below hf hfit hheap happ hpre
  obtain ⟨k, o, h1, h2, h3, rfl, hF⟩ := lw_comes l p e ha hc hk s m args below hf hfit hheap happ hpre
  exact ⟨k, _, h1, h2, h3, hL args s _, lw_frame hF⟩
theorem i_vc : Claimed_1_1 ∧ Claimed_1_2 := ⟨lw_limb limb_1_1 (fun args s t => by simp [limb_1_1, Cond.after, Cond.holds, Cond.value]), lw_limb limb_1_2 (fun args s t => Cond.after_iff.mpr (by
  first | (rw [show limb_1_2 = Cond.eq .result (.int 1) from rfl, Cond.eq_ints (x := 1) (y := 1) rfl rfl]; simp; done) | (simp [limb_1_2, Cond.value, Term.eval]; done)))⟩
end
