section
-- ===== PART A: goes FIRST, ahead of the names: the tables' words, and 'selects' of the private methods out of them =====
/-- a private method of a class that the tables say can be made, by its rows of tables_1 -/
def lw_okq (q : MethodName × Nat) : Prop := (q.1.cls ≠ "java/lang/invoke/MethodHandle" ∧ q.1.cls ≠ "java/lang/invoke/VarHandle") ∧ Cond.instantiable q.1.cls q.2 ∈ tables_1 ∧ Cond.privateMethod q.1 ∈ tables_1 ∧ Cond.instanceMethod q.1 ∈ tables_1
set_option maxRecDepth 100000
theorem lw_t1 {w : Cond} (h : w ∈ tables_1_1) : w ∈ tables_1 := List.mem_append_left _ h
theorem lw_t2 {w : Cond} (h : w ∈ tables_1_2) : w ∈ tables_1 := List.mem_append_right _ h
theorem lw_p0 : lw_okq (⟨"StreamWatcher", "patternsChanged", "()V"⟩, 17) := ⟨⟨by decide +kernel, by decide +kernel⟩, lw_t1 (List.mem_of_getElem? (i := 4) rfl), lw_t1 (List.mem_of_getElem? (i := 73) rfl), lw_t1 (List.mem_of_getElem? (i := 74) rfl)⟩
theorem lw_p1 : lw_okq (⟨"StreamWatcher", "startOver", "()V"⟩, 17) := ⟨⟨by decide +kernel, by decide +kernel⟩, lw_t1 (List.mem_of_getElem? (i := 4) rfl), lw_t1 (List.mem_of_getElem? (i := 77) rfl), lw_t1 (List.mem_of_getElem? (i := 78) rfl)⟩
theorem lw_p2 : lw_okq (⟨"StreamWatcher", "isPlace", "(I)Z"⟩, 17) := ⟨⟨by decide +kernel, by decide +kernel⟩, lw_t1 (List.mem_of_getElem? (i := 4) rfl), lw_t1 (List.mem_of_getElem? (i := 97) rfl), lw_t1 (List.mem_of_getElem? (i := 98) rfl)⟩
theorem lw_p3 : lw_okq (⟨"StreamWatcher", "goThrough", "()V"⟩, 17) := ⟨⟨by decide +kernel, by decide +kernel⟩, lw_t1 (List.mem_of_getElem? (i := 4) rfl), lw_t1 (List.mem_of_getElem? (i := 101) rfl), lw_t1 (List.mem_of_getElem? (i := 102) rfl)⟩
theorem lw_p4 : lw_okq (⟨"StreamWatcher", "link", "()V"⟩, 17) := ⟨⟨by decide +kernel, by decide +kernel⟩, lw_t1 (List.mem_of_getElem? (i := 4) rfl), lw_t1 (List.mem_of_getElem? (i := 105) rfl), lw_t1 (List.mem_of_getElem? (i := 106) rfl)⟩
theorem lw_p5 : lw_okq (⟨"StreamWatcher", "openFrom", "(II)I"⟩, 17) := ⟨⟨by decide +kernel, by decide +kernel⟩, lw_t1 (List.mem_of_getElem? (i := 4) rfl), lw_t1 (List.mem_of_getElem? (i := 109) rfl), lw_t1 (List.mem_of_getElem? (i := 110) rfl)⟩
theorem lw_p6 : lw_okq (⟨"StreamWatcher", "canBeEmpty", "(I)Z"⟩, 17) := ⟨⟨by decide +kernel, by decide +kernel⟩, lw_t1 (List.mem_of_getElem? (i := 4) rfl), lw_t1 (List.mem_of_getElem? (i := 113) rfl), lw_t1 (List.mem_of_getElem? (i := 114) rfl)⟩
theorem lw_p7 : lw_okq (⟨"StreamWatcher", "repeats", "(I)Z"⟩, 17) := ⟨⟨by decide +kernel, by decide +kernel⟩, lw_t1 (List.mem_of_getElem? (i := 4) rfl), lw_t1 (List.mem_of_getElem? (i := 117) rfl), lw_t1 (List.mem_of_getElem? (i := 118) rfl)⟩
theorem lw_p8 : lw_okq (⟨"StreamWatcher", "emptyFrom", "(II)Z"⟩, 17) := ⟨⟨by decide +kernel, by decide +kernel⟩, lw_t1 (List.mem_of_getElem? (i := 4) rfl), lw_t1 (List.mem_of_getElem? (i := 121) rfl), lw_t1 (List.mem_of_getElem? (i := 122) rfl)⟩
theorem lw_p9 : lw_okq (⟨"StreamWatcher", "advance", "(II)V"⟩, 17) := ⟨⟨by decide +kernel, by decide +kernel⟩, lw_t1 (List.mem_of_getElem? (i := 4) rfl), lw_t1 (List.mem_of_getElem? (i := 125) rfl), lw_t1 (List.mem_of_getElem? (i := 126) rfl)⟩
theorem lw_p10 : lw_okq (⟨"StreamWatcher", "onward", "(I)I"⟩, 17) := ⟨⟨by decide +kernel, by decide +kernel⟩, lw_t1 (List.mem_of_getElem? (i := 4) rfl), lw_t1 (List.mem_of_getElem? (i := 129) rfl), lw_t1 (List.mem_of_getElem? (i := 130) rfl)⟩
theorem lw_p11 : lw_okq (⟨"StreamWatcher", "placesFor", "(I)I"⟩, 17) := ⟨⟨by decide +kernel, by decide +kernel⟩, lw_t1 (List.mem_of_getElem? (i := 4) rfl), lw_t1 (List.mem_of_getElem? (i := 133) rfl), lw_t1 (List.mem_of_getElem? (i := 134) rfl)⟩
theorem lw_p12 : lw_okq (⟨"StreamWatcher", "pass", "(II)V"⟩, 17) := ⟨⟨by decide +kernel, by decide +kernel⟩, lw_t1 (List.mem_of_getElem? (i := 4) rfl), lw_t1 (List.mem_of_getElem? (i := 137) rfl), lw_t1 (List.mem_of_getElem? (i := 138) rfl)⟩
theorem lw_p13 : lw_okq (⟨"StreamWatcher", "note", "(I)V"⟩, 17) := ⟨⟨by decide +kernel, by decide +kernel⟩, lw_t1 (List.mem_of_getElem? (i := 4) rfl), lw_t1 (List.mem_of_getElem? (i := 141) rfl), lw_t1 (List.mem_of_getElem? (i := 142) rfl)⟩
theorem lw_p14 : lw_okq (⟨"StreamWatcherModel", "pattern", "(I)Z"⟩, 7) := ⟨⟨by decide +kernel, by decide +kernel⟩, lw_t1 (List.mem_of_getElem? (i := 183) rfl), lw_t1 (List.mem_of_getElem? (i := 216) rfl), lw_t1 (List.mem_of_getElem? (i := 217) rfl)⟩
theorem lw_p15 : lw_okq (⟨"StreamWatcherModel", "endsAt", "(III)Z"⟩, 7) := ⟨⟨by decide +kernel, by decide +kernel⟩, lw_t1 (List.mem_of_getElem? (i := 183) rfl), lw_t1 (List.mem_of_getElem? (i := 236) rfl), lw_t1 (List.mem_of_getElem? (i := 237) rfl)⟩
def lw_privs_1 : List (MethodName × Nat) := [(⟨"StreamWatcher", "patternsChanged", "()V"⟩, 17), (⟨"StreamWatcher", "startOver", "()V"⟩, 17), (⟨"StreamWatcher", "isPlace", "(I)Z"⟩, 17), (⟨"StreamWatcher", "goThrough", "()V"⟩, 17), (⟨"StreamWatcher", "link", "()V"⟩, 17), (⟨"StreamWatcher", "openFrom", "(II)I"⟩, 17), (⟨"StreamWatcher", "canBeEmpty", "(I)Z"⟩, 17), (⟨"StreamWatcher", "repeats", "(I)Z"⟩, 17), (⟨"StreamWatcher", "emptyFrom", "(II)Z"⟩, 17), (⟨"StreamWatcher", "advance", "(II)V"⟩, 17), (⟨"StreamWatcher", "onward", "(I)I"⟩, 17), (⟨"StreamWatcher", "placesFor", "(I)I"⟩, 17), (⟨"StreamWatcher", "pass", "(II)V"⟩, 17), (⟨"StreamWatcher", "note", "(I)V"⟩, 17), (⟨"StreamWatcherModel", "pattern", "(I)Z"⟩, 7), (⟨"StreamWatcherModel", "endsAt", "(III)Z"⟩, 7)]
theorem lw_r1 : ∀ q ∈ lw_privs_1, lw_okq q := List.forall_mem_cons.mpr ⟨lw_p0, List.forall_mem_cons.mpr ⟨lw_p1, List.forall_mem_cons.mpr ⟨lw_p2, List.forall_mem_cons.mpr ⟨lw_p3, List.forall_mem_cons.mpr ⟨lw_p4, List.forall_mem_cons.mpr ⟨lw_p5, List.forall_mem_cons.mpr ⟨lw_p6, List.forall_mem_cons.mpr ⟨lw_p7, List.forall_mem_cons.mpr ⟨lw_p8, List.forall_mem_cons.mpr ⟨lw_p9, List.forall_mem_cons.mpr ⟨lw_p10, List.forall_mem_cons.mpr ⟨lw_p11, List.forall_mem_cons.mpr ⟨lw_p12, List.forall_mem_cons.mpr ⟨lw_p13, List.forall_mem_cons.mpr ⟨lw_p14, List.forall_mem_cons.mpr ⟨lw_p15, fun _ h => absurd h List.not_mem_nil⟩⟩⟩⟩⟩⟩⟩⟩⟩⟩⟩⟩⟩⟩⟩⟩
theorem lw_p16 : lw_okq (⟨"StreamWatcherModel", "work", "(III)V"⟩, 7) := ⟨⟨by decide +kernel, by decide +kernel⟩, lw_t1 (List.mem_of_getElem? (i := 183) rfl), lw_t2 (List.mem_of_getElem? (i := 0) rfl), lw_t2 (List.mem_of_getElem? (i := 1) rfl)⟩
theorem lw_p17 : lw_okq (⟨"StreamWatcherModel", "extend", "(III)V"⟩, 7) := ⟨⟨by decide +kernel, by decide +kernel⟩, lw_t1 (List.mem_of_getElem? (i := 183) rfl), lw_t2 (List.mem_of_getElem? (i := 4) rfl), lw_t2 (List.mem_of_getElem? (i := 5) rfl)⟩
theorem lw_p18 : lw_okq (⟨"StreamWatcherModel", "allows", "(II)Z"⟩, 7) := ⟨⟨by decide +kernel, by decide +kernel⟩, lw_t1 (List.mem_of_getElem? (i := 183) rfl), lw_t2 (List.mem_of_getElem? (i := 8) rfl), lw_t2 (List.mem_of_getElem? (i := 9) rfl)⟩
def lw_privs_2 : List (MethodName × Nat) := [(⟨"StreamWatcherModel", "work", "(III)V"⟩, 7), (⟨"StreamWatcherModel", "extend", "(III)V"⟩, 7), (⟨"StreamWatcherModel", "allows", "(II)Z"⟩, 7)]
theorem lw_r2 : ∀ q ∈ lw_privs_2, lw_okq q := List.forall_mem_cons.mpr ⟨lw_p16, List.forall_mem_cons.mpr ⟨lw_p17, List.forall_mem_cons.mpr ⟨lw_p18, fun _ h => absurd h List.not_mem_nil⟩⟩⟩
def lw_privs : List (MethodName × Nat) := lw_privs_1 ++ (lw_privs_2)
def lw_tbl : List Cond := k2_sels lw_privs ++ tables_1
theorem lw_privs_ok : ∀ q ∈ lw_privs, lw_okq q := by
  show ∀ q ∈ lw_privs_1 ++ (lw_privs_2), lw_okq q
  exact List.forall_mem_append.mpr ⟨lw_r1, lw_r2⟩
-- ===== ONE list of words for every method: the tables' words that hold all through a run =====
def lw_all : List Cond := lw_tbl.filter goodWord
/-- a word of the tables by its place: claim/WORDS.tsv -/
theorem lw_w {w : Cond} (i : Nat) (h : lw_tbl[i]? = some w) (g : goodWord w = true) : w ∈ lw_all := List.mem_filter.mpr ⟨List.mem_of_getElem? h, g⟩
theorem lw_all_tbl {w : Cond} (h : w ∈ lw_all) : w ∈ lw_tbl := (List.mem_filter.mp h).1
theorem lw_self : GoodIn lw_all lw_all := fun w h => ⟨h, good_of_word (List.mem_filter.mp h).2⟩
/-- a class's field words, by their places -/
theorem lw_in (ws : List Cond) (ps : List Nat) (hp : ws = ps.filterMap (fun i => lw_tbl[i]?)) (hg : ws.all goodWord = true) : ∀ w ∈ ws, w ∈ lw_all := by
  intro w h
  have h1 := List.all_eq_true.mp hg w h
  rw [hp] at h
  obtain ⟨i, -, hi⟩ := List.mem_filterMap.mp h
  exact lw_w i hi h1
/-- the words of a contract for the method y with code b, L locals, answer r -/
abbrev ws_ (y : MethodName) (b : ByteArray) (L : Nat) (r : Option FieldType) : List Cond := Cond.code y b L r :: lw_all
theorem lw_meth {y : MethodName} {b : ByteArray} {L : Nat} {r : Option FieldType} (h : Cond.code y b L r ∈ lw_all) : GoodIn lw_all (ws_ y b L r) := by
  intro w hw
  rcases List.mem_cons.mp hw with e | e
  · rw [e]
    exact lw_self _ h
  · exact lw_self _ e
theorem lw_app {a c : List Cond} (ha : ∀ w ∈ a, w ∈ lw_all) (hc : GoodIn lw_all c) : GoodIn lw_all (a ++ c) := by
  intro w hw
  rcases List.mem_append.mp hw with e | e
  · exact lw_self w (ha w e)
  · exact hc w e
/-- what a call through an object asks: cwV n hts (lw_V ..) -/
theorem lw_V {own : String} {idx : Nat} {C : String} {y : MethodName} {b : ByteArray} {L : Nat} {r : Option FieldType} (h1 : Cond.methodLink own idx y ∈ lw_all) (h2 : Cond.instanceMethod y ∈ lw_all) (h3 : Cond.selects C y y ∈ lw_all) (h4 : Cond.initialized C ∈ lw_all) (h5 : Cond.code y b L r ∈ lw_all) : GoodIn lw_all (wsV own idx C y (ws_ y b L r)) := by
  refine lw_app ?_ (lw_meth h5)
  intro w hw
  simp only [List.mem_cons, List.not_mem_nil, or_false] at hw
  rcases hw with e | e | e | e
  · rw [e]; exact h1
  · rw [e]; exact h2
  · rw [e]; exact h3
  · rw [e]; exact h4
/-- what a static call asks: va_cwS n hts (lw_S ..) -/
theorem lw_S {own : String} {idx : Nat} {y : MethodName} {b : ByteArray} {L : Nat} {r : Option FieldType} (h1 : Cond.methodLink own idx y ∈ lw_all) (h2 : Cond.static y ∈ lw_all) (h3 : Cond.initialized y.cls ∈ lw_all) (h4 : Cond.code y b L r ∈ lw_all) : GoodIn lw_all (va_wsS own idx y (ws_ y b L r)) := by
  refine lw_app ?_ (lw_meth h4)
  intro w hw
  simp only [List.mem_cons, List.not_mem_nil, or_false] at hw
  rcases hw with e | e | e
  · rw [e]; exact h1
  · rw [e]; exact h2
  · rw [e]; exact h3
/-- the words of a contract for a method WITH HANDLERS (hh: its table) -/
abbrev wsW_ (y : MethodName) (b : ByteArray) (L : Nat) (r : Option FieldType) (hh : List (Nat × Nat × Nat × Nat)) : List Cond := Cond.codeWith y b L r hh :: lw_all
theorem lw_methW {y : MethodName} {b : ByteArray} {L : Nat} {r : Option FieldType} {hh : List (Nat × Nat × Nat × Nat)} (h : Cond.codeWith y b L r hh ∈ lw_all) : GoodIn lw_all (wsW_ y b L r hh) := by
  intro w hw
  rcases List.mem_cons.mp hw with e | e
  · rw [e]
    exact lw_self _ h
  · exact lw_self _ e
/-- any list of words by their places (lw_in), good -/
theorem lw_good {ws : List Cond} (h : ∀ w ∈ ws, w ∈ lw_all) : GoodIn lw_all ws := fun w hw => lw_self w (h w hw)
/-- what a call of a method with handlers asks: vx_cwVW n hts (lw_VW ..), vx_cwSW n hts (lw_SW ..) -/
theorem lw_VW {own : String} {idx : Nat} {C : String} {y : MethodName} {b : ByteArray} {L : Nat} {r : Option FieldType} {hh : List (Nat × Nat × Nat × Nat)} (h1 : Cond.methodLink own idx y ∈ lw_all) (h2 : Cond.instanceMethod y ∈ lw_all) (h3 : Cond.selects C y y ∈ lw_all) (h4 : Cond.initialized C ∈ lw_all) (h5 : Cond.codeWith y b L r hh ∈ lw_all) : GoodIn lw_all (wsV own idx C y (wsW_ y b L r hh)) := by
  refine lw_app ?_ (lw_methW h5)
  intro w hw
  simp only [List.mem_cons, List.not_mem_nil, or_false] at hw
  rcases hw with e | e | e | e
  · rw [e]; exact h1
  · rw [e]; exact h2
  · rw [e]; exact h3
  · rw [e]; exact h4
theorem lw_SW {own : String} {idx : Nat} {y : MethodName} {b : ByteArray} {L : Nat} {r : Option FieldType} {hh : List (Nat × Nat × Nat × Nat)} (h1 : Cond.methodLink own idx y ∈ lw_all) (h2 : Cond.static y ∈ lw_all) (h3 : Cond.initialized y.cls ∈ lw_all) (h4 : Cond.codeWith y b L r hh ∈ lw_all) : GoodIn lw_all (va_wsS own idx y (wsW_ y b L r hh)) := by
  refine lw_app ?_ (lw_methW h4)
  intro w hw
  simp only [List.mem_cons, List.not_mem_nil, or_false] at hw
  rcases hw with e | e | e
  · rw [e]; exact h1
  · rw [e]; exact h2
  · rw [e]; exact h3
/-- a word by its place in its run of the tables -/
theorem lw_at {r : List Cond} (hr : ∀ w ∈ r, w ∈ lw_tbl) {w : Cond} (i : Nat) (h : r[i]? = some w) : w ∈ lw_tbl := hr w (List.mem_of_getElem? h)
theorem lw_g {w : Cond} (h : w ∈ lw_tbl) (g : goodWord w = true) : w ∈ lw_all := List.mem_filter.mpr ⟨h, g⟩
theorem lw_ms : ∀ w ∈ k2_sels lw_privs, w ∈ lw_tbl := fun w h => show w ∈ k2_sels lw_privs ++ tables_1 from List.mem_append_left _ h
theorem lw_m1 : ∀ w ∈ tables_1_1, w ∈ lw_tbl := fun w h => show w ∈ k2_sels lw_privs ++ tables_1 from List.mem_append_right (k2_sels lw_privs) (show w ∈ tables_1 from List.mem_append_left _ h)
theorem lw_m2 : ∀ w ∈ tables_1_2, w ∈ lw_tbl := fun w h => show w ∈ k2_sels lw_privs ++ tables_1 from List.mem_append_right (k2_sels lw_privs) (show w ∈ tables_1 from List.mem_append_right _ h)
theorem qs0 : (Cond.selects "StreamWatcher" ⟨"StreamWatcher", "patternsChanged", "()V"⟩ ⟨"StreamWatcher", "patternsChanged", "()V"⟩) ∈ lw_all := lw_g (lw_at lw_ms 0 rfl) rfl
theorem qs1 : (Cond.selects "StreamWatcher" ⟨"StreamWatcher", "startOver", "()V"⟩ ⟨"StreamWatcher", "startOver", "()V"⟩) ∈ lw_all := lw_g (lw_at lw_ms 1 rfl) rfl
theorem qs2 : (Cond.selects "StreamWatcher" ⟨"StreamWatcher", "isPlace", "(I)Z"⟩ ⟨"StreamWatcher", "isPlace", "(I)Z"⟩) ∈ lw_all := lw_g (lw_at lw_ms 2 rfl) rfl
theorem qs3 : (Cond.selects "StreamWatcher" ⟨"StreamWatcher", "goThrough", "()V"⟩ ⟨"StreamWatcher", "goThrough", "()V"⟩) ∈ lw_all := lw_g (lw_at lw_ms 3 rfl) rfl
theorem qs4 : (Cond.selects "StreamWatcher" ⟨"StreamWatcher", "link", "()V"⟩ ⟨"StreamWatcher", "link", "()V"⟩) ∈ lw_all := lw_g (lw_at lw_ms 4 rfl) rfl
theorem qs5 : (Cond.selects "StreamWatcher" ⟨"StreamWatcher", "openFrom", "(II)I"⟩ ⟨"StreamWatcher", "openFrom", "(II)I"⟩) ∈ lw_all := lw_g (lw_at lw_ms 5 rfl) rfl
theorem qs6 : (Cond.selects "StreamWatcher" ⟨"StreamWatcher", "canBeEmpty", "(I)Z"⟩ ⟨"StreamWatcher", "canBeEmpty", "(I)Z"⟩) ∈ lw_all := lw_g (lw_at lw_ms 6 rfl) rfl
theorem qs7 : (Cond.selects "StreamWatcher" ⟨"StreamWatcher", "repeats", "(I)Z"⟩ ⟨"StreamWatcher", "repeats", "(I)Z"⟩) ∈ lw_all := lw_g (lw_at lw_ms 7 rfl) rfl
theorem qs8 : (Cond.selects "StreamWatcher" ⟨"StreamWatcher", "emptyFrom", "(II)Z"⟩ ⟨"StreamWatcher", "emptyFrom", "(II)Z"⟩) ∈ lw_all := lw_g (lw_at lw_ms 8 rfl) rfl
theorem qs9 : (Cond.selects "StreamWatcher" ⟨"StreamWatcher", "advance", "(II)V"⟩ ⟨"StreamWatcher", "advance", "(II)V"⟩) ∈ lw_all := lw_g (lw_at lw_ms 9 rfl) rfl
theorem qs10 : (Cond.selects "StreamWatcher" ⟨"StreamWatcher", "onward", "(I)I"⟩ ⟨"StreamWatcher", "onward", "(I)I"⟩) ∈ lw_all := lw_g (lw_at lw_ms 10 rfl) rfl
theorem qs11 : (Cond.selects "StreamWatcher" ⟨"StreamWatcher", "placesFor", "(I)I"⟩ ⟨"StreamWatcher", "placesFor", "(I)I"⟩) ∈ lw_all := lw_g (lw_at lw_ms 11 rfl) rfl
theorem qs12 : (Cond.selects "StreamWatcher" ⟨"StreamWatcher", "pass", "(II)V"⟩ ⟨"StreamWatcher", "pass", "(II)V"⟩) ∈ lw_all := lw_g (lw_at lw_ms 12 rfl) rfl
theorem qs13 : (Cond.selects "StreamWatcher" ⟨"StreamWatcher", "note", "(I)V"⟩ ⟨"StreamWatcher", "note", "(I)V"⟩) ∈ lw_all := lw_g (lw_at lw_ms 13 rfl) rfl
theorem qs14 : (Cond.selects "StreamWatcherModel" ⟨"StreamWatcherModel", "pattern", "(I)Z"⟩ ⟨"StreamWatcherModel", "pattern", "(I)Z"⟩) ∈ lw_all := lw_g (lw_at lw_ms 14 rfl) rfl
theorem qs15 : (Cond.selects "StreamWatcherModel" ⟨"StreamWatcherModel", "endsAt", "(III)Z"⟩ ⟨"StreamWatcherModel", "endsAt", "(III)Z"⟩) ∈ lw_all := lw_g (lw_at lw_ms 15 rfl) rfl
theorem qs16 : (Cond.selects "StreamWatcherModel" ⟨"StreamWatcherModel", "work", "(III)V"⟩ ⟨"StreamWatcherModel", "work", "(III)V"⟩) ∈ lw_all := lw_g (lw_at lw_ms 16 rfl) rfl
theorem qs17 : (Cond.selects "StreamWatcherModel" ⟨"StreamWatcherModel", "extend", "(III)V"⟩ ⟨"StreamWatcherModel", "extend", "(III)V"⟩) ∈ lw_all := lw_g (lw_at lw_ms 17 rfl) rfl
theorem qs18 : (Cond.selects "StreamWatcherModel" ⟨"StreamWatcherModel", "allows", "(II)Z"⟩ ⟨"StreamWatcherModel", "allows", "(II)Z"⟩) ∈ lw_all := lw_g (lw_at lw_ms 18 rfl) rfl
end
section
set_option maxRecDepth 100000
/-! StreamWatcher -/
def RX0 : String := "StreamWatcher"
def TX0 : u_T := fun k => match k with
  | 0 => ("StreamWatcher", "sizes", "[B", true)
  | 1 => ("StreamWatcher", "sets", "[B", true)
  | 2 => ("StreamWatcher", "counts", "[B", true)
  | 3 => ("StreamWatcher", "stream", "[B", true)
  | 4 => ("StreamWatcher", "length", "I", false)
  | 5 => ("StreamWatcher", "linked", "Z", false)
  | 6 => ("StreamWatcher", "firstPlaces", "I", false)
  | 7 => ("StreamWatcher", "follow", "[I", true)
  | 8 => ("StreamWatcher", "lastPlaces", "I", false)
  | 9 => ("StreamWatcher", "done", "I", false)
  | 10 => ("StreamWatcher", "active", "I", false)
  | 11 => ("StreamWatcher", "early", "[B", true)
  | 12 => ("StreamWatcher", "late", "[B", true)
  | 13 => ("StreamWatcher", "nextEarly", "[B", true)
  | 14 => ("StreamWatcher", "nextLate", "[B", true)
  | 15 => ("StreamWatcher", "earliestAt", "[B", true)
  | _ => ("StreamWatcher", "latestAt", "[B", true)
def tyX0 : Nat → FieldType := fun k => match k with
  | 0 => .array .byte
  | 1 => .array .byte
  | 2 => .array .byte
  | 3 => .array .byte
  | 4 => .int
  | 5 => .boolean
  | 6 => .int
  | 7 => .array .int
  | 8 => .int
  | 9 => .int
  | 10 => .int
  | 11 => .array .byte
  | 12 => .array .byte
  | 13 => .array .byte
  | 14 => .array .byte
  | 15 => .array .byte
  | _ => .array .byte
abbrev wsX00 : List Cond := u_ws RX0 TX0 17
set_option maxRecDepth 100000 in
theorem nmX0 : ∀ a, a < 17 → ∀ b, b < 17 → a ≠ b → (TX0 a).2.1 ≠ (TX0 b).2.1 := by decide +kernel
set_option maxRecDepth 100000 in
theorem tyX0_ok : ∀ k, k < 17 → parseFieldDescriptor (TX0 k).2.2.1 = some (tyX0 k) := by decide +kernel
abbrev cX0_init : ByteArray := prog_1_method_1_code
def yX0_init : MethodName := ⟨RX0, "<init>", "()V"⟩
abbrev cX0_item : ByteArray := prog_1_method_3_code
def yX0_item : MethodName := ⟨RX0, "item", "(III)I"⟩
abbrev cX0_isPattern : ByteArray := prog_1_method_2_code
def yX0_isPattern : MethodName := ⟨RX0, "isPattern", "(I)Z"⟩
abbrev cX0_patternsChanged : ByteArray := prog_1_method_5_code
def yX0_patternsChanged : MethodName := ⟨RX0, "patternsChanged", "()V"⟩
abbrev cX0_startOver : ByteArray := prog_1_method_6_code
def yX0_startOver : MethodName := ⟨RX0, "startOver", "()V"⟩
abbrev cX0_drop : ByteArray := prog_1_method_4_code
def yX0_drop : MethodName := ⟨RX0, "drop", "(I)I"⟩
abbrev cX0_items : ByteArray := prog_1_method_7_code
def yX0_items : MethodName := ⟨RX0, "items", "(I)I"⟩
abbrev cX0_push : ByteArray := prog_1_method_15_code
def yX0_push : MethodName := ⟨RX0, "push", "(I)I"⟩
abbrev cX0_endingAt : ByteArray := prog_1_method_23_code
def yX0_endingAt : MethodName := ⟨RX0, "endingAt", "(I)I"⟩
abbrev cX0_isPlace : ByteArray := prog_1_method_22_code
def yX0_isPlace : MethodName := ⟨RX0, "isPlace", "(I)Z"⟩
abbrev cX0_goThrough : ByteArray := prog_1_method_18_code
def yX0_goThrough : MethodName := ⟨RX0, "goThrough", "()V"⟩
abbrev cX0_link : ByteArray := prog_1_method_10_code
def yX0_link : MethodName := ⟨RX0, "link", "()V"⟩
abbrev cX0_openFrom : ByteArray := prog_1_method_11_code
def yX0_openFrom : MethodName := ⟨RX0, "openFrom", "(II)I"⟩
abbrev cX0_canBeEmpty : ByteArray := prog_1_method_8_code
def yX0_canBeEmpty : MethodName := ⟨RX0, "canBeEmpty", "(I)Z"⟩
abbrev cX0_repeats : ByteArray := prog_1_method_9_code
def yX0_repeats : MethodName := ⟨RX0, "repeats", "(I)Z"⟩
abbrev cX0_emptyFrom : ByteArray := prog_1_method_12_code
def yX0_emptyFrom : MethodName := ⟨RX0, "emptyFrom", "(II)Z"⟩
abbrev cX0_advance : ByteArray := prog_1_method_19_code
def yX0_advance : MethodName := ⟨RX0, "advance", "(II)V"⟩
abbrev cX0_onward : ByteArray := prog_1_method_14_code
def yX0_onward : MethodName := ⟨RX0, "onward", "(I)I"⟩
abbrev cX0_placesFor : ByteArray := prog_1_method_13_code
def yX0_placesFor : MethodName := ⟨RX0, "placesFor", "(I)I"⟩
abbrev cX0_pass : ByteArray := prog_1_method_20_code
def yX0_pass : MethodName := ⟨RX0, "pass", "(II)V"⟩
abbrev cX0_note : ByteArray := prog_1_method_21_code
def yX0_note : MethodName := ⟨RX0, "note", "(I)V"⟩
abbrev cX0_reset : ByteArray := prog_1_method_16_code
def yX0_reset : MethodName := ⟨RX0, "reset", "()V"⟩
abbrev cX0_taken : ByteArray := prog_1_method_17_code
def yX0_taken : MethodName := ⟨RX0, "taken", "()I"⟩
abbrev cX0_ends : ByteArray := prog_1_method_24_code
def yX0_ends : MethodName := ⟨RX0, "ends", "(I)I"⟩
abbrev cX0_firstEnd : ByteArray := prog_1_method_25_code
def yX0_firstEnd : MethodName := ⟨RX0, "firstEnd", "(I)I"⟩
abbrev cX0_earliest : ByteArray := prog_1_method_26_code
def yX0_earliest : MethodName := ⟨RX0, "earliest", "(II)I"⟩
abbrev cX0_latest : ByteArray := prog_1_method_27_code
def yX0_latest : MethodName := ⟨RX0, "latest", "(II)I"⟩
abbrev cX0_longest : ByteArray := prog_1_method_28_code
def yX0_longest : MethodName := ⟨RX0, "longest", "(I)I"⟩
abbrev cX0_completing : ByteArray := prog_1_method_29_code
def yX0_completing : MethodName := ⟨RX0, "completing", "(I)I"⟩
abbrev cX0_emptyFits : ByteArray := prog_1_method_30_code
def yX0_emptyFits : MethodName := ⟨RX0, "emptyFits", "()I"⟩
theorem q20 : (Jvm.Cond.initialized "StreamWatcher") ∈ lw_all := lw_g (lw_at lw_m1 1 rfl) rfl
theorem q23 : (Jvm.Cond.instantiable "StreamWatcher" (17 : Nat)) ∈ lw_all := lw_g (lw_at lw_m1 4 rfl) rfl
theorem q25 : (Jvm.Cond.instanceMethod ({ cls := "StreamWatcher", name := "<init>", desc := "()V" } : Jvm.MethodName)) ∈ lw_all := lw_g (lw_at lw_m1 6 rfl) rfl
theorem q26 : (Jvm.Cond.code ({ cls := "StreamWatcher", name := "<init>", desc := "()V" } : Jvm.MethodName) prog_1_method_1_code (1 : Nat) (Option.none : Option Jvm.ClassFile.FieldType)) ∈ lw_all := lw_g (lw_at lw_m1 7 rfl) rfl
theorem q27 : (Jvm.Cond.methodLink "StreamWatcher" (1 : Nat) ({ cls := "java/lang/Object", name := "<init>", desc := "()V" } : Jvm.MethodName)) ∈ lw_all := lw_g (lw_at lw_m1 8 rfl) rfl
theorem q30 : (Jvm.Cond.fieldLink "StreamWatcher" (7 : Nat) "StreamWatcher" "sizes" "[B") ∈ lw_all := lw_g (lw_at lw_m1 11 rfl) rfl
theorem q31 : (Jvm.Cond.fieldLink "StreamWatcher" (13 : Nat) "StreamWatcher" "sets" "[B") ∈ lw_all := lw_g (lw_at lw_m1 12 rfl) rfl
theorem q32 : (Jvm.Cond.fieldLink "StreamWatcher" (16 : Nat) "StreamWatcher" "counts" "[B") ∈ lw_all := lw_g (lw_at lw_m1 13 rfl) rfl
theorem q33 : (Jvm.Cond.fieldLink "StreamWatcher" (19 : Nat) "StreamWatcher" "stream" "[B") ∈ lw_all := lw_g (lw_at lw_m1 14 rfl) rfl
theorem q34 : (Jvm.Cond.fieldLink "StreamWatcher" (89 : Nat) "StreamWatcher" "length" "I") ∈ lw_all := lw_g (lw_at lw_m1 15 rfl) rfl
theorem q35 : (Jvm.Cond.fieldLink "StreamWatcher" (51 : Nat) "StreamWatcher" "linked" "Z") ∈ lw_all := lw_g (lw_at lw_m1 16 rfl) rfl
theorem q36 : (Jvm.Cond.fieldLink "StreamWatcher" (65 : Nat) "StreamWatcher" "firstPlaces" "I") ∈ lw_all := lw_g (lw_at lw_m1 17 rfl) rfl
theorem q37 : (Jvm.Cond.fieldLink "StreamWatcher" (22 : Nat) "StreamWatcher" "follow" "[I") ∈ lw_all := lw_g (lw_at lw_m1 18 rfl) rfl
theorem q38 : (Jvm.Cond.fieldLink "StreamWatcher" (68 : Nat) "StreamWatcher" "lastPlaces" "I") ∈ lw_all := lw_g (lw_at lw_m1 19 rfl) rfl
theorem q39 : (Jvm.Cond.fieldLink "StreamWatcher" (58 : Nat) "StreamWatcher" "done" "I") ∈ lw_all := lw_g (lw_at lw_m1 20 rfl) rfl
theorem q40 : (Jvm.Cond.fieldLink "StreamWatcher" (62 : Nat) "StreamWatcher" "active" "I") ∈ lw_all := lw_g (lw_at lw_m1 21 rfl) rfl
theorem q41 : (Jvm.Cond.fieldLink "StreamWatcher" (26 : Nat) "StreamWatcher" "early" "[B") ∈ lw_all := lw_g (lw_at lw_m1 22 rfl) rfl
theorem q42 : (Jvm.Cond.fieldLink "StreamWatcher" (29 : Nat) "StreamWatcher" "late" "[B") ∈ lw_all := lw_g (lw_at lw_m1 23 rfl) rfl
theorem q43 : (Jvm.Cond.fieldLink "StreamWatcher" (32 : Nat) "StreamWatcher" "nextEarly" "[B") ∈ lw_all := lw_g (lw_at lw_m1 24 rfl) rfl
theorem q44 : (Jvm.Cond.fieldLink "StreamWatcher" (35 : Nat) "StreamWatcher" "nextLate" "[B") ∈ lw_all := lw_g (lw_at lw_m1 25 rfl) rfl
theorem q45 : (Jvm.Cond.fieldLink "StreamWatcher" (38 : Nat) "StreamWatcher" "earliestAt" "[B") ∈ lw_all := lw_g (lw_at lw_m1 26 rfl) rfl
theorem q46 : (Jvm.Cond.fieldLink "StreamWatcher" (41 : Nat) "StreamWatcher" "latestAt" "[B") ∈ lw_all := lw_g (lw_at lw_m1 27 rfl) rfl
theorem q47 : (Jvm.Cond.laysFinal "StreamWatcher" "StreamWatcher" "sizes" "[B") ∈ lw_all := lw_g (lw_at lw_m1 28 rfl) rfl
theorem q48 : (Jvm.Cond.soleField "StreamWatcher" "sizes") ∈ lw_all := lw_g (lw_at lw_m1 29 rfl) rfl
theorem q49 : (Jvm.Cond.laysFinal "StreamWatcher" "StreamWatcher" "sets" "[B") ∈ lw_all := lw_g (lw_at lw_m1 30 rfl) rfl
theorem q50 : (Jvm.Cond.soleField "StreamWatcher" "sets") ∈ lw_all := lw_g (lw_at lw_m1 31 rfl) rfl
theorem q51 : (Jvm.Cond.laysFinal "StreamWatcher" "StreamWatcher" "counts" "[B") ∈ lw_all := lw_g (lw_at lw_m1 32 rfl) rfl
theorem q52 : (Jvm.Cond.soleField "StreamWatcher" "counts") ∈ lw_all := lw_g (lw_at lw_m1 33 rfl) rfl
theorem q53 : (Jvm.Cond.laysFinal "StreamWatcher" "StreamWatcher" "stream" "[B") ∈ lw_all := lw_g (lw_at lw_m1 34 rfl) rfl
theorem q54 : (Jvm.Cond.soleField "StreamWatcher" "stream") ∈ lw_all := lw_g (lw_at lw_m1 35 rfl) rfl
theorem q55 : (Jvm.Cond.lays "StreamWatcher" "StreamWatcher" "length" "I") ∈ lw_all := lw_g (lw_at lw_m1 36 rfl) rfl
theorem q56 : (Jvm.Cond.soleField "StreamWatcher" "length") ∈ lw_all := lw_g (lw_at lw_m1 37 rfl) rfl
theorem q57 : (Jvm.Cond.lays "StreamWatcher" "StreamWatcher" "linked" "Z") ∈ lw_all := lw_g (lw_at lw_m1 38 rfl) rfl
theorem q58 : (Jvm.Cond.soleField "StreamWatcher" "linked") ∈ lw_all := lw_g (lw_at lw_m1 39 rfl) rfl
theorem q59 : (Jvm.Cond.lays "StreamWatcher" "StreamWatcher" "firstPlaces" "I") ∈ lw_all := lw_g (lw_at lw_m1 40 rfl) rfl
theorem q60 : (Jvm.Cond.soleField "StreamWatcher" "firstPlaces") ∈ lw_all := lw_g (lw_at lw_m1 41 rfl) rfl
theorem q61 : (Jvm.Cond.laysFinal "StreamWatcher" "StreamWatcher" "follow" "[I") ∈ lw_all := lw_g (lw_at lw_m1 42 rfl) rfl
theorem q62 : (Jvm.Cond.soleField "StreamWatcher" "follow") ∈ lw_all := lw_g (lw_at lw_m1 43 rfl) rfl
theorem q63 : (Jvm.Cond.lays "StreamWatcher" "StreamWatcher" "lastPlaces" "I") ∈ lw_all := lw_g (lw_at lw_m1 44 rfl) rfl
theorem q64 : (Jvm.Cond.soleField "StreamWatcher" "lastPlaces") ∈ lw_all := lw_g (lw_at lw_m1 45 rfl) rfl
theorem q65 : (Jvm.Cond.lays "StreamWatcher" "StreamWatcher" "done" "I") ∈ lw_all := lw_g (lw_at lw_m1 46 rfl) rfl
theorem q66 : (Jvm.Cond.soleField "StreamWatcher" "done") ∈ lw_all := lw_g (lw_at lw_m1 47 rfl) rfl
theorem q67 : (Jvm.Cond.lays "StreamWatcher" "StreamWatcher" "active" "I") ∈ lw_all := lw_g (lw_at lw_m1 48 rfl) rfl
theorem q68 : (Jvm.Cond.soleField "StreamWatcher" "active") ∈ lw_all := lw_g (lw_at lw_m1 49 rfl) rfl
theorem q69 : (Jvm.Cond.laysFinal "StreamWatcher" "StreamWatcher" "early" "[B") ∈ lw_all := lw_g (lw_at lw_m1 50 rfl) rfl
theorem q70 : (Jvm.Cond.soleField "StreamWatcher" "early") ∈ lw_all := lw_g (lw_at lw_m1 51 rfl) rfl
theorem q71 : (Jvm.Cond.laysFinal "StreamWatcher" "StreamWatcher" "late" "[B") ∈ lw_all := lw_g (lw_at lw_m1 52 rfl) rfl
theorem q72 : (Jvm.Cond.soleField "StreamWatcher" "late") ∈ lw_all := lw_g (lw_at lw_m1 53 rfl) rfl
theorem q73 : (Jvm.Cond.laysFinal "StreamWatcher" "StreamWatcher" "nextEarly" "[B") ∈ lw_all := lw_g (lw_at lw_m1 54 rfl) rfl
theorem q74 : (Jvm.Cond.soleField "StreamWatcher" "nextEarly") ∈ lw_all := lw_g (lw_at lw_m1 55 rfl) rfl
theorem q75 : (Jvm.Cond.laysFinal "StreamWatcher" "StreamWatcher" "nextLate" "[B") ∈ lw_all := lw_g (lw_at lw_m1 56 rfl) rfl
theorem q76 : (Jvm.Cond.soleField "StreamWatcher" "nextLate") ∈ lw_all := lw_g (lw_at lw_m1 57 rfl) rfl
theorem q77 : (Jvm.Cond.laysFinal "StreamWatcher" "StreamWatcher" "earliestAt" "[B") ∈ lw_all := lw_g (lw_at lw_m1 58 rfl) rfl
theorem q78 : (Jvm.Cond.soleField "StreamWatcher" "earliestAt") ∈ lw_all := lw_g (lw_at lw_m1 59 rfl) rfl
theorem q79 : (Jvm.Cond.laysFinal "StreamWatcher" "StreamWatcher" "latestAt" "[B") ∈ lw_all := lw_g (lw_at lw_m1 60 rfl) rfl
theorem q80 : (Jvm.Cond.soleField "StreamWatcher" "latestAt") ∈ lw_all := lw_g (lw_at lw_m1 61 rfl) rfl
theorem q81 : (Jvm.Cond.superclass "StreamWatcher" "java/lang/Object") ∈ lw_all := lw_g (lw_at lw_m1 62 rfl) rfl
theorem q85 : (Jvm.Cond.instanceMethod ({ cls := "StreamWatcher", name := "item", desc := "(III)I" } : Jvm.MethodName)) ∈ lw_all := lw_g (lw_at lw_m1 66 rfl) rfl
theorem q86 : (Jvm.Cond.selects "StreamWatcher" ({ cls := "StreamWatcher", name := "item", desc := "(III)I" } : Jvm.MethodName) ({ cls := "StreamWatcher", name := "item", desc := "(III)I" } : Jvm.MethodName)) ∈ lw_all := lw_g (lw_at lw_m1 67 rfl) rfl
theorem q87 : (Jvm.Cond.code ({ cls := "StreamWatcher", name := "item", desc := "(III)I" } : Jvm.MethodName) prog_1_method_3_code (5 : Nat) (Option.some Jvm.ClassFile.FieldType.int)) ∈ lw_all := lw_g (lw_at lw_m1 68 rfl) rfl
theorem q88 : (Jvm.Cond.methodLink "StreamWatcher" (44 : Nat) ({ cls := "StreamWatcher", name := "isPattern", desc := "(I)Z" } : Jvm.MethodName)) ∈ lw_all := lw_g (lw_at lw_m1 69 rfl) rfl
theorem q89 : (Jvm.Cond.static ({ cls := "StreamWatcher", name := "isPattern", desc := "(I)Z" } : Jvm.MethodName)) ∈ lw_all := lw_g (lw_at lw_m1 70 rfl) rfl
theorem q90 : (Jvm.Cond.code ({ cls := "StreamWatcher", name := "isPattern", desc := "(I)Z" } : Jvm.MethodName) prog_1_method_2_code (1 : Nat) (Option.some Jvm.ClassFile.FieldType.boolean)) ∈ lw_all := lw_g (lw_at lw_m1 71 rfl) rfl
theorem q91 : (Jvm.Cond.methodLink "StreamWatcher" (48 : Nat) ({ cls := "StreamWatcher", name := "patternsChanged", desc := "()V" } : Jvm.MethodName)) ∈ lw_all := lw_g (lw_at lw_m1 72 rfl) rfl
theorem q92 : (Jvm.Cond.privateMethod ({ cls := "StreamWatcher", name := "patternsChanged", desc := "()V" } : Jvm.MethodName)) ∈ lw_tbl := lw_at lw_m1 73 rfl
theorem q93 : (Jvm.Cond.instanceMethod ({ cls := "StreamWatcher", name := "patternsChanged", desc := "()V" } : Jvm.MethodName)) ∈ lw_all := lw_g (lw_at lw_m1 74 rfl) rfl
theorem q94 : (Jvm.Cond.code ({ cls := "StreamWatcher", name := "patternsChanged", desc := "()V" } : Jvm.MethodName) prog_1_method_5_code (1 : Nat) (Option.none : Option Jvm.ClassFile.FieldType)) ∈ lw_all := lw_g (lw_at lw_m1 75 rfl) rfl
theorem q95 : (Jvm.Cond.methodLink "StreamWatcher" (55 : Nat) ({ cls := "StreamWatcher", name := "startOver", desc := "()V" } : Jvm.MethodName)) ∈ lw_all := lw_g (lw_at lw_m1 76 rfl) rfl
theorem q96 : (Jvm.Cond.privateMethod ({ cls := "StreamWatcher", name := "startOver", desc := "()V" } : Jvm.MethodName)) ∈ lw_tbl := lw_at lw_m1 77 rfl
theorem q97 : (Jvm.Cond.instanceMethod ({ cls := "StreamWatcher", name := "startOver", desc := "()V" } : Jvm.MethodName)) ∈ lw_all := lw_g (lw_at lw_m1 78 rfl) rfl
theorem q98 : (Jvm.Cond.code ({ cls := "StreamWatcher", name := "startOver", desc := "()V" } : Jvm.MethodName) prog_1_method_6_code (1 : Nat) (Option.none : Option Jvm.ClassFile.FieldType)) ∈ lw_all := lw_g (lw_at lw_m1 79 rfl) rfl
theorem q100 : (Jvm.Cond.instanceMethod ({ cls := "StreamWatcher", name := "drop", desc := "(I)I" } : Jvm.MethodName)) ∈ lw_all := lw_g (lw_at lw_m1 81 rfl) rfl
theorem q101 : (Jvm.Cond.selects "StreamWatcher" ({ cls := "StreamWatcher", name := "drop", desc := "(I)I" } : Jvm.MethodName) ({ cls := "StreamWatcher", name := "drop", desc := "(I)I" } : Jvm.MethodName)) ∈ lw_all := lw_g (lw_at lw_m1 82 rfl) rfl
theorem q102 : (Jvm.Cond.code ({ cls := "StreamWatcher", name := "drop", desc := "(I)I" } : Jvm.MethodName) prog_1_method_4_code (2 : Nat) (Option.some Jvm.ClassFile.FieldType.int)) ∈ lw_all := lw_g (lw_at lw_m1 83 rfl) rfl
theorem q104 : (Jvm.Cond.instanceMethod ({ cls := "StreamWatcher", name := "items", desc := "(I)I" } : Jvm.MethodName)) ∈ lw_all := lw_g (lw_at lw_m1 85 rfl) rfl
theorem q105 : (Jvm.Cond.selects "StreamWatcher" ({ cls := "StreamWatcher", name := "items", desc := "(I)I" } : Jvm.MethodName) ({ cls := "StreamWatcher", name := "items", desc := "(I)I" } : Jvm.MethodName)) ∈ lw_all := lw_g (lw_at lw_m1 86 rfl) rfl
theorem q106 : (Jvm.Cond.code ({ cls := "StreamWatcher", name := "items", desc := "(I)I" } : Jvm.MethodName) prog_1_method_7_code (2 : Nat) (Option.some Jvm.ClassFile.FieldType.int)) ∈ lw_all := lw_g (lw_at lw_m1 87 rfl) rfl
theorem q108 : (Jvm.Cond.instanceMethod ({ cls := "StreamWatcher", name := "push", desc := "(I)I" } : Jvm.MethodName)) ∈ lw_all := lw_g (lw_at lw_m1 89 rfl) rfl
theorem q109 : (Jvm.Cond.selects "StreamWatcher" ({ cls := "StreamWatcher", name := "push", desc := "(I)I" } : Jvm.MethodName) ({ cls := "StreamWatcher", name := "push", desc := "(I)I" } : Jvm.MethodName)) ∈ lw_all := lw_g (lw_at lw_m1 90 rfl) rfl
theorem q110 : (Jvm.Cond.code ({ cls := "StreamWatcher", name := "push", desc := "(I)I" } : Jvm.MethodName) prog_1_method_15_code (2 : Nat) (Option.some Jvm.ClassFile.FieldType.int)) ∈ lw_all := lw_g (lw_at lw_m1 91 rfl) rfl
theorem q111 : (Jvm.Cond.methodLink "StreamWatcher" (92 : Nat) ({ cls := "StreamWatcher", name := "endingAt", desc := "(I)I" } : Jvm.MethodName)) ∈ lw_all := lw_g (lw_at lw_m1 92 rfl) rfl
theorem q112 : (Jvm.Cond.instanceMethod ({ cls := "StreamWatcher", name := "endingAt", desc := "(I)I" } : Jvm.MethodName)) ∈ lw_all := lw_g (lw_at lw_m1 93 rfl) rfl
theorem q113 : (Jvm.Cond.selects "StreamWatcher" ({ cls := "StreamWatcher", name := "endingAt", desc := "(I)I" } : Jvm.MethodName) ({ cls := "StreamWatcher", name := "endingAt", desc := "(I)I" } : Jvm.MethodName)) ∈ lw_all := lw_g (lw_at lw_m1 94 rfl) rfl
theorem q114 : (Jvm.Cond.code ({ cls := "StreamWatcher", name := "endingAt", desc := "(I)I" } : Jvm.MethodName) prog_1_method_23_code (4 : Nat) (Option.some Jvm.ClassFile.FieldType.int)) ∈ lw_all := lw_g (lw_at lw_m1 95 rfl) rfl
theorem q115 : (Jvm.Cond.methodLink "StreamWatcher" (112 : Nat) ({ cls := "StreamWatcher", name := "isPlace", desc := "(I)Z" } : Jvm.MethodName)) ∈ lw_all := lw_g (lw_at lw_m1 96 rfl) rfl
theorem q116 : (Jvm.Cond.privateMethod ({ cls := "StreamWatcher", name := "isPlace", desc := "(I)Z" } : Jvm.MethodName)) ∈ lw_tbl := lw_at lw_m1 97 rfl
theorem q117 : (Jvm.Cond.instanceMethod ({ cls := "StreamWatcher", name := "isPlace", desc := "(I)Z" } : Jvm.MethodName)) ∈ lw_all := lw_g (lw_at lw_m1 98 rfl) rfl
theorem q118 : (Jvm.Cond.code ({ cls := "StreamWatcher", name := "isPlace", desc := "(I)Z" } : Jvm.MethodName) prog_1_method_22_code (2 : Nat) (Option.some Jvm.ClassFile.FieldType.boolean)) ∈ lw_all := lw_g (lw_at lw_m1 99 rfl) rfl
theorem q119 : (Jvm.Cond.methodLink "StreamWatcher" (115 : Nat) ({ cls := "StreamWatcher", name := "goThrough", desc := "()V" } : Jvm.MethodName)) ∈ lw_all := lw_g (lw_at lw_m1 100 rfl) rfl
theorem q120 : (Jvm.Cond.privateMethod ({ cls := "StreamWatcher", name := "goThrough", desc := "()V" } : Jvm.MethodName)) ∈ lw_tbl := lw_at lw_m1 101 rfl
theorem q121 : (Jvm.Cond.instanceMethod ({ cls := "StreamWatcher", name := "goThrough", desc := "()V" } : Jvm.MethodName)) ∈ lw_all := lw_g (lw_at lw_m1 102 rfl) rfl
theorem q122 : (Jvm.Cond.code ({ cls := "StreamWatcher", name := "goThrough", desc := "()V" } : Jvm.MethodName) prog_1_method_18_code (2 : Nat) (Option.none : Option Jvm.ClassFile.FieldType)) ∈ lw_all := lw_g (lw_at lw_m1 103 rfl) rfl
theorem q123 : (Jvm.Cond.methodLink "StreamWatcher" (95 : Nat) ({ cls := "StreamWatcher", name := "link", desc := "()V" } : Jvm.MethodName)) ∈ lw_all := lw_g (lw_at lw_m1 104 rfl) rfl
theorem q124 : (Jvm.Cond.privateMethod ({ cls := "StreamWatcher", name := "link", desc := "()V" } : Jvm.MethodName)) ∈ lw_tbl := lw_at lw_m1 105 rfl
theorem q125 : (Jvm.Cond.instanceMethod ({ cls := "StreamWatcher", name := "link", desc := "()V" } : Jvm.MethodName)) ∈ lw_all := lw_g (lw_at lw_m1 106 rfl) rfl
theorem q126 : (Jvm.Cond.code ({ cls := "StreamWatcher", name := "link", desc := "()V" } : Jvm.MethodName) prog_1_method_10_code (5 : Nat) (Option.none : Option Jvm.ClassFile.FieldType)) ∈ lw_all := lw_g (lw_at lw_m1 107 rfl) rfl
theorem q127 : (Jvm.Cond.methodLink "StreamWatcher" (71 : Nat) ({ cls := "StreamWatcher", name := "openFrom", desc := "(II)I" } : Jvm.MethodName)) ∈ lw_all := lw_g (lw_at lw_m1 108 rfl) rfl
theorem q128 : (Jvm.Cond.privateMethod ({ cls := "StreamWatcher", name := "openFrom", desc := "(II)I" } : Jvm.MethodName)) ∈ lw_tbl := lw_at lw_m1 109 rfl
theorem q129 : (Jvm.Cond.instanceMethod ({ cls := "StreamWatcher", name := "openFrom", desc := "(II)I" } : Jvm.MethodName)) ∈ lw_all := lw_g (lw_at lw_m1 110 rfl) rfl
theorem q130 : (Jvm.Cond.code ({ cls := "StreamWatcher", name := "openFrom", desc := "(II)I" } : Jvm.MethodName) prog_1_method_11_code (6 : Nat) (Option.some Jvm.ClassFile.FieldType.int)) ∈ lw_all := lw_g (lw_at lw_m1 111 rfl) rfl
theorem q131 : (Jvm.Cond.methodLink "StreamWatcher" (82 : Nat) ({ cls := "StreamWatcher", name := "canBeEmpty", desc := "(I)Z" } : Jvm.MethodName)) ∈ lw_all := lw_g (lw_at lw_m1 112 rfl) rfl
theorem q132 : (Jvm.Cond.privateMethod ({ cls := "StreamWatcher", name := "canBeEmpty", desc := "(I)Z" } : Jvm.MethodName)) ∈ lw_tbl := lw_at lw_m1 113 rfl
theorem q133 : (Jvm.Cond.instanceMethod ({ cls := "StreamWatcher", name := "canBeEmpty", desc := "(I)Z" } : Jvm.MethodName)) ∈ lw_all := lw_g (lw_at lw_m1 114 rfl) rfl
theorem q134 : (Jvm.Cond.code ({ cls := "StreamWatcher", name := "canBeEmpty", desc := "(I)Z" } : Jvm.MethodName) prog_1_method_8_code (2 : Nat) (Option.some Jvm.ClassFile.FieldType.boolean)) ∈ lw_all := lw_g (lw_at lw_m1 115 rfl) rfl
theorem q135 : (Jvm.Cond.methodLink "StreamWatcher" (75 : Nat) ({ cls := "StreamWatcher", name := "repeats", desc := "(I)Z" } : Jvm.MethodName)) ∈ lw_all := lw_g (lw_at lw_m1 116 rfl) rfl
theorem q136 : (Jvm.Cond.privateMethod ({ cls := "StreamWatcher", name := "repeats", desc := "(I)Z" } : Jvm.MethodName)) ∈ lw_tbl := lw_at lw_m1 117 rfl
theorem q137 : (Jvm.Cond.instanceMethod ({ cls := "StreamWatcher", name := "repeats", desc := "(I)Z" } : Jvm.MethodName)) ∈ lw_all := lw_g (lw_at lw_m1 118 rfl) rfl
theorem q138 : (Jvm.Cond.code ({ cls := "StreamWatcher", name := "repeats", desc := "(I)Z" } : Jvm.MethodName) prog_1_method_9_code (2 : Nat) (Option.some Jvm.ClassFile.FieldType.boolean)) ∈ lw_all := lw_g (lw_at lw_m1 119 rfl) rfl
theorem q139 : (Jvm.Cond.methodLink "StreamWatcher" (78 : Nat) ({ cls := "StreamWatcher", name := "emptyFrom", desc := "(II)Z" } : Jvm.MethodName)) ∈ lw_all := lw_g (lw_at lw_m1 120 rfl) rfl
theorem q140 : (Jvm.Cond.privateMethod ({ cls := "StreamWatcher", name := "emptyFrom", desc := "(II)Z" } : Jvm.MethodName)) ∈ lw_tbl := lw_at lw_m1 121 rfl
theorem q141 : (Jvm.Cond.instanceMethod ({ cls := "StreamWatcher", name := "emptyFrom", desc := "(II)Z" } : Jvm.MethodName)) ∈ lw_all := lw_g (lw_at lw_m1 122 rfl) rfl
theorem q142 : (Jvm.Cond.code ({ cls := "StreamWatcher", name := "emptyFrom", desc := "(II)Z" } : Jvm.MethodName) prog_1_method_12_code (4 : Nat) (Option.some Jvm.ClassFile.FieldType.boolean)) ∈ lw_all := lw_g (lw_at lw_m1 123 rfl) rfl
theorem q143 : (Jvm.Cond.methodLink "StreamWatcher" (98 : Nat) ({ cls := "StreamWatcher", name := "advance", desc := "(II)V" } : Jvm.MethodName)) ∈ lw_all := lw_g (lw_at lw_m1 124 rfl) rfl
theorem q144 : (Jvm.Cond.privateMethod ({ cls := "StreamWatcher", name := "advance", desc := "(II)V" } : Jvm.MethodName)) ∈ lw_tbl := lw_at lw_m1 125 rfl
theorem q145 : (Jvm.Cond.instanceMethod ({ cls := "StreamWatcher", name := "advance", desc := "(II)V" } : Jvm.MethodName)) ∈ lw_all := lw_g (lw_at lw_m1 126 rfl) rfl
theorem q146 : (Jvm.Cond.code ({ cls := "StreamWatcher", name := "advance", desc := "(II)V" } : Jvm.MethodName) prog_1_method_19_code (5 : Nat) (Option.none : Option Jvm.ClassFile.FieldType)) ∈ lw_all := lw_g (lw_at lw_m1 127 rfl) rfl
theorem q147 : (Jvm.Cond.methodLink "StreamWatcher" (106 : Nat) ({ cls := "StreamWatcher", name := "onward", desc := "(I)I" } : Jvm.MethodName)) ∈ lw_all := lw_g (lw_at lw_m1 128 rfl) rfl
theorem q148 : (Jvm.Cond.privateMethod ({ cls := "StreamWatcher", name := "onward", desc := "(I)I" } : Jvm.MethodName)) ∈ lw_tbl := lw_at lw_m1 129 rfl
theorem q149 : (Jvm.Cond.instanceMethod ({ cls := "StreamWatcher", name := "onward", desc := "(I)I" } : Jvm.MethodName)) ∈ lw_all := lw_g (lw_at lw_m1 130 rfl) rfl
theorem q150 : (Jvm.Cond.code ({ cls := "StreamWatcher", name := "onward", desc := "(I)I" } : Jvm.MethodName) prog_1_method_14_code (4 : Nat) (Option.some Jvm.ClassFile.FieldType.int)) ∈ lw_all := lw_g (lw_at lw_m1 131 rfl) rfl
theorem q151 : (Jvm.Cond.methodLink "StreamWatcher" (85 : Nat) ({ cls := "StreamWatcher", name := "placesFor", desc := "(I)I" } : Jvm.MethodName)) ∈ lw_all := lw_g (lw_at lw_m1 132 rfl) rfl
theorem q152 : (Jvm.Cond.privateMethod ({ cls := "StreamWatcher", name := "placesFor", desc := "(I)I" } : Jvm.MethodName)) ∈ lw_tbl := lw_at lw_m1 133 rfl
theorem q153 : (Jvm.Cond.instanceMethod ({ cls := "StreamWatcher", name := "placesFor", desc := "(I)I" } : Jvm.MethodName)) ∈ lw_all := lw_g (lw_at lw_m1 134 rfl) rfl
theorem q154 : (Jvm.Cond.code ({ cls := "StreamWatcher", name := "placesFor", desc := "(I)I" } : Jvm.MethodName) prog_1_method_13_code (6 : Nat) (Option.some Jvm.ClassFile.FieldType.int)) ∈ lw_all := lw_g (lw_at lw_m1 135 rfl) rfl
theorem q155 : (Jvm.Cond.methodLink "StreamWatcher" (109 : Nat) ({ cls := "StreamWatcher", name := "pass", desc := "(II)V" } : Jvm.MethodName)) ∈ lw_all := lw_g (lw_at lw_m1 136 rfl) rfl
theorem q156 : (Jvm.Cond.privateMethod ({ cls := "StreamWatcher", name := "pass", desc := "(II)V" } : Jvm.MethodName)) ∈ lw_tbl := lw_at lw_m1 137 rfl
theorem q157 : (Jvm.Cond.instanceMethod ({ cls := "StreamWatcher", name := "pass", desc := "(II)V" } : Jvm.MethodName)) ∈ lw_all := lw_g (lw_at lw_m1 138 rfl) rfl
theorem q158 : (Jvm.Cond.code ({ cls := "StreamWatcher", name := "pass", desc := "(II)V" } : Jvm.MethodName) prog_1_method_20_code (4 : Nat) (Option.none : Option Jvm.ClassFile.FieldType)) ∈ lw_all := lw_g (lw_at lw_m1 139 rfl) rfl
theorem q159 : (Jvm.Cond.methodLink "StreamWatcher" (102 : Nat) ({ cls := "StreamWatcher", name := "note", desc := "(I)V" } : Jvm.MethodName)) ∈ lw_all := lw_g (lw_at lw_m1 140 rfl) rfl
theorem q160 : (Jvm.Cond.privateMethod ({ cls := "StreamWatcher", name := "note", desc := "(I)V" } : Jvm.MethodName)) ∈ lw_tbl := lw_at lw_m1 141 rfl
theorem q161 : (Jvm.Cond.instanceMethod ({ cls := "StreamWatcher", name := "note", desc := "(I)V" } : Jvm.MethodName)) ∈ lw_all := lw_g (lw_at lw_m1 142 rfl) rfl
theorem q162 : (Jvm.Cond.code ({ cls := "StreamWatcher", name := "note", desc := "(I)V" } : Jvm.MethodName) prog_1_method_21_code (7 : Nat) (Option.none : Option Jvm.ClassFile.FieldType)) ∈ lw_all := lw_g (lw_at lw_m1 143 rfl) rfl
theorem q164 : (Jvm.Cond.instanceMethod ({ cls := "StreamWatcher", name := "reset", desc := "()V" } : Jvm.MethodName)) ∈ lw_all := lw_g (lw_at lw_m1 145 rfl) rfl
theorem q165 : (Jvm.Cond.selects "StreamWatcher" ({ cls := "StreamWatcher", name := "reset", desc := "()V" } : Jvm.MethodName) ({ cls := "StreamWatcher", name := "reset", desc := "()V" } : Jvm.MethodName)) ∈ lw_all := lw_g (lw_at lw_m1 146 rfl) rfl
theorem q166 : (Jvm.Cond.code ({ cls := "StreamWatcher", name := "reset", desc := "()V" } : Jvm.MethodName) prog_1_method_16_code (1 : Nat) (Option.none : Option Jvm.ClassFile.FieldType)) ∈ lw_all := lw_g (lw_at lw_m1 147 rfl) rfl
theorem q168 : (Jvm.Cond.instanceMethod ({ cls := "StreamWatcher", name := "taken", desc := "()I" } : Jvm.MethodName)) ∈ lw_all := lw_g (lw_at lw_m1 149 rfl) rfl
theorem q169 : (Jvm.Cond.selects "StreamWatcher" ({ cls := "StreamWatcher", name := "taken", desc := "()I" } : Jvm.MethodName) ({ cls := "StreamWatcher", name := "taken", desc := "()I" } : Jvm.MethodName)) ∈ lw_all := lw_g (lw_at lw_m1 150 rfl) rfl
theorem q170 : (Jvm.Cond.code ({ cls := "StreamWatcher", name := "taken", desc := "()I" } : Jvm.MethodName) prog_1_method_17_code (1 : Nat) (Option.some Jvm.ClassFile.FieldType.int)) ∈ lw_all := lw_g (lw_at lw_m1 151 rfl) rfl
theorem q173 : (Jvm.Cond.instanceMethod ({ cls := "StreamWatcher", name := "ends", desc := "(I)I" } : Jvm.MethodName)) ∈ lw_all := lw_g (lw_at lw_m1 154 rfl) rfl
theorem q174 : (Jvm.Cond.selects "StreamWatcher" ({ cls := "StreamWatcher", name := "ends", desc := "(I)I" } : Jvm.MethodName) ({ cls := "StreamWatcher", name := "ends", desc := "(I)I" } : Jvm.MethodName)) ∈ lw_all := lw_g (lw_at lw_m1 155 rfl) rfl
theorem q175 : (Jvm.Cond.code ({ cls := "StreamWatcher", name := "ends", desc := "(I)I" } : Jvm.MethodName) prog_1_method_24_code (4 : Nat) (Option.some Jvm.ClassFile.FieldType.int)) ∈ lw_all := lw_g (lw_at lw_m1 156 rfl) rfl
theorem q177 : (Jvm.Cond.instanceMethod ({ cls := "StreamWatcher", name := "firstEnd", desc := "(I)I" } : Jvm.MethodName)) ∈ lw_all := lw_g (lw_at lw_m1 158 rfl) rfl
theorem q178 : (Jvm.Cond.selects "StreamWatcher" ({ cls := "StreamWatcher", name := "firstEnd", desc := "(I)I" } : Jvm.MethodName) ({ cls := "StreamWatcher", name := "firstEnd", desc := "(I)I" } : Jvm.MethodName)) ∈ lw_all := lw_g (lw_at lw_m1 159 rfl) rfl
theorem q179 : (Jvm.Cond.code ({ cls := "StreamWatcher", name := "firstEnd", desc := "(I)I" } : Jvm.MethodName) prog_1_method_25_code (3 : Nat) (Option.some Jvm.ClassFile.FieldType.int)) ∈ lw_all := lw_g (lw_at lw_m1 160 rfl) rfl
theorem q181 : (Jvm.Cond.instanceMethod ({ cls := "StreamWatcher", name := "earliest", desc := "(II)I" } : Jvm.MethodName)) ∈ lw_all := lw_g (lw_at lw_m1 162 rfl) rfl
theorem q182 : (Jvm.Cond.selects "StreamWatcher" ({ cls := "StreamWatcher", name := "earliest", desc := "(II)I" } : Jvm.MethodName) ({ cls := "StreamWatcher", name := "earliest", desc := "(II)I" } : Jvm.MethodName)) ∈ lw_all := lw_g (lw_at lw_m1 163 rfl) rfl
theorem q183 : (Jvm.Cond.code ({ cls := "StreamWatcher", name := "earliest", desc := "(II)I" } : Jvm.MethodName) prog_1_method_26_code (3 : Nat) (Option.some Jvm.ClassFile.FieldType.int)) ∈ lw_all := lw_g (lw_at lw_m1 164 rfl) rfl
theorem q185 : (Jvm.Cond.instanceMethod ({ cls := "StreamWatcher", name := "latest", desc := "(II)I" } : Jvm.MethodName)) ∈ lw_all := lw_g (lw_at lw_m1 166 rfl) rfl
theorem q186 : (Jvm.Cond.selects "StreamWatcher" ({ cls := "StreamWatcher", name := "latest", desc := "(II)I" } : Jvm.MethodName) ({ cls := "StreamWatcher", name := "latest", desc := "(II)I" } : Jvm.MethodName)) ∈ lw_all := lw_g (lw_at lw_m1 167 rfl) rfl
theorem q187 : (Jvm.Cond.code ({ cls := "StreamWatcher", name := "latest", desc := "(II)I" } : Jvm.MethodName) prog_1_method_27_code (3 : Nat) (Option.some Jvm.ClassFile.FieldType.int)) ∈ lw_all := lw_g (lw_at lw_m1 168 rfl) rfl
theorem q189 : (Jvm.Cond.instanceMethod ({ cls := "StreamWatcher", name := "longest", desc := "(I)I" } : Jvm.MethodName)) ∈ lw_all := lw_g (lw_at lw_m1 170 rfl) rfl
theorem q190 : (Jvm.Cond.selects "StreamWatcher" ({ cls := "StreamWatcher", name := "longest", desc := "(I)I" } : Jvm.MethodName) ({ cls := "StreamWatcher", name := "longest", desc := "(I)I" } : Jvm.MethodName)) ∈ lw_all := lw_g (lw_at lw_m1 171 rfl) rfl
theorem q191 : (Jvm.Cond.code ({ cls := "StreamWatcher", name := "longest", desc := "(I)I" } : Jvm.MethodName) prog_1_method_28_code (5 : Nat) (Option.some Jvm.ClassFile.FieldType.int)) ∈ lw_all := lw_g (lw_at lw_m1 172 rfl) rfl
theorem q192 : (Jvm.Cond.methodLink "StreamWatcher" (118 : Nat) ({ cls := "StreamWatcher", name := "earliest", desc := "(II)I" } : Jvm.MethodName)) ∈ lw_all := lw_g (lw_at lw_m1 173 rfl) rfl
theorem q194 : (Jvm.Cond.instanceMethod ({ cls := "StreamWatcher", name := "completing", desc := "(I)I" } : Jvm.MethodName)) ∈ lw_all := lw_g (lw_at lw_m1 175 rfl) rfl
theorem q195 : (Jvm.Cond.selects "StreamWatcher" ({ cls := "StreamWatcher", name := "completing", desc := "(I)I" } : Jvm.MethodName) ({ cls := "StreamWatcher", name := "completing", desc := "(I)I" } : Jvm.MethodName)) ∈ lw_all := lw_g (lw_at lw_m1 176 rfl) rfl
theorem q196 : (Jvm.Cond.code ({ cls := "StreamWatcher", name := "completing", desc := "(I)I" } : Jvm.MethodName) prog_1_method_29_code (6 : Nat) (Option.some Jvm.ClassFile.FieldType.int)) ∈ lw_all := lw_g (lw_at lw_m1 177 rfl) rfl
theorem q198 : (Jvm.Cond.instanceMethod ({ cls := "StreamWatcher", name := "emptyFits", desc := "()I" } : Jvm.MethodName)) ∈ lw_all := lw_g (lw_at lw_m1 179 rfl) rfl
theorem q199 : (Jvm.Cond.selects "StreamWatcher" ({ cls := "StreamWatcher", name := "emptyFits", desc := "()I" } : Jvm.MethodName) ({ cls := "StreamWatcher", name := "emptyFits", desc := "()I" } : Jvm.MethodName)) ∈ lw_all := lw_g (lw_at lw_m1 180 rfl) rfl
theorem q200 : (Jvm.Cond.code ({ cls := "StreamWatcher", name := "emptyFits", desc := "()I" } : Jvm.MethodName) prog_1_method_30_code (3 : Nat) (Option.some Jvm.ClassFile.FieldType.int)) ∈ lw_all := lw_g (lw_at lw_m1 181 rfl) rfl
theorem in_X0 : ∀ w ∈ wsX00, w ∈ lw_all := lw_in wsX00 [47, 49, 51, 53, 55, 57, 59, 61, 63, 65, 67, 69, 71, 73, 75, 77, 79] (by decide +kernel) (by decide +kernel)

/-! java/lang/Object -/
def RJ0 : String := "java/lang/Object"
abbrev cJ0_init : ByteArray := object_method_1_code
def yJ0_init : MethodName := ⟨RJ0, "<init>", "()V"⟩
theorem q28 : (Jvm.Cond.instanceMethod ({ cls := "java/lang/Object", name := "<init>", desc := "()V" } : Jvm.MethodName)) ∈ lw_all := lw_g (lw_at lw_m1 9 rfl) rfl
theorem q29 : (Jvm.Cond.code ({ cls := "java/lang/Object", name := "<init>", desc := "()V" } : Jvm.MethodName) object_method_1_code (1 : Nat) (Option.none : Option Jvm.ClassFile.FieldType)) ∈ lw_all := lw_g (lw_at lw_m1 10 rfl) rfl

theorem dJ0_init_0 : decode cJ0_init 0 = .ok (.return_, 1) := by decide +kernel
/-! StreamWatcherModel -/
def RX1 : String := "StreamWatcherModel"
def TX1 : u_T := fun k => match k with
  | 0 => ("StreamWatcherModel", "size", "[I", false)
  | 1 => ("StreamWatcherModel", "sets", "[I", false)
  | 2 => ("StreamWatcherModel", "counts", "[I", false)
  | 3 => ("StreamWatcherModel", "many", "I", false)
  | 4 => ("StreamWatcherModel", "stream", "[I", false)
  | 5 => ("StreamWatcherModel", "fits", "[Z", false)
  | _ => ("StreamWatcherModel", "more", "[Z", false)
def tyX1 : Nat → FieldType := fun k => match k with
  | 0 => .array .int
  | 1 => .array .int
  | 2 => .array .int
  | 3 => .int
  | 4 => .array .int
  | 5 => .array .boolean
  | _ => .array .boolean
abbrev wsX10 : List Cond := u_ws RX1 TX1 7
theorem nmX1 : ∀ a, a < 7 → ∀ b, b < 7 → a ≠ b → (TX1 a).2.1 ≠ (TX1 b).2.1 := by decide +kernel
theorem tyX1_ok : ∀ k, k < 7 → parseFieldDescriptor (TX1 k).2.2.1 = some (tyX1 k) := by decide +kernel
abbrev cX1_init : ByteArray := prog_3_method_1_code
def yX1_init : MethodName := ⟨RX1, "<init>", "()V"⟩
abbrev cX1_item : ByteArray := prog_3_method_3_code
def yX1_item : MethodName := ⟨RX1, "item", "(III)I"⟩
abbrev cX1_pattern : ByteArray := prog_3_method_2_code
def yX1_pattern : MethodName := ⟨RX1, "pattern", "(I)Z"⟩
abbrev cX1_drop : ByteArray := prog_3_method_4_code
def yX1_drop : MethodName := ⟨RX1, "drop", "(I)I"⟩
abbrev cX1_items : ByteArray := prog_3_method_5_code
def yX1_items : MethodName := ⟨RX1, "items", "(I)I"⟩
abbrev cX1_push : ByteArray := prog_3_method_10_code
def yX1_push : MethodName := ⟨RX1, "push", "(I)I"⟩
abbrev cX1_endingAt : ByteArray := prog_3_method_13_code
def yX1_endingAt : MethodName := ⟨RX1, "endingAt", "(I)I"⟩
abbrev cX1_endsAt : ByteArray := prog_3_method_9_code
def yX1_endsAt : MethodName := ⟨RX1, "endsAt", "(III)Z"⟩
abbrev cX1_work : ByteArray := prog_3_method_8_code
def yX1_work : MethodName := ⟨RX1, "work", "(III)V"⟩
abbrev cX1_extend : ByteArray := prog_3_method_7_code
def yX1_extend : MethodName := ⟨RX1, "extend", "(III)V"⟩
abbrev cX1_allows : ByteArray := prog_3_method_6_code
def yX1_allows : MethodName := ⟨RX1, "allows", "(II)Z"⟩
abbrev cX1_reset : ByteArray := prog_3_method_11_code
def yX1_reset : MethodName := ⟨RX1, "reset", "()V"⟩
abbrev cX1_taken : ByteArray := prog_3_method_12_code
def yX1_taken : MethodName := ⟨RX1, "taken", "()I"⟩
abbrev cX1_ends : ByteArray := prog_3_method_14_code
def yX1_ends : MethodName := ⟨RX1, "ends", "(I)I"⟩
abbrev cX1_firstEnd : ByteArray := prog_3_method_15_code
def yX1_firstEnd : MethodName := ⟨RX1, "firstEnd", "(I)I"⟩
abbrev cX1_earliest : ByteArray := prog_3_method_16_code
def yX1_earliest : MethodName := ⟨RX1, "earliest", "(II)I"⟩
abbrev cX1_latest : ByteArray := prog_3_method_17_code
def yX1_latest : MethodName := ⟨RX1, "latest", "(II)I"⟩
abbrev cX1_longest : ByteArray := prog_3_method_18_code
def yX1_longest : MethodName := ⟨RX1, "longest", "(I)I"⟩
abbrev cX1_completing : ByteArray := prog_3_method_19_code
def yX1_completing : MethodName := ⟨RX1, "completing", "(I)I"⟩
abbrev cX1_emptyFits : ByteArray := prog_3_method_20_code
def yX1_emptyFits : MethodName := ⟨RX1, "emptyFits", "()I"⟩
theorem q21 : (Jvm.Cond.initialized "StreamWatcherModel") ∈ lw_all := lw_g (lw_at lw_m1 2 rfl) rfl
theorem q202 : (Jvm.Cond.instantiable "StreamWatcherModel" (7 : Nat)) ∈ lw_all := lw_g (lw_at lw_m1 183 rfl) rfl
theorem q204 : (Jvm.Cond.instanceMethod ({ cls := "StreamWatcherModel", name := "<init>", desc := "()V" } : Jvm.MethodName)) ∈ lw_all := lw_g (lw_at lw_m1 185 rfl) rfl
theorem q205 : (Jvm.Cond.code ({ cls := "StreamWatcherModel", name := "<init>", desc := "()V" } : Jvm.MethodName) prog_3_method_1_code (1 : Nat) (Option.none : Option Jvm.ClassFile.FieldType)) ∈ lw_all := lw_g (lw_at lw_m1 186 rfl) rfl
theorem q206 : (Jvm.Cond.methodLink "StreamWatcherModel" (1 : Nat) ({ cls := "java/lang/Object", name := "<init>", desc := "()V" } : Jvm.MethodName)) ∈ lw_all := lw_g (lw_at lw_m1 187 rfl) rfl
theorem q207 : (Jvm.Cond.fieldLink "StreamWatcherModel" (7 : Nat) "StreamWatcherModel" "size" "[I") ∈ lw_all := lw_g (lw_at lw_m1 188 rfl) rfl
theorem q208 : (Jvm.Cond.fieldLink "StreamWatcherModel" (13 : Nat) "StreamWatcherModel" "sets" "[I") ∈ lw_all := lw_g (lw_at lw_m1 189 rfl) rfl
theorem q209 : (Jvm.Cond.fieldLink "StreamWatcherModel" (16 : Nat) "StreamWatcherModel" "counts" "[I") ∈ lw_all := lw_g (lw_at lw_m1 190 rfl) rfl
theorem q210 : (Jvm.Cond.fieldLink "StreamWatcherModel" (44 : Nat) "StreamWatcherModel" "many" "I") ∈ lw_all := lw_g (lw_at lw_m1 191 rfl) rfl
theorem q211 : (Jvm.Cond.fieldLink "StreamWatcherModel" (19 : Nat) "StreamWatcherModel" "stream" "[I") ∈ lw_all := lw_g (lw_at lw_m1 192 rfl) rfl
theorem q212 : (Jvm.Cond.fieldLink "StreamWatcherModel" (22 : Nat) "StreamWatcherModel" "fits" "[Z") ∈ lw_all := lw_g (lw_at lw_m1 193 rfl) rfl
theorem q213 : (Jvm.Cond.fieldLink "StreamWatcherModel" (26 : Nat) "StreamWatcherModel" "more" "[Z") ∈ lw_all := lw_g (lw_at lw_m1 194 rfl) rfl
theorem q214 : (Jvm.Cond.lays "StreamWatcherModel" "StreamWatcherModel" "size" "[I") ∈ lw_all := lw_g (lw_at lw_m1 195 rfl) rfl
theorem q215 : (Jvm.Cond.soleField "StreamWatcherModel" "size") ∈ lw_all := lw_g (lw_at lw_m1 196 rfl) rfl
theorem q216 : (Jvm.Cond.lays "StreamWatcherModel" "StreamWatcherModel" "sets" "[I") ∈ lw_all := lw_g (lw_at lw_m1 197 rfl) rfl
theorem q217 : (Jvm.Cond.soleField "StreamWatcherModel" "sets") ∈ lw_all := lw_g (lw_at lw_m1 198 rfl) rfl
theorem q218 : (Jvm.Cond.lays "StreamWatcherModel" "StreamWatcherModel" "counts" "[I") ∈ lw_all := lw_g (lw_at lw_m1 199 rfl) rfl
theorem q219 : (Jvm.Cond.soleField "StreamWatcherModel" "counts") ∈ lw_all := lw_g (lw_at lw_m1 200 rfl) rfl
theorem q220 : (Jvm.Cond.lays "StreamWatcherModel" "StreamWatcherModel" "many" "I") ∈ lw_all := lw_g (lw_at lw_m1 201 rfl) rfl
theorem q221 : (Jvm.Cond.soleField "StreamWatcherModel" "many") ∈ lw_all := lw_g (lw_at lw_m1 202 rfl) rfl
theorem q222 : (Jvm.Cond.lays "StreamWatcherModel" "StreamWatcherModel" "stream" "[I") ∈ lw_all := lw_g (lw_at lw_m1 203 rfl) rfl
theorem q223 : (Jvm.Cond.soleField "StreamWatcherModel" "stream") ∈ lw_all := lw_g (lw_at lw_m1 204 rfl) rfl
theorem q224 : (Jvm.Cond.lays "StreamWatcherModel" "StreamWatcherModel" "fits" "[Z") ∈ lw_all := lw_g (lw_at lw_m1 205 rfl) rfl
theorem q225 : (Jvm.Cond.soleField "StreamWatcherModel" "fits") ∈ lw_all := lw_g (lw_at lw_m1 206 rfl) rfl
theorem q226 : (Jvm.Cond.lays "StreamWatcherModel" "StreamWatcherModel" "more" "[Z") ∈ lw_all := lw_g (lw_at lw_m1 207 rfl) rfl
theorem q227 : (Jvm.Cond.soleField "StreamWatcherModel" "more") ∈ lw_all := lw_g (lw_at lw_m1 208 rfl) rfl
theorem q228 : (Jvm.Cond.superclass "StreamWatcherModel" "java/lang/Object") ∈ lw_all := lw_g (lw_at lw_m1 209 rfl) rfl
theorem q231 : (Jvm.Cond.instanceMethod ({ cls := "StreamWatcherModel", name := "item", desc := "(III)I" } : Jvm.MethodName)) ∈ lw_all := lw_g (lw_at lw_m1 212 rfl) rfl
theorem q232 : (Jvm.Cond.selects "StreamWatcherModel" ({ cls := "StreamWatcherModel", name := "item", desc := "(III)I" } : Jvm.MethodName) ({ cls := "StreamWatcherModel", name := "item", desc := "(III)I" } : Jvm.MethodName)) ∈ lw_all := lw_g (lw_at lw_m1 213 rfl) rfl
theorem q233 : (Jvm.Cond.code ({ cls := "StreamWatcherModel", name := "item", desc := "(III)I" } : Jvm.MethodName) prog_3_method_3_code (4 : Nat) (Option.some Jvm.ClassFile.FieldType.int)) ∈ lw_all := lw_g (lw_at lw_m1 214 rfl) rfl
theorem q234 : (Jvm.Cond.methodLink "StreamWatcherModel" (29 : Nat) ({ cls := "StreamWatcherModel", name := "pattern", desc := "(I)Z" } : Jvm.MethodName)) ∈ lw_all := lw_g (lw_at lw_m1 215 rfl) rfl
theorem q235 : (Jvm.Cond.privateMethod ({ cls := "StreamWatcherModel", name := "pattern", desc := "(I)Z" } : Jvm.MethodName)) ∈ lw_tbl := lw_at lw_m1 216 rfl
theorem q236 : (Jvm.Cond.instanceMethod ({ cls := "StreamWatcherModel", name := "pattern", desc := "(I)Z" } : Jvm.MethodName)) ∈ lw_all := lw_g (lw_at lw_m1 217 rfl) rfl
theorem q237 : (Jvm.Cond.code ({ cls := "StreamWatcherModel", name := "pattern", desc := "(I)Z" } : Jvm.MethodName) prog_3_method_2_code (2 : Nat) (Option.some Jvm.ClassFile.FieldType.boolean)) ∈ lw_all := lw_g (lw_at lw_m1 218 rfl) rfl
theorem q239 : (Jvm.Cond.instanceMethod ({ cls := "StreamWatcherModel", name := "drop", desc := "(I)I" } : Jvm.MethodName)) ∈ lw_all := lw_g (lw_at lw_m1 220 rfl) rfl
theorem q240 : (Jvm.Cond.selects "StreamWatcherModel" ({ cls := "StreamWatcherModel", name := "drop", desc := "(I)I" } : Jvm.MethodName) ({ cls := "StreamWatcherModel", name := "drop", desc := "(I)I" } : Jvm.MethodName)) ∈ lw_all := lw_g (lw_at lw_m1 221 rfl) rfl
theorem q241 : (Jvm.Cond.code ({ cls := "StreamWatcherModel", name := "drop", desc := "(I)I" } : Jvm.MethodName) prog_3_method_4_code (2 : Nat) (Option.some Jvm.ClassFile.FieldType.int)) ∈ lw_all := lw_g (lw_at lw_m1 222 rfl) rfl
theorem q243 : (Jvm.Cond.instanceMethod ({ cls := "StreamWatcherModel", name := "items", desc := "(I)I" } : Jvm.MethodName)) ∈ lw_all := lw_g (lw_at lw_m1 224 rfl) rfl
theorem q244 : (Jvm.Cond.selects "StreamWatcherModel" ({ cls := "StreamWatcherModel", name := "items", desc := "(I)I" } : Jvm.MethodName) ({ cls := "StreamWatcherModel", name := "items", desc := "(I)I" } : Jvm.MethodName)) ∈ lw_all := lw_g (lw_at lw_m1 225 rfl) rfl
theorem q245 : (Jvm.Cond.code ({ cls := "StreamWatcherModel", name := "items", desc := "(I)I" } : Jvm.MethodName) prog_3_method_5_code (2 : Nat) (Option.some Jvm.ClassFile.FieldType.int)) ∈ lw_all := lw_g (lw_at lw_m1 226 rfl) rfl
theorem q247 : (Jvm.Cond.instanceMethod ({ cls := "StreamWatcherModel", name := "push", desc := "(I)I" } : Jvm.MethodName)) ∈ lw_all := lw_g (lw_at lw_m1 228 rfl) rfl
theorem q248 : (Jvm.Cond.selects "StreamWatcherModel" ({ cls := "StreamWatcherModel", name := "push", desc := "(I)I" } : Jvm.MethodName) ({ cls := "StreamWatcherModel", name := "push", desc := "(I)I" } : Jvm.MethodName)) ∈ lw_all := lw_g (lw_at lw_m1 229 rfl) rfl
theorem q249 : (Jvm.Cond.code ({ cls := "StreamWatcherModel", name := "push", desc := "(I)I" } : Jvm.MethodName) prog_3_method_10_code (2 : Nat) (Option.some Jvm.ClassFile.FieldType.int)) ∈ lw_all := lw_g (lw_at lw_m1 230 rfl) rfl
theorem q250 : (Jvm.Cond.methodLink "StreamWatcherModel" (48 : Nat) ({ cls := "StreamWatcherModel", name := "endingAt", desc := "(I)I" } : Jvm.MethodName)) ∈ lw_all := lw_g (lw_at lw_m1 231 rfl) rfl
theorem q251 : (Jvm.Cond.instanceMethod ({ cls := "StreamWatcherModel", name := "endingAt", desc := "(I)I" } : Jvm.MethodName)) ∈ lw_all := lw_g (lw_at lw_m1 232 rfl) rfl
theorem q252 : (Jvm.Cond.selects "StreamWatcherModel" ({ cls := "StreamWatcherModel", name := "endingAt", desc := "(I)I" } : Jvm.MethodName) ({ cls := "StreamWatcherModel", name := "endingAt", desc := "(I)I" } : Jvm.MethodName)) ∈ lw_all := lw_g (lw_at lw_m1 233 rfl) rfl
theorem q253 : (Jvm.Cond.code ({ cls := "StreamWatcherModel", name := "endingAt", desc := "(I)I" } : Jvm.MethodName) prog_3_method_13_code (4 : Nat) (Option.some Jvm.ClassFile.FieldType.int)) ∈ lw_all := lw_g (lw_at lw_m1 234 rfl) rfl
theorem q254 : (Jvm.Cond.methodLink "StreamWatcherModel" (52 : Nat) ({ cls := "StreamWatcherModel", name := "endsAt", desc := "(III)Z" } : Jvm.MethodName)) ∈ lw_all := lw_g (lw_at lw_m1 235 rfl) rfl
theorem q255 : (Jvm.Cond.privateMethod ({ cls := "StreamWatcherModel", name := "endsAt", desc := "(III)Z" } : Jvm.MethodName)) ∈ lw_tbl := lw_at lw_m1 236 rfl
theorem q256 : (Jvm.Cond.instanceMethod ({ cls := "StreamWatcherModel", name := "endsAt", desc := "(III)Z" } : Jvm.MethodName)) ∈ lw_all := lw_g (lw_at lw_m1 237 rfl) rfl
theorem q257 : (Jvm.Cond.code ({ cls := "StreamWatcherModel", name := "endsAt", desc := "(III)Z" } : Jvm.MethodName) prog_3_method_9_code (6 : Nat) (Option.some Jvm.ClassFile.FieldType.boolean)) ∈ lw_all := lw_g (lw_at lw_m1 238 rfl) rfl
theorem q258 : (Jvm.Cond.methodLink "StreamWatcherModel" (41 : Nat) ({ cls := "StreamWatcherModel", name := "work", desc := "(III)V" } : Jvm.MethodName)) ∈ lw_all := lw_g (lw_at lw_m1 239 rfl) rfl
theorem q259 : (Jvm.Cond.privateMethod ({ cls := "StreamWatcherModel", name := "work", desc := "(III)V" } : Jvm.MethodName)) ∈ lw_tbl := lw_at lw_m2 0 rfl
theorem q260 : (Jvm.Cond.instanceMethod ({ cls := "StreamWatcherModel", name := "work", desc := "(III)V" } : Jvm.MethodName)) ∈ lw_all := lw_g (lw_at lw_m2 1 rfl) rfl
theorem q261 : (Jvm.Cond.code ({ cls := "StreamWatcherModel", name := "work", desc := "(III)V" } : Jvm.MethodName) prog_3_method_8_code (5 : Nat) (Option.none : Option Jvm.ClassFile.FieldType)) ∈ lw_all := lw_g (lw_at lw_m2 2 rfl) rfl
theorem q262 : (Jvm.Cond.methodLink "StreamWatcherModel" (37 : Nat) ({ cls := "StreamWatcherModel", name := "extend", desc := "(III)V" } : Jvm.MethodName)) ∈ lw_all := lw_g (lw_at lw_m2 3 rfl) rfl
theorem q263 : (Jvm.Cond.privateMethod ({ cls := "StreamWatcherModel", name := "extend", desc := "(III)V" } : Jvm.MethodName)) ∈ lw_tbl := lw_at lw_m2 4 rfl
theorem q264 : (Jvm.Cond.instanceMethod ({ cls := "StreamWatcherModel", name := "extend", desc := "(III)V" } : Jvm.MethodName)) ∈ lw_all := lw_g (lw_at lw_m2 5 rfl) rfl
theorem q265 : (Jvm.Cond.code ({ cls := "StreamWatcherModel", name := "extend", desc := "(III)V" } : Jvm.MethodName) prog_3_method_7_code (7 : Nat) (Option.none : Option Jvm.ClassFile.FieldType)) ∈ lw_all := lw_g (lw_at lw_m2 6 rfl) rfl
theorem q266 : (Jvm.Cond.methodLink "StreamWatcherModel" (33 : Nat) ({ cls := "StreamWatcherModel", name := "allows", desc := "(II)Z" } : Jvm.MethodName)) ∈ lw_all := lw_g (lw_at lw_m2 7 rfl) rfl
theorem q267 : (Jvm.Cond.privateMethod ({ cls := "StreamWatcherModel", name := "allows", desc := "(II)Z" } : Jvm.MethodName)) ∈ lw_tbl := lw_at lw_m2 8 rfl
theorem q268 : (Jvm.Cond.instanceMethod ({ cls := "StreamWatcherModel", name := "allows", desc := "(II)Z" } : Jvm.MethodName)) ∈ lw_all := lw_g (lw_at lw_m2 9 rfl) rfl
theorem q269 : (Jvm.Cond.code ({ cls := "StreamWatcherModel", name := "allows", desc := "(II)Z" } : Jvm.MethodName) prog_3_method_6_code (3 : Nat) (Option.some Jvm.ClassFile.FieldType.boolean)) ∈ lw_all := lw_g (lw_at lw_m2 10 rfl) rfl
theorem q271 : (Jvm.Cond.instanceMethod ({ cls := "StreamWatcherModel", name := "reset", desc := "()V" } : Jvm.MethodName)) ∈ lw_all := lw_g (lw_at lw_m2 12 rfl) rfl
theorem q272 : (Jvm.Cond.selects "StreamWatcherModel" ({ cls := "StreamWatcherModel", name := "reset", desc := "()V" } : Jvm.MethodName) ({ cls := "StreamWatcherModel", name := "reset", desc := "()V" } : Jvm.MethodName)) ∈ lw_all := lw_g (lw_at lw_m2 13 rfl) rfl
theorem q273 : (Jvm.Cond.code ({ cls := "StreamWatcherModel", name := "reset", desc := "()V" } : Jvm.MethodName) prog_3_method_11_code (1 : Nat) (Option.none : Option Jvm.ClassFile.FieldType)) ∈ lw_all := lw_g (lw_at lw_m2 14 rfl) rfl
theorem q275 : (Jvm.Cond.instanceMethod ({ cls := "StreamWatcherModel", name := "taken", desc := "()I" } : Jvm.MethodName)) ∈ lw_all := lw_g (lw_at lw_m2 16 rfl) rfl
theorem q276 : (Jvm.Cond.selects "StreamWatcherModel" ({ cls := "StreamWatcherModel", name := "taken", desc := "()I" } : Jvm.MethodName) ({ cls := "StreamWatcherModel", name := "taken", desc := "()I" } : Jvm.MethodName)) ∈ lw_all := lw_g (lw_at lw_m2 17 rfl) rfl
theorem q277 : (Jvm.Cond.code ({ cls := "StreamWatcherModel", name := "taken", desc := "()I" } : Jvm.MethodName) prog_3_method_12_code (1 : Nat) (Option.some Jvm.ClassFile.FieldType.int)) ∈ lw_all := lw_g (lw_at lw_m2 18 rfl) rfl
theorem q280 : (Jvm.Cond.instanceMethod ({ cls := "StreamWatcherModel", name := "ends", desc := "(I)I" } : Jvm.MethodName)) ∈ lw_all := lw_g (lw_at lw_m2 21 rfl) rfl
theorem q281 : (Jvm.Cond.selects "StreamWatcherModel" ({ cls := "StreamWatcherModel", name := "ends", desc := "(I)I" } : Jvm.MethodName) ({ cls := "StreamWatcherModel", name := "ends", desc := "(I)I" } : Jvm.MethodName)) ∈ lw_all := lw_g (lw_at lw_m2 22 rfl) rfl
theorem q282 : (Jvm.Cond.code ({ cls := "StreamWatcherModel", name := "ends", desc := "(I)I" } : Jvm.MethodName) prog_3_method_14_code (4 : Nat) (Option.some Jvm.ClassFile.FieldType.int)) ∈ lw_all := lw_g (lw_at lw_m2 23 rfl) rfl
theorem q284 : (Jvm.Cond.instanceMethod ({ cls := "StreamWatcherModel", name := "firstEnd", desc := "(I)I" } : Jvm.MethodName)) ∈ lw_all := lw_g (lw_at lw_m2 25 rfl) rfl
theorem q285 : (Jvm.Cond.selects "StreamWatcherModel" ({ cls := "StreamWatcherModel", name := "firstEnd", desc := "(I)I" } : Jvm.MethodName) ({ cls := "StreamWatcherModel", name := "firstEnd", desc := "(I)I" } : Jvm.MethodName)) ∈ lw_all := lw_g (lw_at lw_m2 26 rfl) rfl
theorem q286 : (Jvm.Cond.code ({ cls := "StreamWatcherModel", name := "firstEnd", desc := "(I)I" } : Jvm.MethodName) prog_3_method_15_code (3 : Nat) (Option.some Jvm.ClassFile.FieldType.int)) ∈ lw_all := lw_g (lw_at lw_m2 27 rfl) rfl
theorem q288 : (Jvm.Cond.instanceMethod ({ cls := "StreamWatcherModel", name := "earliest", desc := "(II)I" } : Jvm.MethodName)) ∈ lw_all := lw_g (lw_at lw_m2 29 rfl) rfl
theorem q289 : (Jvm.Cond.selects "StreamWatcherModel" ({ cls := "StreamWatcherModel", name := "earliest", desc := "(II)I" } : Jvm.MethodName) ({ cls := "StreamWatcherModel", name := "earliest", desc := "(II)I" } : Jvm.MethodName)) ∈ lw_all := lw_g (lw_at lw_m2 30 rfl) rfl
theorem q290 : (Jvm.Cond.code ({ cls := "StreamWatcherModel", name := "earliest", desc := "(II)I" } : Jvm.MethodName) prog_3_method_16_code (4 : Nat) (Option.some Jvm.ClassFile.FieldType.int)) ∈ lw_all := lw_g (lw_at lw_m2 31 rfl) rfl
theorem q292 : (Jvm.Cond.instanceMethod ({ cls := "StreamWatcherModel", name := "latest", desc := "(II)I" } : Jvm.MethodName)) ∈ lw_all := lw_g (lw_at lw_m2 33 rfl) rfl
theorem q293 : (Jvm.Cond.selects "StreamWatcherModel" ({ cls := "StreamWatcherModel", name := "latest", desc := "(II)I" } : Jvm.MethodName) ({ cls := "StreamWatcherModel", name := "latest", desc := "(II)I" } : Jvm.MethodName)) ∈ lw_all := lw_g (lw_at lw_m2 34 rfl) rfl
theorem q294 : (Jvm.Cond.code ({ cls := "StreamWatcherModel", name := "latest", desc := "(II)I" } : Jvm.MethodName) prog_3_method_17_code (4 : Nat) (Option.some Jvm.ClassFile.FieldType.int)) ∈ lw_all := lw_g (lw_at lw_m2 35 rfl) rfl
theorem q296 : (Jvm.Cond.instanceMethod ({ cls := "StreamWatcherModel", name := "longest", desc := "(I)I" } : Jvm.MethodName)) ∈ lw_all := lw_g (lw_at lw_m2 37 rfl) rfl
theorem q297 : (Jvm.Cond.selects "StreamWatcherModel" ({ cls := "StreamWatcherModel", name := "longest", desc := "(I)I" } : Jvm.MethodName) ({ cls := "StreamWatcherModel", name := "longest", desc := "(I)I" } : Jvm.MethodName)) ∈ lw_all := lw_g (lw_at lw_m2 38 rfl) rfl
theorem q298 : (Jvm.Cond.code ({ cls := "StreamWatcherModel", name := "longest", desc := "(I)I" } : Jvm.MethodName) prog_3_method_18_code (5 : Nat) (Option.some Jvm.ClassFile.FieldType.int)) ∈ lw_all := lw_g (lw_at lw_m2 39 rfl) rfl
theorem q300 : (Jvm.Cond.instanceMethod ({ cls := "StreamWatcherModel", name := "completing", desc := "(I)I" } : Jvm.MethodName)) ∈ lw_all := lw_g (lw_at lw_m2 41 rfl) rfl
theorem q301 : (Jvm.Cond.selects "StreamWatcherModel" ({ cls := "StreamWatcherModel", name := "completing", desc := "(I)I" } : Jvm.MethodName) ({ cls := "StreamWatcherModel", name := "completing", desc := "(I)I" } : Jvm.MethodName)) ∈ lw_all := lw_g (lw_at lw_m2 42 rfl) rfl
theorem q302 : (Jvm.Cond.code ({ cls := "StreamWatcherModel", name := "completing", desc := "(I)I" } : Jvm.MethodName) prog_3_method_19_code (4 : Nat) (Option.some Jvm.ClassFile.FieldType.int)) ∈ lw_all := lw_g (lw_at lw_m2 43 rfl) rfl
theorem q304 : (Jvm.Cond.instanceMethod ({ cls := "StreamWatcherModel", name := "emptyFits", desc := "()I" } : Jvm.MethodName)) ∈ lw_all := lw_g (lw_at lw_m2 45 rfl) rfl
theorem q305 : (Jvm.Cond.selects "StreamWatcherModel" ({ cls := "StreamWatcherModel", name := "emptyFits", desc := "()I" } : Jvm.MethodName) ({ cls := "StreamWatcherModel", name := "emptyFits", desc := "()I" } : Jvm.MethodName)) ∈ lw_all := lw_g (lw_at lw_m2 46 rfl) rfl
theorem q306 : (Jvm.Cond.code ({ cls := "StreamWatcherModel", name := "emptyFits", desc := "()I" } : Jvm.MethodName) prog_3_method_20_code (3 : Nat) (Option.some Jvm.ClassFile.FieldType.int)) ∈ lw_all := lw_g (lw_at lw_m2 47 rfl) rfl
theorem in_X1 : ∀ w ∈ wsX10, w ∈ lw_all := lw_in wsX10 [214, 216, 218, 220, 222, 224, 226] (by decide +kernel) (by decide +kernel)

theorem q19 : (Jvm.Cond.initialized "StreamWatcherLaw") ∈ lw_all := lw_g (lw_at lw_m1 0 rfl) rfl
theorem q22 : (Jvm.Cond.classLink "StreamWatcherLaw" (7 : Nat) "StreamWatcher") ∈ lw_all := lw_g (lw_at lw_m1 3 rfl) rfl
theorem q24 : (Jvm.Cond.methodLink "StreamWatcherLaw" (9 : Nat) ({ cls := "StreamWatcher", name := "<init>", desc := "()V" } : Jvm.MethodName)) ∈ lw_all := lw_g (lw_at lw_m1 5 rfl) rfl
theorem q84 : (Jvm.Cond.methodLink "StreamWatcherLaw" (13 : Nat) ({ cls := "StreamWatcher", name := "item", desc := "(III)I" } : Jvm.MethodName)) ∈ lw_all := lw_g (lw_at lw_m1 65 rfl) rfl
theorem q99 : (Jvm.Cond.methodLink "StreamWatcherLaw" (18 : Nat) ({ cls := "StreamWatcher", name := "drop", desc := "(I)I" } : Jvm.MethodName)) ∈ lw_all := lw_g (lw_at lw_m1 80 rfl) rfl
theorem q103 : (Jvm.Cond.methodLink "StreamWatcherLaw" (23 : Nat) ({ cls := "StreamWatcher", name := "items", desc := "(I)I" } : Jvm.MethodName)) ∈ lw_all := lw_g (lw_at lw_m1 84 rfl) rfl
theorem q107 : (Jvm.Cond.methodLink "StreamWatcherLaw" (27 : Nat) ({ cls := "StreamWatcher", name := "push", desc := "(I)I" } : Jvm.MethodName)) ∈ lw_all := lw_g (lw_at lw_m1 88 rfl) rfl
theorem q163 : (Jvm.Cond.methodLink "StreamWatcherLaw" (31 : Nat) ({ cls := "StreamWatcher", name := "reset", desc := "()V" } : Jvm.MethodName)) ∈ lw_all := lw_g (lw_at lw_m1 144 rfl) rfl
theorem q167 : (Jvm.Cond.methodLink "StreamWatcherLaw" (35 : Nat) ({ cls := "StreamWatcher", name := "taken", desc := "()I" } : Jvm.MethodName)) ∈ lw_all := lw_g (lw_at lw_m1 148 rfl) rfl
theorem q171 : (Jvm.Cond.methodLink "StreamWatcherLaw" (40 : Nat) ({ cls := "StreamWatcher", name := "endingAt", desc := "(I)I" } : Jvm.MethodName)) ∈ lw_all := lw_g (lw_at lw_m1 152 rfl) rfl
theorem q172 : (Jvm.Cond.methodLink "StreamWatcherLaw" (44 : Nat) ({ cls := "StreamWatcher", name := "ends", desc := "(I)I" } : Jvm.MethodName)) ∈ lw_all := lw_g (lw_at lw_m1 153 rfl) rfl
theorem q176 : (Jvm.Cond.methodLink "StreamWatcherLaw" (48 : Nat) ({ cls := "StreamWatcher", name := "firstEnd", desc := "(I)I" } : Jvm.MethodName)) ∈ lw_all := lw_g (lw_at lw_m1 157 rfl) rfl
theorem q180 : (Jvm.Cond.methodLink "StreamWatcherLaw" (52 : Nat) ({ cls := "StreamWatcher", name := "earliest", desc := "(II)I" } : Jvm.MethodName)) ∈ lw_all := lw_g (lw_at lw_m1 161 rfl) rfl
theorem q184 : (Jvm.Cond.methodLink "StreamWatcherLaw" (57 : Nat) ({ cls := "StreamWatcher", name := "latest", desc := "(II)I" } : Jvm.MethodName)) ∈ lw_all := lw_g (lw_at lw_m1 165 rfl) rfl
theorem q188 : (Jvm.Cond.methodLink "StreamWatcherLaw" (61 : Nat) ({ cls := "StreamWatcher", name := "longest", desc := "(I)I" } : Jvm.MethodName)) ∈ lw_all := lw_g (lw_at lw_m1 169 rfl) rfl
theorem q193 : (Jvm.Cond.methodLink "StreamWatcherLaw" (65 : Nat) ({ cls := "StreamWatcher", name := "completing", desc := "(I)I" } : Jvm.MethodName)) ∈ lw_all := lw_g (lw_at lw_m1 174 rfl) rfl
theorem q197 : (Jvm.Cond.methodLink "StreamWatcherLaw" (69 : Nat) ({ cls := "StreamWatcher", name := "emptyFits", desc := "()I" } : Jvm.MethodName)) ∈ lw_all := lw_g (lw_at lw_m1 178 rfl) rfl
theorem q201 : (Jvm.Cond.classLink "StreamWatcherLaw" (10 : Nat) "StreamWatcherModel") ∈ lw_all := lw_g (lw_at lw_m1 182 rfl) rfl
theorem q203 : (Jvm.Cond.methodLink "StreamWatcherLaw" (12 : Nat) ({ cls := "StreamWatcherModel", name := "<init>", desc := "()V" } : Jvm.MethodName)) ∈ lw_all := lw_g (lw_at lw_m1 184 rfl) rfl
theorem q230 : (Jvm.Cond.methodLink "StreamWatcherLaw" (17 : Nat) ({ cls := "StreamWatcherModel", name := "item", desc := "(III)I" } : Jvm.MethodName)) ∈ lw_all := lw_g (lw_at lw_m1 211 rfl) rfl
theorem q238 : (Jvm.Cond.methodLink "StreamWatcherLaw" (22 : Nat) ({ cls := "StreamWatcherModel", name := "drop", desc := "(I)I" } : Jvm.MethodName)) ∈ lw_all := lw_g (lw_at lw_m1 219 rfl) rfl
theorem q242 : (Jvm.Cond.methodLink "StreamWatcherLaw" (26 : Nat) ({ cls := "StreamWatcherModel", name := "items", desc := "(I)I" } : Jvm.MethodName)) ∈ lw_all := lw_g (lw_at lw_m1 223 rfl) rfl
theorem q246 : (Jvm.Cond.methodLink "StreamWatcherLaw" (30 : Nat) ({ cls := "StreamWatcherModel", name := "push", desc := "(I)I" } : Jvm.MethodName)) ∈ lw_all := lw_g (lw_at lw_m1 227 rfl) rfl
theorem q270 : (Jvm.Cond.methodLink "StreamWatcherLaw" (34 : Nat) ({ cls := "StreamWatcherModel", name := "reset", desc := "()V" } : Jvm.MethodName)) ∈ lw_all := lw_g (lw_at lw_m2 11 rfl) rfl
theorem q274 : (Jvm.Cond.methodLink "StreamWatcherLaw" (39 : Nat) ({ cls := "StreamWatcherModel", name := "taken", desc := "()I" } : Jvm.MethodName)) ∈ lw_all := lw_g (lw_at lw_m2 15 rfl) rfl
theorem q278 : (Jvm.Cond.methodLink "StreamWatcherLaw" (43 : Nat) ({ cls := "StreamWatcherModel", name := "endingAt", desc := "(I)I" } : Jvm.MethodName)) ∈ lw_all := lw_g (lw_at lw_m2 19 rfl) rfl
theorem q279 : (Jvm.Cond.methodLink "StreamWatcherLaw" (47 : Nat) ({ cls := "StreamWatcherModel", name := "ends", desc := "(I)I" } : Jvm.MethodName)) ∈ lw_all := lw_g (lw_at lw_m2 20 rfl) rfl
theorem q283 : (Jvm.Cond.methodLink "StreamWatcherLaw" (51 : Nat) ({ cls := "StreamWatcherModel", name := "firstEnd", desc := "(I)I" } : Jvm.MethodName)) ∈ lw_all := lw_g (lw_at lw_m2 24 rfl) rfl
theorem q287 : (Jvm.Cond.methodLink "StreamWatcherLaw" (56 : Nat) ({ cls := "StreamWatcherModel", name := "earliest", desc := "(II)I" } : Jvm.MethodName)) ∈ lw_all := lw_g (lw_at lw_m2 28 rfl) rfl
theorem q291 : (Jvm.Cond.methodLink "StreamWatcherLaw" (60 : Nat) ({ cls := "StreamWatcherModel", name := "latest", desc := "(II)I" } : Jvm.MethodName)) ∈ lw_all := lw_g (lw_at lw_m2 32 rfl) rfl
theorem q295 : (Jvm.Cond.methodLink "StreamWatcherLaw" (64 : Nat) ({ cls := "StreamWatcherModel", name := "longest", desc := "(I)I" } : Jvm.MethodName)) ∈ lw_all := lw_g (lw_at lw_m2 36 rfl) rfl
theorem q299 : (Jvm.Cond.methodLink "StreamWatcherLaw" (68 : Nat) ({ cls := "StreamWatcherModel", name := "completing", desc := "(I)I" } : Jvm.MethodName)) ∈ lw_all := lw_g (lw_at lw_m2 40 rfl) rfl
theorem q303 : (Jvm.Cond.methodLink "StreamWatcherLaw" (72 : Nat) ({ cls := "StreamWatcherModel", name := "emptyFits", desc := "()I" } : Jvm.MethodName)) ∈ lw_all := lw_g (lw_at lw_m2 44 rfl) rfl

theorem q82 : (Jvm.Cond.arrayClass Jvm.ClassFile.FieldType.byte) ∈ lw_all := lw_g (lw_at lw_m1 63 rfl) rfl
theorem q83 : (Jvm.Cond.arrayClass Jvm.ClassFile.FieldType.int) ∈ lw_all := lw_g (lw_at lw_m1 64 rfl) rfl
theorem q229 : (Jvm.Cond.arrayClass Jvm.ClassFile.FieldType.boolean) ∈ lw_all := lw_g (lw_at lw_m1 210 rfl) rfl

/-! the law's own entry -/
abbrev cL_law : ByteArray := code
end
section
set_option maxRecDepth 100000
theorem dX0_init_0 : decode cX0_init 0 = .ok (.aload_n 0, 1) := by decide +kernel
theorem dX0_init_1 : decode cX0_init 1 = .ok (.invokespecial 1, 3) := by decide +kernel
theorem dX0_init_4 : decode cX0_init 4 = .ok (.aload_n 0, 1) := by decide +kernel
theorem dX0_init_5 : decode cX0_init 5 = .ok (.iconst 4, 1) := by decide +kernel
theorem dX0_init_6 : decode cX0_init 6 = .ok (.newarray .byte, 2) := by decide +kernel
theorem dX0_init_8 : decode cX0_init 8 = .ok (.putfield 7, 3) := by decide +kernel
theorem dX0_init_11 : decode cX0_init 11 = .ok (.aload_n 0, 1) := by decide +kernel
theorem dX0_init_12 : decode cX0_init 12 = .ok (.bipush 24, 2) := by decide +kernel
theorem dX0_init_14 : decode cX0_init 14 = .ok (.newarray .byte, 2) := by decide +kernel
theorem dX0_init_16 : decode cX0_init 16 = .ok (.putfield 13, 3) := by decide +kernel
theorem dX0_init_19 : decode cX0_init 19 = .ok (.aload_n 0, 1) := by decide +kernel
theorem dX0_init_20 : decode cX0_init 20 = .ok (.bipush 24, 2) := by decide +kernel
theorem dX0_init_22 : decode cX0_init 22 = .ok (.newarray .byte, 2) := by decide +kernel
theorem dX0_init_24 : decode cX0_init 24 = .ok (.putfield 16, 3) := by decide +kernel
theorem dX0_init_27 : decode cX0_init 27 = .ok (.aload_n 0, 1) := by decide +kernel
theorem dX0_init_28 : decode cX0_init 28 = .ok (.bipush 60, 2) := by decide +kernel
theorem dX0_init_30 : decode cX0_init 30 = .ok (.newarray .byte, 2) := by decide +kernel
theorem dX0_init_32 : decode cX0_init 32 = .ok (.putfield 19, 3) := by decide +kernel
theorem dX0_init_35 : decode cX0_init 35 = .ok (.aload_n 0, 1) := by decide +kernel
theorem dX0_init_36 : decode cX0_init 36 = .ok (.bipush 24, 2) := by decide +kernel
theorem dX0_init_38 : decode cX0_init 38 = .ok (.newarray .int, 2) := by decide +kernel
theorem dX0_init_40 : decode cX0_init 40 = .ok (.putfield 22, 3) := by decide +kernel
theorem dX0_init_43 : decode cX0_init 43 = .ok (.aload_n 0, 1) := by decide +kernel
theorem dX0_init_44 : decode cX0_init 44 = .ok (.bipush 24, 2) := by decide +kernel
theorem dX0_init_46 : decode cX0_init 46 = .ok (.newarray .byte, 2) := by decide +kernel
theorem dX0_init_48 : decode cX0_init 48 = .ok (.putfield 26, 3) := by decide +kernel
theorem dX0_init_51 : decode cX0_init 51 = .ok (.aload_n 0, 1) := by decide +kernel
theorem dX0_init_52 : decode cX0_init 52 = .ok (.bipush 24, 2) := by decide +kernel
theorem dX0_init_54 : decode cX0_init 54 = .ok (.newarray .byte, 2) := by decide +kernel
theorem dX0_init_56 : decode cX0_init 56 = .ok (.putfield 29, 3) := by decide +kernel
theorem dX0_init_59 : decode cX0_init 59 = .ok (.aload_n 0, 1) := by decide +kernel
theorem dX0_init_60 : decode cX0_init 60 = .ok (.bipush 24, 2) := by decide +kernel
theorem dX0_init_62 : decode cX0_init 62 = .ok (.newarray .byte, 2) := by decide +kernel
theorem dX0_init_64 : decode cX0_init 64 = .ok (.putfield 32, 3) := by decide +kernel
theorem dX0_init_67 : decode cX0_init 67 = .ok (.aload_n 0, 1) := by decide +kernel
theorem dX0_init_68 : decode cX0_init 68 = .ok (.bipush 24, 2) := by decide +kernel
theorem dX0_init_70 : decode cX0_init 70 = .ok (.newarray .byte, 2) := by decide +kernel
theorem dX0_init_72 : decode cX0_init 72 = .ok (.putfield 35, 3) := by decide +kernel
theorem dX0_init_75 : decode cX0_init 75 = .ok (.aload_n 0, 1) := by decide +kernel
theorem dX0_init_76 : decode cX0_init 76 = .ok (.sipush 240, 3) := by decide +kernel
theorem dX0_init_79 : decode cX0_init 79 = .ok (.newarray .byte, 2) := by decide +kernel
theorem dX0_init_81 : decode cX0_init 81 = .ok (.putfield 38, 3) := by decide +kernel
theorem dX0_init_84 : decode cX0_init 84 = .ok (.aload_n 0, 1) := by decide +kernel
theorem dX0_init_85 : decode cX0_init 85 = .ok (.sipush 240, 3) := by decide +kernel
theorem dX0_init_88 : decode cX0_init 88 = .ok (.newarray .byte, 2) := by decide +kernel
theorem dX0_init_90 : decode cX0_init 90 = .ok (.putfield 41, 3) := by decide +kernel
theorem dX0_init_93 : decode cX0_init 93 = .ok (.return_, 1) := by decide +kernel
theorem dX0_item_0 : decode cX0_item 0 = .ok (.iload_n 1, 1) := by decide +kernel
theorem dX0_item_1 : decode cX0_item 1 = .ok (.invokestatic 44, 3) := by decide +kernel
theorem dX0_item_4 : decode cX0_item 4 = .ok (.ifCond .eq 23, 3) := by decide +kernel
theorem dX0_item_7 : decode cX0_item 7 = .ok (.iload_n 2, 1) := by decide +kernel
theorem dX0_item_8 : decode cX0_item 8 = .ok (.iconst 1, 1) := by decide +kernel
theorem dX0_item_9 : decode cX0_item 9 = .ok (.if_icmp .lt 18, 3) := by decide +kernel
theorem dX0_item_12 : decode cX0_item 12 = .ok (.iload_n 2, 1) := by decide +kernel
theorem dX0_item_13 : decode cX0_item 13 = .ok (.bipush 15, 2) := by decide +kernel
theorem dX0_item_15 : decode cX0_item 15 = .ok (.if_icmp .gt 12, 3) := by decide +kernel
theorem dX0_item_18 : decode cX0_item 18 = .ok (.iload_n 3, 1) := by decide +kernel
theorem dX0_item_19 : decode cX0_item 19 = .ok (.ifCond .lt 8, 3) := by decide +kernel
theorem dX0_item_22 : decode cX0_item 22 = .ok (.iload_n 3, 1) := by decide +kernel
theorem dX0_item_23 : decode cX0_item 23 = .ok (.iconst 3, 1) := by decide +kernel
theorem dX0_item_24 : decode cX0_item 24 = .ok (.if_icmp .le 5, 3) := by decide +kernel
theorem dX0_item_27 : decode cX0_item 27 = .ok (.iconst (-1), 1) := by decide +kernel
theorem dX0_item_28 : decode cX0_item 28 = .ok (.ireturn, 1) := by decide +kernel
theorem dX0_item_29 : decode cX0_item 29 = .ok (.aload_n 0, 1) := by decide +kernel
theorem dX0_item_30 : decode cX0_item 30 = .ok (.getfield 7, 3) := by decide +kernel
theorem dX0_item_33 : decode cX0_item 33 = .ok (.iload_n 1, 1) := by decide +kernel
theorem dX0_item_34 : decode cX0_item 34 = .ok (.baload, 1) := by decide +kernel
theorem dX0_item_35 : decode cX0_item 35 = .ok (.bipush 6, 2) := by decide +kernel
theorem dX0_item_37 : decode cX0_item 37 = .ok (.if_icmp .lt 6, 3) := by decide +kernel
theorem dX0_item_40 : decode cX0_item 40 = .ok (.bipush (-2), 2) := by decide +kernel
theorem dX0_item_42 : decode cX0_item 42 = .ok (.ireturn, 1) := by decide +kernel
theorem dX0_item_43 : decode cX0_item 43 = .ok (.iload_n 1, 1) := by decide +kernel
theorem dX0_item_44 : decode cX0_item 44 = .ok (.bipush 6, 2) := by decide +kernel
theorem dX0_item_46 : decode cX0_item 46 = .ok (.imul, 1) := by decide +kernel
theorem dX0_item_47 : decode cX0_item 47 = .ok (.aload_n 0, 1) := by decide +kernel
theorem dX0_item_48 : decode cX0_item 48 = .ok (.getfield 7, 3) := by decide +kernel
theorem dX0_item_51 : decode cX0_item 51 = .ok (.iload_n 1, 1) := by decide +kernel
theorem dX0_item_52 : decode cX0_item 52 = .ok (.baload, 1) := by decide +kernel
theorem dX0_item_53 : decode cX0_item 53 = .ok (.iadd, 1) := by decide +kernel
theorem dX0_item_54 : decode cX0_item 54 = .ok (.istore 4, 2) := by decide +kernel
theorem dX0_item_56 : decode cX0_item 56 = .ok (.aload_n 0, 1) := by decide +kernel
theorem dX0_item_57 : decode cX0_item 57 = .ok (.getfield 13, 3) := by decide +kernel
theorem dX0_item_60 : decode cX0_item 60 = .ok (.iload 4, 2) := by decide +kernel
theorem dX0_item_62 : decode cX0_item 62 = .ok (.iload_n 2, 1) := by decide +kernel
theorem dX0_item_63 : decode cX0_item 63 = .ok (.i2b, 1) := by decide +kernel
theorem dX0_item_64 : decode cX0_item 64 = .ok (.bastore, 1) := by decide +kernel
theorem dX0_item_65 : decode cX0_item 65 = .ok (.aload_n 0, 1) := by decide +kernel
theorem dX0_item_66 : decode cX0_item 66 = .ok (.getfield 16, 3) := by decide +kernel
theorem dX0_item_69 : decode cX0_item 69 = .ok (.iload 4, 2) := by decide +kernel
theorem dX0_item_71 : decode cX0_item 71 = .ok (.iload_n 3, 1) := by decide +kernel
theorem dX0_item_72 : decode cX0_item 72 = .ok (.i2b, 1) := by decide +kernel
theorem dX0_item_73 : decode cX0_item 73 = .ok (.bastore, 1) := by decide +kernel
theorem dX0_item_74 : decode cX0_item 74 = .ok (.aload_n 0, 1) := by decide +kernel
theorem dX0_item_75 : decode cX0_item 75 = .ok (.getfield 7, 3) := by decide +kernel
theorem dX0_item_78 : decode cX0_item 78 = .ok (.iload_n 1, 1) := by decide +kernel
theorem dX0_item_79 : decode cX0_item 79 = .ok (.dup2, 1) := by decide +kernel
theorem dX0_item_80 : decode cX0_item 80 = .ok (.baload, 1) := by decide +kernel
theorem dX0_item_81 : decode cX0_item 81 = .ok (.iconst 1, 1) := by decide +kernel
theorem dX0_item_82 : decode cX0_item 82 = .ok (.iadd, 1) := by decide +kernel
theorem dX0_item_83 : decode cX0_item 83 = .ok (.i2b, 1) := by decide +kernel
theorem dX0_item_84 : decode cX0_item 84 = .ok (.bastore, 1) := by decide +kernel
theorem dX0_item_85 : decode cX0_item 85 = .ok (.aload_n 0, 1) := by decide +kernel
theorem dX0_item_86 : decode cX0_item 86 = .ok (.invokevirtual 48, 3) := by decide +kernel
theorem dX0_item_89 : decode cX0_item 89 = .ok (.aload_n 0, 1) := by decide +kernel
theorem dX0_item_90 : decode cX0_item 90 = .ok (.getfield 7, 3) := by decide +kernel
theorem dX0_item_93 : decode cX0_item 93 = .ok (.iload_n 1, 1) := by decide +kernel
theorem dX0_item_94 : decode cX0_item 94 = .ok (.baload, 1) := by decide +kernel
theorem dX0_item_95 : decode cX0_item 95 = .ok (.ireturn, 1) := by decide +kernel
theorem dX0_isPattern_0 : decode cX0_isPattern 0 = .ok (.iload_n 0, 1) := by decide +kernel
theorem dX0_isPattern_1 : decode cX0_isPattern 1 = .ok (.ifCond .lt 12, 3) := by decide +kernel
theorem dX0_isPattern_4 : decode cX0_isPattern 4 = .ok (.iload_n 0, 1) := by decide +kernel
theorem dX0_isPattern_5 : decode cX0_isPattern 5 = .ok (.iconst 4, 1) := by decide +kernel
theorem dX0_isPattern_6 : decode cX0_isPattern 6 = .ok (.if_icmp .ge 7, 3) := by decide +kernel
theorem dX0_isPattern_9 : decode cX0_isPattern 9 = .ok (.iconst 1, 1) := by decide +kernel
theorem dX0_isPattern_10 : decode cX0_isPattern 10 = .ok (.goto 4, 3) := by decide +kernel
theorem dX0_isPattern_13 : decode cX0_isPattern 13 = .ok (.iconst 0, 1) := by decide +kernel
theorem dX0_isPattern_14 : decode cX0_isPattern 14 = .ok (.ireturn, 1) := by decide +kernel
theorem dX0_patternsChanged_0 : decode cX0_patternsChanged 0 = .ok (.aload_n 0, 1) := by decide +kernel
theorem dX0_patternsChanged_1 : decode cX0_patternsChanged 1 = .ok (.iconst 0, 1) := by decide +kernel
theorem dX0_patternsChanged_2 : decode cX0_patternsChanged 2 = .ok (.putfield 51, 3) := by decide +kernel
theorem dX0_patternsChanged_5 : decode cX0_patternsChanged 5 = .ok (.aload_n 0, 1) := by decide +kernel
theorem dX0_patternsChanged_6 : decode cX0_patternsChanged 6 = .ok (.invokevirtual 55, 3) := by decide +kernel
theorem dX0_patternsChanged_9 : decode cX0_patternsChanged 9 = .ok (.return_, 1) := by decide +kernel
theorem dX0_startOver_0 : decode cX0_startOver 0 = .ok (.aload_n 0, 1) := by decide +kernel
theorem dX0_startOver_1 : decode cX0_startOver 1 = .ok (.iconst 0, 1) := by decide +kernel
theorem dX0_startOver_2 : decode cX0_startOver 2 = .ok (.putfield 58, 3) := by decide +kernel
theorem dX0_startOver_5 : decode cX0_startOver 5 = .ok (.aload_n 0, 1) := by decide +kernel
theorem dX0_startOver_6 : decode cX0_startOver 6 = .ok (.iconst 0, 1) := by decide +kernel
theorem dX0_startOver_7 : decode cX0_startOver 7 = .ok (.putfield 62, 3) := by decide +kernel
theorem dX0_startOver_10 : decode cX0_startOver 10 = .ok (.return_, 1) := by decide +kernel
theorem dX0_drop_0 : decode cX0_drop 0 = .ok (.iload_n 1, 1) := by decide +kernel
theorem dX0_drop_1 : decode cX0_drop 1 = .ok (.invokestatic 44, 3) := by decide +kernel
theorem dX0_drop_4 : decode cX0_drop 4 = .ok (.ifCond .eq 12, 3) := by decide +kernel
theorem dX0_drop_7 : decode cX0_drop 7 = .ok (.aload_n 0, 1) := by decide +kernel
theorem dX0_drop_8 : decode cX0_drop 8 = .ok (.getfield 7, 3) := by decide +kernel
theorem dX0_drop_11 : decode cX0_drop 11 = .ok (.iload_n 1, 1) := by decide +kernel
theorem dX0_drop_12 : decode cX0_drop 12 = .ok (.baload, 1) := by decide +kernel
theorem dX0_drop_13 : decode cX0_drop 13 = .ok (.ifCond .ne 5, 3) := by decide +kernel
theorem dX0_drop_16 : decode cX0_drop 16 = .ok (.iconst (-1), 1) := by decide +kernel
theorem dX0_drop_17 : decode cX0_drop 17 = .ok (.ireturn, 1) := by decide +kernel
theorem dX0_drop_18 : decode cX0_drop 18 = .ok (.aload_n 0, 1) := by decide +kernel
theorem dX0_drop_19 : decode cX0_drop 19 = .ok (.getfield 7, 3) := by decide +kernel
theorem dX0_drop_22 : decode cX0_drop 22 = .ok (.iload_n 1, 1) := by decide +kernel
theorem dX0_drop_23 : decode cX0_drop 23 = .ok (.dup2, 1) := by decide +kernel
theorem dX0_drop_24 : decode cX0_drop 24 = .ok (.baload, 1) := by decide +kernel
theorem dX0_drop_25 : decode cX0_drop 25 = .ok (.iconst 1, 1) := by decide +kernel
theorem dX0_drop_26 : decode cX0_drop 26 = .ok (.isub, 1) := by decide +kernel
theorem dX0_drop_27 : decode cX0_drop 27 = .ok (.i2b, 1) := by decide +kernel
theorem dX0_drop_28 : decode cX0_drop 28 = .ok (.bastore, 1) := by decide +kernel
theorem dX0_drop_29 : decode cX0_drop 29 = .ok (.aload_n 0, 1) := by decide +kernel
theorem dX0_drop_30 : decode cX0_drop 30 = .ok (.invokevirtual 48, 3) := by decide +kernel
theorem dX0_drop_33 : decode cX0_drop 33 = .ok (.aload_n 0, 1) := by decide +kernel
theorem dX0_drop_34 : decode cX0_drop 34 = .ok (.getfield 7, 3) := by decide +kernel
theorem dX0_drop_37 : decode cX0_drop 37 = .ok (.iload_n 1, 1) := by decide +kernel
theorem dX0_drop_38 : decode cX0_drop 38 = .ok (.baload, 1) := by decide +kernel
theorem dX0_drop_39 : decode cX0_drop 39 = .ok (.ireturn, 1) := by decide +kernel
theorem dX0_items_0 : decode cX0_items 0 = .ok (.iload_n 1, 1) := by decide +kernel
theorem dX0_items_1 : decode cX0_items 1 = .ok (.invokestatic 44, 3) := by decide +kernel
theorem dX0_items_4 : decode cX0_items 4 = .ok (.ifCond .eq 12, 3) := by decide +kernel
theorem dX0_items_7 : decode cX0_items 7 = .ok (.aload_n 0, 1) := by decide +kernel
theorem dX0_items_8 : decode cX0_items 8 = .ok (.getfield 7, 3) := by decide +kernel
theorem dX0_items_11 : decode cX0_items 11 = .ok (.iload_n 1, 1) := by decide +kernel
theorem dX0_items_12 : decode cX0_items 12 = .ok (.baload, 1) := by decide +kernel
theorem dX0_items_13 : decode cX0_items 13 = .ok (.goto 4, 3) := by decide +kernel
theorem dX0_items_16 : decode cX0_items 16 = .ok (.iconst (-1), 1) := by decide +kernel
theorem dX0_items_17 : decode cX0_items 17 = .ok (.ireturn, 1) := by decide +kernel
theorem dX0_push_0 : decode cX0_push 0 = .ok (.iload_n 1, 1) := by decide +kernel
theorem dX0_push_1 : decode cX0_push 1 = .ok (.ifCond .lt 8, 3) := by decide +kernel
theorem dX0_push_4 : decode cX0_push 4 = .ok (.iload_n 1, 1) := by decide +kernel
theorem dX0_push_5 : decode cX0_push 5 = .ok (.iconst 3, 1) := by decide +kernel
theorem dX0_push_6 : decode cX0_push 6 = .ok (.if_icmp .le 5, 3) := by decide +kernel
theorem dX0_push_9 : decode cX0_push 9 = .ok (.iconst (-1), 1) := by decide +kernel
theorem dX0_push_10 : decode cX0_push 10 = .ok (.ireturn, 1) := by decide +kernel
theorem dX0_push_11 : decode cX0_push 11 = .ok (.aload_n 0, 1) := by decide +kernel
theorem dX0_push_12 : decode cX0_push 12 = .ok (.getfield 89, 3) := by decide +kernel
theorem dX0_push_15 : decode cX0_push 15 = .ok (.bipush 60, 2) := by decide +kernel
theorem dX0_push_17 : decode cX0_push 17 = .ok (.if_icmp .lt 6, 3) := by decide +kernel
theorem dX0_push_20 : decode cX0_push 20 = .ok (.bipush (-2), 2) := by decide +kernel
theorem dX0_push_22 : decode cX0_push 22 = .ok (.ireturn, 1) := by decide +kernel
theorem dX0_push_23 : decode cX0_push 23 = .ok (.aload_n 0, 1) := by decide +kernel
theorem dX0_push_24 : decode cX0_push 24 = .ok (.getfield 19, 3) := by decide +kernel
theorem dX0_push_27 : decode cX0_push 27 = .ok (.aload_n 0, 1) := by decide +kernel
theorem dX0_push_28 : decode cX0_push 28 = .ok (.getfield 89, 3) := by decide +kernel
theorem dX0_push_31 : decode cX0_push 31 = .ok (.iload_n 1, 1) := by decide +kernel
theorem dX0_push_32 : decode cX0_push 32 = .ok (.i2b, 1) := by decide +kernel
theorem dX0_push_33 : decode cX0_push 33 = .ok (.bastore, 1) := by decide +kernel
theorem dX0_push_34 : decode cX0_push 34 = .ok (.aload_n 0, 1) := by decide +kernel
theorem dX0_push_35 : decode cX0_push 35 = .ok (.dup, 1) := by decide +kernel
theorem dX0_push_36 : decode cX0_push 36 = .ok (.getfield 89, 3) := by decide +kernel
theorem dX0_push_39 : decode cX0_push 39 = .ok (.iconst 1, 1) := by decide +kernel
theorem dX0_push_40 : decode cX0_push 40 = .ok (.iadd, 1) := by decide +kernel
theorem dX0_push_41 : decode cX0_push 41 = .ok (.putfield 89, 3) := by decide +kernel
theorem dX0_push_44 : decode cX0_push 44 = .ok (.aload_n 0, 1) := by decide +kernel
theorem dX0_push_45 : decode cX0_push 45 = .ok (.aload_n 0, 1) := by decide +kernel
theorem dX0_push_46 : decode cX0_push 46 = .ok (.getfield 89, 3) := by decide +kernel
theorem dX0_push_49 : decode cX0_push 49 = .ok (.iconst 1, 1) := by decide +kernel
theorem dX0_push_50 : decode cX0_push 50 = .ok (.isub, 1) := by decide +kernel
theorem dX0_push_51 : decode cX0_push 51 = .ok (.invokevirtual 92, 3) := by decide +kernel
theorem dX0_push_54 : decode cX0_push 54 = .ok (.ireturn, 1) := by decide +kernel
theorem dX0_endingAt_0 : decode cX0_endingAt 0 = .ok (.aload_n 0, 1) := by decide +kernel
theorem dX0_endingAt_1 : decode cX0_endingAt 1 = .ok (.iload_n 1, 1) := by decide +kernel
theorem dX0_endingAt_2 : decode cX0_endingAt 2 = .ok (.invokevirtual 112, 3) := by decide +kernel
theorem dX0_endingAt_5 : decode cX0_endingAt 5 = .ok (.ifCond .ne 5, 3) := by decide +kernel
theorem dX0_endingAt_8 : decode cX0_endingAt 8 = .ok (.iconst 0, 1) := by decide +kernel
theorem dX0_endingAt_9 : decode cX0_endingAt 9 = .ok (.ireturn, 1) := by decide +kernel
theorem dX0_endingAt_10 : decode cX0_endingAt 10 = .ok (.aload_n 0, 1) := by decide +kernel
theorem dX0_endingAt_11 : decode cX0_endingAt 11 = .ok (.invokevirtual 115, 3) := by decide +kernel
theorem dX0_endingAt_14 : decode cX0_endingAt 14 = .ok (.iconst 0, 1) := by decide +kernel
theorem dX0_endingAt_15 : decode cX0_endingAt 15 = .ok (.istore_n 2, 1) := by decide +kernel
theorem dX0_endingAt_16 : decode cX0_endingAt 16 = .ok (.iconst 0, 1) := by decide +kernel
theorem dX0_endingAt_17 : decode cX0_endingAt 17 = .ok (.istore_n 3, 1) := by decide +kernel
theorem dX0_endingAt_18 : decode cX0_endingAt 18 = .ok (.iload_n 3, 1) := by decide +kernel
theorem dX0_endingAt_19 : decode cX0_endingAt 19 = .ok (.iconst 4, 1) := by decide +kernel
theorem dX0_endingAt_20 : decode cX0_endingAt 20 = .ok (.if_icmp .ge 32, 3) := by decide +kernel
theorem dX0_endingAt_23 : decode cX0_endingAt 23 = .ok (.iload_n 2, 1) := by decide +kernel
theorem dX0_endingAt_24 : decode cX0_endingAt 24 = .ok (.aload_n 0, 1) := by decide +kernel
theorem dX0_endingAt_25 : decode cX0_endingAt 25 = .ok (.getfield 41, 3) := by decide +kernel
theorem dX0_endingAt_28 : decode cX0_endingAt 28 = .ok (.iload_n 1, 1) := by decide +kernel
theorem dX0_endingAt_29 : decode cX0_endingAt 29 = .ok (.iconst 4, 1) := by decide +kernel
theorem dX0_endingAt_30 : decode cX0_endingAt 30 = .ok (.imul, 1) := by decide +kernel
theorem dX0_endingAt_31 : decode cX0_endingAt 31 = .ok (.iload_n 3, 1) := by decide +kernel
theorem dX0_endingAt_32 : decode cX0_endingAt 32 = .ok (.iadd, 1) := by decide +kernel
theorem dX0_endingAt_33 : decode cX0_endingAt 33 = .ok (.baload, 1) := by decide +kernel
theorem dX0_endingAt_34 : decode cX0_endingAt 34 = .ok (.ifCond .lt 9, 3) := by decide +kernel
theorem dX0_endingAt_37 : decode cX0_endingAt 37 = .ok (.iconst 1, 1) := by decide +kernel
theorem dX0_endingAt_38 : decode cX0_endingAt 38 = .ok (.iload_n 3, 1) := by decide +kernel
theorem dX0_endingAt_39 : decode cX0_endingAt 39 = .ok (.ishl, 1) := by decide +kernel
theorem dX0_endingAt_40 : decode cX0_endingAt 40 = .ok (.goto 4, 3) := by decide +kernel
theorem dX0_endingAt_43 : decode cX0_endingAt 43 = .ok (.iconst 0, 1) := by decide +kernel
theorem dX0_endingAt_44 : decode cX0_endingAt 44 = .ok (.ior, 1) := by decide +kernel
theorem dX0_endingAt_45 : decode cX0_endingAt 45 = .ok (.istore_n 2, 1) := by decide +kernel
theorem dX0_endingAt_46 : decode cX0_endingAt 46 = .ok (.iinc 3 1, 3) := by decide +kernel
theorem dX0_endingAt_49 : decode cX0_endingAt 49 = .ok (.goto (-31), 3) := by decide +kernel
theorem dX0_endingAt_52 : decode cX0_endingAt 52 = .ok (.iload_n 2, 1) := by decide +kernel
theorem dX0_endingAt_53 : decode cX0_endingAt 53 = .ok (.ireturn, 1) := by decide +kernel
theorem dX0_isPlace_0 : decode cX0_isPlace 0 = .ok (.iload_n 1, 1) := by decide +kernel
theorem dX0_isPlace_1 : decode cX0_isPlace 1 = .ok (.ifCond .lt 15, 3) := by decide +kernel
theorem dX0_isPlace_4 : decode cX0_isPlace 4 = .ok (.iload_n 1, 1) := by decide +kernel
theorem dX0_isPlace_5 : decode cX0_isPlace 5 = .ok (.aload_n 0, 1) := by decide +kernel
theorem dX0_isPlace_6 : decode cX0_isPlace 6 = .ok (.getfield 89, 3) := by decide +kernel
theorem dX0_isPlace_9 : decode cX0_isPlace 9 = .ok (.if_icmp .ge 7, 3) := by decide +kernel
theorem dX0_isPlace_12 : decode cX0_isPlace 12 = .ok (.iconst 1, 1) := by decide +kernel
theorem dX0_isPlace_13 : decode cX0_isPlace 13 = .ok (.goto 4, 3) := by decide +kernel
theorem dX0_isPlace_16 : decode cX0_isPlace 16 = .ok (.iconst 0, 1) := by decide +kernel
theorem dX0_isPlace_17 : decode cX0_isPlace 17 = .ok (.ireturn, 1) := by decide +kernel
theorem dX0_goThrough_0 : decode cX0_goThrough 0 = .ok (.aload_n 0, 1) := by decide +kernel
theorem dX0_goThrough_1 : decode cX0_goThrough 1 = .ok (.invokevirtual 95, 3) := by decide +kernel
theorem dX0_goThrough_4 : decode cX0_goThrough 4 = .ok (.aload_n 0, 1) := by decide +kernel
theorem dX0_goThrough_5 : decode cX0_goThrough 5 = .ok (.getfield 58, 3) := by decide +kernel
theorem dX0_goThrough_8 : decode cX0_goThrough 8 = .ok (.aload_n 0, 1) := by decide +kernel
theorem dX0_goThrough_9 : decode cX0_goThrough 9 = .ok (.getfield 89, 3) := by decide +kernel
theorem dX0_goThrough_12 : decode cX0_goThrough 12 = .ok (.if_icmp .ge 43, 3) := by decide +kernel
theorem dX0_goThrough_15 : decode cX0_goThrough 15 = .ok (.aload_n 0, 1) := by decide +kernel
theorem dX0_goThrough_16 : decode cX0_goThrough 16 = .ok (.getfield 19, 3) := by decide +kernel
theorem dX0_goThrough_19 : decode cX0_goThrough 19 = .ok (.aload_n 0, 1) := by decide +kernel
theorem dX0_goThrough_20 : decode cX0_goThrough 20 = .ok (.getfield 58, 3) := by decide +kernel
theorem dX0_goThrough_23 : decode cX0_goThrough 23 = .ok (.baload, 1) := by decide +kernel
theorem dX0_goThrough_24 : decode cX0_goThrough 24 = .ok (.istore_n 1, 1) := by decide +kernel
theorem dX0_goThrough_25 : decode cX0_goThrough 25 = .ok (.aload_n 0, 1) := by decide +kernel
theorem dX0_goThrough_26 : decode cX0_goThrough 26 = .ok (.iload_n 1, 1) := by decide +kernel
theorem dX0_goThrough_27 : decode cX0_goThrough 27 = .ok (.aload_n 0, 1) := by decide +kernel
theorem dX0_goThrough_28 : decode cX0_goThrough 28 = .ok (.getfield 58, 3) := by decide +kernel
theorem dX0_goThrough_31 : decode cX0_goThrough 31 = .ok (.invokevirtual 98, 3) := by decide +kernel
theorem dX0_goThrough_34 : decode cX0_goThrough 34 = .ok (.aload_n 0, 1) := by decide +kernel
theorem dX0_goThrough_35 : decode cX0_goThrough 35 = .ok (.aload_n 0, 1) := by decide +kernel
theorem dX0_goThrough_36 : decode cX0_goThrough 36 = .ok (.getfield 58, 3) := by decide +kernel
theorem dX0_goThrough_39 : decode cX0_goThrough 39 = .ok (.invokevirtual 102, 3) := by decide +kernel
theorem dX0_goThrough_42 : decode cX0_goThrough 42 = .ok (.aload_n 0, 1) := by decide +kernel
theorem dX0_goThrough_43 : decode cX0_goThrough 43 = .ok (.dup, 1) := by decide +kernel
theorem dX0_goThrough_44 : decode cX0_goThrough 44 = .ok (.getfield 58, 3) := by decide +kernel
theorem dX0_goThrough_47 : decode cX0_goThrough 47 = .ok (.iconst 1, 1) := by decide +kernel
theorem dX0_goThrough_48 : decode cX0_goThrough 48 = .ok (.iadd, 1) := by decide +kernel
theorem dX0_goThrough_49 : decode cX0_goThrough 49 = .ok (.putfield 58, 3) := by decide +kernel
theorem dX0_goThrough_52 : decode cX0_goThrough 52 = .ok (.goto (-48), 3) := by decide +kernel
theorem dX0_goThrough_55 : decode cX0_goThrough 55 = .ok (.return_, 1) := by decide +kernel
theorem dX0_link_0 : decode cX0_link 0 = .ok (.aload_n 0, 1) := by decide +kernel
theorem dX0_link_1 : decode cX0_link 1 = .ok (.getfield 51, 3) := by decide +kernel
theorem dX0_link_4 : decode cX0_link 4 = .ok (.ifCond .eq 4, 3) := by decide +kernel
theorem dX0_link_7 : decode cX0_link 7 = .ok (.return_, 1) := by decide +kernel
theorem dX0_link_8 : decode cX0_link 8 = .ok (.aload_n 0, 1) := by decide +kernel
theorem dX0_link_9 : decode cX0_link 9 = .ok (.iconst 1, 1) := by decide +kernel
theorem dX0_link_10 : decode cX0_link 10 = .ok (.putfield 51, 3) := by decide +kernel
theorem dX0_link_13 : decode cX0_link 13 = .ok (.aload_n 0, 1) := by decide +kernel
theorem dX0_link_14 : decode cX0_link 14 = .ok (.iconst 0, 1) := by decide +kernel
theorem dX0_link_15 : decode cX0_link 15 = .ok (.putfield 65, 3) := by decide +kernel
theorem dX0_link_18 : decode cX0_link 18 = .ok (.aload_n 0, 1) := by decide +kernel
theorem dX0_link_19 : decode cX0_link 19 = .ok (.iconst 0, 1) := by decide +kernel
theorem dX0_link_20 : decode cX0_link 20 = .ok (.putfield 68, 3) := by decide +kernel
theorem dX0_link_23 : decode cX0_link 23 = .ok (.iconst 0, 1) := by decide +kernel
theorem dX0_link_24 : decode cX0_link 24 = .ok (.istore_n 1, 1) := by decide +kernel
theorem dX0_link_25 : decode cX0_link 25 = .ok (.iload_n 1, 1) := by decide +kernel
theorem dX0_link_26 : decode cX0_link 26 = .ok (.iconst 4, 1) := by decide +kernel
theorem dX0_link_27 : decode cX0_link 27 = .ok (.if_icmp .ge 107, 3) := by decide +kernel
theorem dX0_link_30 : decode cX0_link 30 = .ok (.aload_n 0, 1) := by decide +kernel
theorem dX0_link_31 : decode cX0_link 31 = .ok (.dup, 1) := by decide +kernel
theorem dX0_link_32 : decode cX0_link 32 = .ok (.getfield 65, 3) := by decide +kernel
theorem dX0_link_35 : decode cX0_link 35 = .ok (.aload_n 0, 1) := by decide +kernel
theorem dX0_link_36 : decode cX0_link 36 = .ok (.iload_n 1, 1) := by decide +kernel
theorem dX0_link_37 : decode cX0_link 37 = .ok (.iconst 0, 1) := by decide +kernel
theorem dX0_link_38 : decode cX0_link 38 = .ok (.invokevirtual 71, 3) := by decide +kernel
theorem dX0_link_41 : decode cX0_link 41 = .ok (.ior, 1) := by decide +kernel
theorem dX0_link_42 : decode cX0_link 42 = .ok (.putfield 65, 3) := by decide +kernel
theorem dX0_link_45 : decode cX0_link 45 = .ok (.iconst 0, 1) := by decide +kernel
theorem dX0_link_46 : decode cX0_link 46 = .ok (.istore_n 2, 1) := by decide +kernel
theorem dX0_link_47 : decode cX0_link 47 = .ok (.iload_n 2, 1) := by decide +kernel
theorem dX0_link_48 : decode cX0_link 48 = .ok (.aload_n 0, 1) := by decide +kernel
theorem dX0_link_49 : decode cX0_link 49 = .ok (.getfield 7, 3) := by decide +kernel
theorem dX0_link_52 : decode cX0_link 52 = .ok (.iload_n 1, 1) := by decide +kernel
theorem dX0_link_53 : decode cX0_link 53 = .ok (.baload, 1) := by decide +kernel
theorem dX0_link_54 : decode cX0_link 54 = .ok (.if_icmp .ge 74, 3) := by decide +kernel
theorem dX0_link_57 : decode cX0_link 57 = .ok (.iload_n 1, 1) := by decide +kernel
theorem dX0_link_58 : decode cX0_link 58 = .ok (.bipush 6, 2) := by decide +kernel
theorem dX0_link_60 : decode cX0_link 60 = .ok (.imul, 1) := by decide +kernel
theorem dX0_link_61 : decode cX0_link 61 = .ok (.iload_n 2, 1) := by decide +kernel
theorem dX0_link_62 : decode cX0_link 62 = .ok (.iadd, 1) := by decide +kernel
theorem dX0_link_63 : decode cX0_link 63 = .ok (.istore_n 3, 1) := by decide +kernel
theorem dX0_link_64 : decode cX0_link 64 = .ok (.aload_n 0, 1) := by decide +kernel
theorem dX0_link_65 : decode cX0_link 65 = .ok (.iload_n 1, 1) := by decide +kernel
theorem dX0_link_66 : decode cX0_link 66 = .ok (.iload_n 2, 1) := by decide +kernel
theorem dX0_link_67 : decode cX0_link 67 = .ok (.iconst 1, 1) := by decide +kernel
theorem dX0_link_68 : decode cX0_link 68 = .ok (.iadd, 1) := by decide +kernel
theorem dX0_link_69 : decode cX0_link 69 = .ok (.invokevirtual 71, 3) := by decide +kernel
theorem dX0_link_72 : decode cX0_link 72 = .ok (.istore 4, 2) := by decide +kernel
theorem dX0_link_74 : decode cX0_link 74 = .ok (.aload_n 0, 1) := by decide +kernel
theorem dX0_link_75 : decode cX0_link 75 = .ok (.getfield 22, 3) := by decide +kernel
theorem dX0_link_78 : decode cX0_link 78 = .ok (.iload_n 3, 1) := by decide +kernel
theorem dX0_link_79 : decode cX0_link 79 = .ok (.aload_n 0, 1) := by decide +kernel
theorem dX0_link_80 : decode cX0_link 80 = .ok (.iload_n 3, 1) := by decide +kernel
theorem dX0_link_81 : decode cX0_link 81 = .ok (.invokevirtual 75, 3) := by decide +kernel
theorem dX0_link_84 : decode cX0_link 84 = .ok (.ifCond .eq 12, 3) := by decide +kernel
theorem dX0_link_87 : decode cX0_link 87 = .ok (.iload 4, 2) := by decide +kernel
theorem dX0_link_89 : decode cX0_link 89 = .ok (.iconst 1, 1) := by decide +kernel
theorem dX0_link_90 : decode cX0_link 90 = .ok (.iload_n 3, 1) := by decide +kernel
theorem dX0_link_91 : decode cX0_link 91 = .ok (.ishl, 1) := by decide +kernel
theorem dX0_link_92 : decode cX0_link 92 = .ok (.ior, 1) := by decide +kernel
theorem dX0_link_93 : decode cX0_link 93 = .ok (.goto 5, 3) := by decide +kernel
theorem dX0_link_96 : decode cX0_link 96 = .ok (.iload 4, 2) := by decide +kernel
theorem dX0_link_98 : decode cX0_link 98 = .ok (.iastore, 1) := by decide +kernel
theorem dX0_link_99 : decode cX0_link 99 = .ok (.aload_n 0, 1) := by decide +kernel
theorem dX0_link_100 : decode cX0_link 100 = .ok (.iload_n 1, 1) := by decide +kernel
theorem dX0_link_101 : decode cX0_link 101 = .ok (.iload_n 2, 1) := by decide +kernel
theorem dX0_link_102 : decode cX0_link 102 = .ok (.iconst 1, 1) := by decide +kernel
theorem dX0_link_103 : decode cX0_link 103 = .ok (.iadd, 1) := by decide +kernel
theorem dX0_link_104 : decode cX0_link 104 = .ok (.invokevirtual 78, 3) := by decide +kernel
theorem dX0_link_107 : decode cX0_link 107 = .ok (.ifCond .eq 15, 3) := by decide +kernel
theorem dX0_link_110 : decode cX0_link 110 = .ok (.aload_n 0, 1) := by decide +kernel
theorem dX0_link_111 : decode cX0_link 111 = .ok (.dup, 1) := by decide +kernel
theorem dX0_link_112 : decode cX0_link 112 = .ok (.getfield 68, 3) := by decide +kernel
theorem dX0_link_115 : decode cX0_link 115 = .ok (.iconst 1, 1) := by decide +kernel
theorem dX0_link_116 : decode cX0_link 116 = .ok (.iload_n 3, 1) := by decide +kernel
end
section
set_option maxRecDepth 100000
theorem dX0_link_117 : decode cX0_link 117 = .ok (.ishl, 1) := by decide +kernel
theorem dX0_link_118 : decode cX0_link 118 = .ok (.ior, 1) := by decide +kernel
theorem dX0_link_119 : decode cX0_link 119 = .ok (.putfield 68, 3) := by decide +kernel
theorem dX0_link_122 : decode cX0_link 122 = .ok (.iinc 2 1, 3) := by decide +kernel
theorem dX0_link_125 : decode cX0_link 125 = .ok (.goto (-78), 3) := by decide +kernel
theorem dX0_link_128 : decode cX0_link 128 = .ok (.iinc 1 1, 3) := by decide +kernel
theorem dX0_link_131 : decode cX0_link 131 = .ok (.goto (-106), 3) := by decide +kernel
theorem dX0_link_134 : decode cX0_link 134 = .ok (.return_, 1) := by decide +kernel
theorem dX0_openFrom_0 : decode cX0_openFrom 0 = .ok (.iconst 0, 1) := by decide +kernel
theorem dX0_openFrom_1 : decode cX0_openFrom 1 = .ok (.istore_n 3, 1) := by decide +kernel
theorem dX0_openFrom_2 : decode cX0_openFrom 2 = .ok (.iconst 1, 1) := by decide +kernel
theorem dX0_openFrom_3 : decode cX0_openFrom 3 = .ok (.istore 4, 2) := by decide +kernel
theorem dX0_openFrom_5 : decode cX0_openFrom 5 = .ok (.iload_n 2, 1) := by decide +kernel
theorem dX0_openFrom_6 : decode cX0_openFrom 6 = .ok (.istore 5, 2) := by decide +kernel
theorem dX0_openFrom_8 : decode cX0_openFrom 8 = .ok (.iload 5, 2) := by decide +kernel
theorem dX0_openFrom_10 : decode cX0_openFrom 10 = .ok (.aload_n 0, 1) := by decide +kernel
theorem dX0_openFrom_11 : decode cX0_openFrom 11 = .ok (.getfield 7, 3) := by decide +kernel
theorem dX0_openFrom_14 : decode cX0_openFrom 14 = .ok (.iload_n 1, 1) := by decide +kernel
theorem dX0_openFrom_15 : decode cX0_openFrom 15 = .ok (.baload, 1) := by decide +kernel
theorem dX0_openFrom_16 : decode cX0_openFrom 16 = .ok (.if_icmp .ge 39, 3) := by decide +kernel
theorem dX0_openFrom_19 : decode cX0_openFrom 19 = .ok (.iload 4, 2) := by decide +kernel
theorem dX0_openFrom_21 : decode cX0_openFrom 21 = .ok (.ifCond .eq 34, 3) := by decide +kernel
theorem dX0_openFrom_24 : decode cX0_openFrom 24 = .ok (.iload_n 3, 1) := by decide +kernel
theorem dX0_openFrom_25 : decode cX0_openFrom 25 = .ok (.iconst 1, 1) := by decide +kernel
theorem dX0_openFrom_26 : decode cX0_openFrom 26 = .ok (.iload_n 1, 1) := by decide +kernel
theorem dX0_openFrom_27 : decode cX0_openFrom 27 = .ok (.bipush 6, 2) := by decide +kernel
theorem dX0_openFrom_29 : decode cX0_openFrom 29 = .ok (.imul, 1) := by decide +kernel
theorem dX0_openFrom_30 : decode cX0_openFrom 30 = .ok (.iload 5, 2) := by decide +kernel
theorem dX0_openFrom_32 : decode cX0_openFrom 32 = .ok (.iadd, 1) := by decide +kernel
theorem dX0_openFrom_33 : decode cX0_openFrom 33 = .ok (.ishl, 1) := by decide +kernel
theorem dX0_openFrom_34 : decode cX0_openFrom 34 = .ok (.ior, 1) := by decide +kernel
theorem dX0_openFrom_35 : decode cX0_openFrom 35 = .ok (.istore_n 3, 1) := by decide +kernel
theorem dX0_openFrom_36 : decode cX0_openFrom 36 = .ok (.aload_n 0, 1) := by decide +kernel
theorem dX0_openFrom_37 : decode cX0_openFrom 37 = .ok (.iload_n 1, 1) := by decide +kernel
theorem dX0_openFrom_38 : decode cX0_openFrom 38 = .ok (.bipush 6, 2) := by decide +kernel
theorem dX0_openFrom_40 : decode cX0_openFrom 40 = .ok (.imul, 1) := by decide +kernel
theorem dX0_openFrom_41 : decode cX0_openFrom 41 = .ok (.iload 5, 2) := by decide +kernel
theorem dX0_openFrom_43 : decode cX0_openFrom 43 = .ok (.iadd, 1) := by decide +kernel
theorem dX0_openFrom_44 : decode cX0_openFrom 44 = .ok (.invokevirtual 82, 3) := by decide +kernel
theorem dX0_openFrom_47 : decode cX0_openFrom 47 = .ok (.istore 4, 2) := by decide +kernel
theorem dX0_openFrom_49 : decode cX0_openFrom 49 = .ok (.iinc 5 1, 3) := by decide +kernel
theorem dX0_openFrom_52 : decode cX0_openFrom 52 = .ok (.goto (-44), 3) := by decide +kernel
theorem dX0_openFrom_55 : decode cX0_openFrom 55 = .ok (.iload_n 3, 1) := by decide +kernel
theorem dX0_openFrom_56 : decode cX0_openFrom 56 = .ok (.ireturn, 1) := by decide +kernel
theorem dX0_canBeEmpty_0 : decode cX0_canBeEmpty 0 = .ok (.aload_n 0, 1) := by decide +kernel
theorem dX0_canBeEmpty_1 : decode cX0_canBeEmpty 1 = .ok (.getfield 16, 3) := by decide +kernel
theorem dX0_canBeEmpty_4 : decode cX0_canBeEmpty 4 = .ok (.iload_n 1, 1) := by decide +kernel
theorem dX0_canBeEmpty_5 : decode cX0_canBeEmpty 5 = .ok (.baload, 1) := by decide +kernel
theorem dX0_canBeEmpty_6 : decode cX0_canBeEmpty 6 = .ok (.iconst 1, 1) := by decide +kernel
theorem dX0_canBeEmpty_7 : decode cX0_canBeEmpty 7 = .ok (.if_icmp .eq 13, 3) := by decide +kernel
theorem dX0_canBeEmpty_10 : decode cX0_canBeEmpty 10 = .ok (.aload_n 0, 1) := by decide +kernel
theorem dX0_canBeEmpty_11 : decode cX0_canBeEmpty 11 = .ok (.getfield 16, 3) := by decide +kernel
theorem dX0_canBeEmpty_14 : decode cX0_canBeEmpty 14 = .ok (.iload_n 1, 1) := by decide +kernel
theorem dX0_canBeEmpty_15 : decode cX0_canBeEmpty 15 = .ok (.baload, 1) := by decide +kernel
theorem dX0_canBeEmpty_16 : decode cX0_canBeEmpty 16 = .ok (.iconst 2, 1) := by decide +kernel
theorem dX0_canBeEmpty_17 : decode cX0_canBeEmpty 17 = .ok (.if_icmp .ne 7, 3) := by decide +kernel
theorem dX0_canBeEmpty_20 : decode cX0_canBeEmpty 20 = .ok (.iconst 1, 1) := by decide +kernel
theorem dX0_canBeEmpty_21 : decode cX0_canBeEmpty 21 = .ok (.goto 4, 3) := by decide +kernel
theorem dX0_canBeEmpty_24 : decode cX0_canBeEmpty 24 = .ok (.iconst 0, 1) := by decide +kernel
theorem dX0_canBeEmpty_25 : decode cX0_canBeEmpty 25 = .ok (.ireturn, 1) := by decide +kernel
theorem dX0_repeats_0 : decode cX0_repeats 0 = .ok (.aload_n 0, 1) := by decide +kernel
theorem dX0_repeats_1 : decode cX0_repeats 1 = .ok (.getfield 16, 3) := by decide +kernel
theorem dX0_repeats_4 : decode cX0_repeats 4 = .ok (.iload_n 1, 1) := by decide +kernel
theorem dX0_repeats_5 : decode cX0_repeats 5 = .ok (.baload, 1) := by decide +kernel
theorem dX0_repeats_6 : decode cX0_repeats 6 = .ok (.iconst 2, 1) := by decide +kernel
theorem dX0_repeats_7 : decode cX0_repeats 7 = .ok (.if_icmp .eq 13, 3) := by decide +kernel
theorem dX0_repeats_10 : decode cX0_repeats 10 = .ok (.aload_n 0, 1) := by decide +kernel
theorem dX0_repeats_11 : decode cX0_repeats 11 = .ok (.getfield 16, 3) := by decide +kernel
theorem dX0_repeats_14 : decode cX0_repeats 14 = .ok (.iload_n 1, 1) := by decide +kernel
theorem dX0_repeats_15 : decode cX0_repeats 15 = .ok (.baload, 1) := by decide +kernel
theorem dX0_repeats_16 : decode cX0_repeats 16 = .ok (.iconst 3, 1) := by decide +kernel
theorem dX0_repeats_17 : decode cX0_repeats 17 = .ok (.if_icmp .ne 7, 3) := by decide +kernel
theorem dX0_repeats_20 : decode cX0_repeats 20 = .ok (.iconst 1, 1) := by decide +kernel
theorem dX0_repeats_21 : decode cX0_repeats 21 = .ok (.goto 4, 3) := by decide +kernel
theorem dX0_repeats_24 : decode cX0_repeats 24 = .ok (.iconst 0, 1) := by decide +kernel
theorem dX0_repeats_25 : decode cX0_repeats 25 = .ok (.ireturn, 1) := by decide +kernel
theorem dX0_emptyFrom_0 : decode cX0_emptyFrom 0 = .ok (.iload_n 2, 1) := by decide +kernel
theorem dX0_emptyFrom_1 : decode cX0_emptyFrom 1 = .ok (.istore_n 3, 1) := by decide +kernel
theorem dX0_emptyFrom_2 : decode cX0_emptyFrom 2 = .ok (.iload_n 3, 1) := by decide +kernel
theorem dX0_emptyFrom_3 : decode cX0_emptyFrom 3 = .ok (.aload_n 0, 1) := by decide +kernel
theorem dX0_emptyFrom_4 : decode cX0_emptyFrom 4 = .ok (.getfield 7, 3) := by decide +kernel
theorem dX0_emptyFrom_7 : decode cX0_emptyFrom 7 = .ok (.iload_n 1, 1) := by decide +kernel
theorem dX0_emptyFrom_8 : decode cX0_emptyFrom 8 = .ok (.baload, 1) := by decide +kernel
theorem dX0_emptyFrom_9 : decode cX0_emptyFrom 9 = .ok (.if_icmp .ge 24, 3) := by decide +kernel
theorem dX0_emptyFrom_12 : decode cX0_emptyFrom 12 = .ok (.aload_n 0, 1) := by decide +kernel
theorem dX0_emptyFrom_13 : decode cX0_emptyFrom 13 = .ok (.iload_n 1, 1) := by decide +kernel
theorem dX0_emptyFrom_14 : decode cX0_emptyFrom 14 = .ok (.bipush 6, 2) := by decide +kernel
theorem dX0_emptyFrom_16 : decode cX0_emptyFrom 16 = .ok (.imul, 1) := by decide +kernel
theorem dX0_emptyFrom_17 : decode cX0_emptyFrom 17 = .ok (.iload_n 3, 1) := by decide +kernel
theorem dX0_emptyFrom_18 : decode cX0_emptyFrom 18 = .ok (.iadd, 1) := by decide +kernel
theorem dX0_emptyFrom_19 : decode cX0_emptyFrom 19 = .ok (.invokevirtual 82, 3) := by decide +kernel
theorem dX0_emptyFrom_22 : decode cX0_emptyFrom 22 = .ok (.ifCond .ne 5, 3) := by decide +kernel
theorem dX0_emptyFrom_25 : decode cX0_emptyFrom 25 = .ok (.iconst 0, 1) := by decide +kernel
theorem dX0_emptyFrom_26 : decode cX0_emptyFrom 26 = .ok (.ireturn, 1) := by decide +kernel
theorem dX0_emptyFrom_27 : decode cX0_emptyFrom 27 = .ok (.iinc 3 1, 3) := by decide +kernel
theorem dX0_emptyFrom_30 : decode cX0_emptyFrom 30 = .ok (.goto (-28), 3) := by decide +kernel
theorem dX0_emptyFrom_33 : decode cX0_emptyFrom 33 = .ok (.iconst 1, 1) := by decide +kernel
theorem dX0_emptyFrom_34 : decode cX0_emptyFrom 34 = .ok (.ireturn, 1) := by decide +kernel
theorem dX0_advance_0 : decode cX0_advance 0 = .ok (.aload_n 0, 1) := by decide +kernel
theorem dX0_advance_1 : decode cX0_advance 1 = .ok (.iload_n 1, 1) := by decide +kernel
theorem dX0_advance_2 : decode cX0_advance 2 = .ok (.invokevirtual 106, 3) := by decide +kernel
theorem dX0_advance_5 : decode cX0_advance 5 = .ok (.istore_n 3, 1) := by decide +kernel
theorem dX0_advance_6 : decode cX0_advance 6 = .ok (.iconst 0, 1) := by decide +kernel
theorem dX0_advance_7 : decode cX0_advance 7 = .ok (.istore 4, 2) := by decide +kernel
theorem dX0_advance_9 : decode cX0_advance 9 = .ok (.iload 4, 2) := by decide +kernel
theorem dX0_advance_11 : decode cX0_advance 11 = .ok (.bipush 24, 2) := by decide +kernel
theorem dX0_advance_13 : decode cX0_advance 13 = .ok (.if_icmp .ge 58, 3) := by decide +kernel
theorem dX0_advance_16 : decode cX0_advance 16 = .ok (.aload_n 0, 1) := by decide +kernel
theorem dX0_advance_17 : decode cX0_advance 17 = .ok (.getfield 32, 3) := by decide +kernel
theorem dX0_advance_20 : decode cX0_advance 20 = .ok (.iload 4, 2) := by decide +kernel
theorem dX0_advance_22 : decode cX0_advance 22 = .ok (.bipush 60, 2) := by decide +kernel
theorem dX0_advance_24 : decode cX0_advance 24 = .ok (.bastore, 1) := by decide +kernel
theorem dX0_advance_25 : decode cX0_advance 25 = .ok (.aload_n 0, 1) := by decide +kernel
theorem dX0_advance_26 : decode cX0_advance 26 = .ok (.getfield 35, 3) := by decide +kernel
theorem dX0_advance_29 : decode cX0_advance 29 = .ok (.iload 4, 2) := by decide +kernel
theorem dX0_advance_31 : decode cX0_advance 31 = .ok (.iconst (-1), 1) := by decide +kernel
theorem dX0_advance_32 : decode cX0_advance 32 = .ok (.bastore, 1) := by decide +kernel
theorem dX0_advance_33 : decode cX0_advance 33 = .ok (.iload_n 3, 1) := by decide +kernel
theorem dX0_advance_34 : decode cX0_advance 34 = .ok (.aload_n 0, 1) := by decide +kernel
theorem dX0_advance_35 : decode cX0_advance 35 = .ok (.getfield 65, 3) := by decide +kernel
theorem dX0_advance_38 : decode cX0_advance 38 = .ok (.iand, 1) := by decide +kernel
theorem dX0_advance_39 : decode cX0_advance 39 = .ok (.iload 4, 2) := by decide +kernel
theorem dX0_advance_41 : decode cX0_advance 41 = .ok (.ishr, 1) := by decide +kernel
theorem dX0_advance_42 : decode cX0_advance 42 = .ok (.iconst 1, 1) := by decide +kernel
theorem dX0_advance_43 : decode cX0_advance 43 = .ok (.iand, 1) := by decide +kernel
theorem dX0_advance_44 : decode cX0_advance 44 = .ok (.ifCond .eq 21, 3) := by decide +kernel
theorem dX0_advance_47 : decode cX0_advance 47 = .ok (.aload_n 0, 1) := by decide +kernel
theorem dX0_advance_48 : decode cX0_advance 48 = .ok (.getfield 32, 3) := by decide +kernel
theorem dX0_advance_51 : decode cX0_advance 51 = .ok (.iload 4, 2) := by decide +kernel
theorem dX0_advance_53 : decode cX0_advance 53 = .ok (.iload_n 2, 1) := by decide +kernel
theorem dX0_advance_54 : decode cX0_advance 54 = .ok (.i2b, 1) := by decide +kernel
theorem dX0_advance_55 : decode cX0_advance 55 = .ok (.bastore, 1) := by decide +kernel
theorem dX0_advance_56 : decode cX0_advance 56 = .ok (.aload_n 0, 1) := by decide +kernel
theorem dX0_advance_57 : decode cX0_advance 57 = .ok (.getfield 35, 3) := by decide +kernel
theorem dX0_advance_60 : decode cX0_advance 60 = .ok (.iload 4, 2) := by decide +kernel
theorem dX0_advance_62 : decode cX0_advance 62 = .ok (.iload_n 2, 1) := by decide +kernel
theorem dX0_advance_63 : decode cX0_advance 63 = .ok (.i2b, 1) := by decide +kernel
theorem dX0_advance_64 : decode cX0_advance 64 = .ok (.bastore, 1) := by decide +kernel
theorem dX0_advance_65 : decode cX0_advance 65 = .ok (.iinc 4 1, 3) := by decide +kernel
theorem dX0_advance_68 : decode cX0_advance 68 = .ok (.goto (-59), 3) := by decide +kernel
theorem dX0_advance_71 : decode cX0_advance 71 = .ok (.iconst 0, 1) := by decide +kernel
theorem dX0_advance_72 : decode cX0_advance 72 = .ok (.istore 4, 2) := by decide +kernel
theorem dX0_advance_74 : decode cX0_advance 74 = .ok (.iload 4, 2) := by decide +kernel
theorem dX0_advance_76 : decode cX0_advance 76 = .ok (.bipush 24, 2) := by decide +kernel
theorem dX0_advance_78 : decode cX0_advance 78 = .ok (.if_icmp .ge 36, 3) := by decide +kernel
theorem dX0_advance_81 : decode cX0_advance 81 = .ok (.aload_n 0, 1) := by decide +kernel
theorem dX0_advance_82 : decode cX0_advance 82 = .ok (.getfield 62, 3) := by decide +kernel
theorem dX0_advance_85 : decode cX0_advance 85 = .ok (.iload 4, 2) := by decide +kernel
theorem dX0_advance_87 : decode cX0_advance 87 = .ok (.ishr, 1) := by decide +kernel
theorem dX0_advance_88 : decode cX0_advance 88 = .ok (.iconst 1, 1) := by decide +kernel
theorem dX0_advance_89 : decode cX0_advance 89 = .ok (.iand, 1) := by decide +kernel
theorem dX0_advance_90 : decode cX0_advance 90 = .ok (.ifCond .eq 18, 3) := by decide +kernel
theorem dX0_advance_93 : decode cX0_advance 93 = .ok (.aload_n 0, 1) := by decide +kernel
theorem dX0_advance_94 : decode cX0_advance 94 = .ok (.iload 4, 2) := by decide +kernel
theorem dX0_advance_96 : decode cX0_advance 96 = .ok (.iload_n 3, 1) := by decide +kernel
theorem dX0_advance_97 : decode cX0_advance 97 = .ok (.aload_n 0, 1) := by decide +kernel
theorem dX0_advance_98 : decode cX0_advance 98 = .ok (.getfield 22, 3) := by decide +kernel
theorem dX0_advance_101 : decode cX0_advance 101 = .ok (.iload 4, 2) := by decide +kernel
theorem dX0_advance_103 : decode cX0_advance 103 = .ok (.iaload, 1) := by decide +kernel
theorem dX0_advance_104 : decode cX0_advance 104 = .ok (.iand, 1) := by decide +kernel
theorem dX0_advance_105 : decode cX0_advance 105 = .ok (.invokevirtual 109, 3) := by decide +kernel
theorem dX0_advance_108 : decode cX0_advance 108 = .ok (.iinc 4 1, 3) := by decide +kernel
theorem dX0_advance_111 : decode cX0_advance 111 = .ok (.goto (-37), 3) := by decide +kernel
theorem dX0_advance_114 : decode cX0_advance 114 = .ok (.aload_n 0, 1) := by decide +kernel
theorem dX0_advance_115 : decode cX0_advance 115 = .ok (.iload_n 3, 1) := by decide +kernel
theorem dX0_advance_116 : decode cX0_advance 116 = .ok (.putfield 62, 3) := by decide +kernel
theorem dX0_advance_119 : decode cX0_advance 119 = .ok (.iconst 0, 1) := by decide +kernel
theorem dX0_advance_120 : decode cX0_advance 120 = .ok (.istore 4, 2) := by decide +kernel
theorem dX0_advance_122 : decode cX0_advance 122 = .ok (.iload 4, 2) := by decide +kernel
theorem dX0_advance_124 : decode cX0_advance 124 = .ok (.bipush 24, 2) := by decide +kernel
theorem dX0_advance_126 : decode cX0_advance 126 = .ok (.if_icmp .ge 37, 3) := by decide +kernel
theorem dX0_advance_129 : decode cX0_advance 129 = .ok (.aload_n 0, 1) := by decide +kernel
theorem dX0_advance_130 : decode cX0_advance 130 = .ok (.getfield 26, 3) := by decide +kernel
theorem dX0_advance_133 : decode cX0_advance 133 = .ok (.iload 4, 2) := by decide +kernel
theorem dX0_advance_135 : decode cX0_advance 135 = .ok (.aload_n 0, 1) := by decide +kernel
theorem dX0_advance_136 : decode cX0_advance 136 = .ok (.getfield 32, 3) := by decide +kernel
theorem dX0_advance_139 : decode cX0_advance 139 = .ok (.iload 4, 2) := by decide +kernel
theorem dX0_advance_141 : decode cX0_advance 141 = .ok (.baload, 1) := by decide +kernel
theorem dX0_advance_142 : decode cX0_advance 142 = .ok (.bastore, 1) := by decide +kernel
theorem dX0_advance_143 : decode cX0_advance 143 = .ok (.aload_n 0, 1) := by decide +kernel
theorem dX0_advance_144 : decode cX0_advance 144 = .ok (.getfield 29, 3) := by decide +kernel
theorem dX0_advance_147 : decode cX0_advance 147 = .ok (.iload 4, 2) := by decide +kernel
theorem dX0_advance_149 : decode cX0_advance 149 = .ok (.aload_n 0, 1) := by decide +kernel
theorem dX0_advance_150 : decode cX0_advance 150 = .ok (.getfield 35, 3) := by decide +kernel
theorem dX0_advance_153 : decode cX0_advance 153 = .ok (.iload 4, 2) := by decide +kernel
theorem dX0_advance_155 : decode cX0_advance 155 = .ok (.baload, 1) := by decide +kernel
theorem dX0_advance_156 : decode cX0_advance 156 = .ok (.bastore, 1) := by decide +kernel
theorem dX0_advance_157 : decode cX0_advance 157 = .ok (.iinc 4 1, 3) := by decide +kernel
theorem dX0_advance_160 : decode cX0_advance 160 = .ok (.goto (-38), 3) := by decide +kernel
theorem dX0_advance_163 : decode cX0_advance 163 = .ok (.return_, 1) := by decide +kernel
theorem dX0_onward_0 : decode cX0_onward 0 = .ok (.aload_n 0, 1) := by decide +kernel
theorem dX0_onward_1 : decode cX0_onward 1 = .ok (.getfield 65, 3) := by decide +kernel
theorem dX0_onward_4 : decode cX0_onward 4 = .ok (.istore_n 2, 1) := by decide +kernel
theorem dX0_onward_5 : decode cX0_onward 5 = .ok (.iconst 0, 1) := by decide +kernel
theorem dX0_onward_6 : decode cX0_onward 6 = .ok (.istore_n 3, 1) := by decide +kernel
theorem dX0_onward_7 : decode cX0_onward 7 = .ok (.iload_n 3, 1) := by decide +kernel
theorem dX0_onward_8 : decode cX0_onward 8 = .ok (.bipush 24, 2) := by decide +kernel
theorem dX0_onward_10 : decode cX0_onward 10 = .ok (.if_icmp .ge 29, 3) := by decide +kernel
theorem dX0_onward_13 : decode cX0_onward 13 = .ok (.aload_n 0, 1) := by decide +kernel
theorem dX0_onward_14 : decode cX0_onward 14 = .ok (.getfield 62, 3) := by decide +kernel
theorem dX0_onward_17 : decode cX0_onward 17 = .ok (.iload_n 3, 1) := by decide +kernel
theorem dX0_onward_18 : decode cX0_onward 18 = .ok (.ishr, 1) := by decide +kernel
theorem dX0_onward_19 : decode cX0_onward 19 = .ok (.iconst 1, 1) := by decide +kernel
theorem dX0_onward_20 : decode cX0_onward 20 = .ok (.iand, 1) := by decide +kernel
theorem dX0_onward_21 : decode cX0_onward 21 = .ok (.ifCond .eq 12, 3) := by decide +kernel
theorem dX0_onward_24 : decode cX0_onward 24 = .ok (.iload_n 2, 1) := by decide +kernel
theorem dX0_onward_25 : decode cX0_onward 25 = .ok (.aload_n 0, 1) := by decide +kernel
theorem dX0_onward_26 : decode cX0_onward 26 = .ok (.getfield 22, 3) := by decide +kernel
theorem dX0_onward_29 : decode cX0_onward 29 = .ok (.iload_n 3, 1) := by decide +kernel
theorem dX0_onward_30 : decode cX0_onward 30 = .ok (.iaload, 1) := by decide +kernel
theorem dX0_onward_31 : decode cX0_onward 31 = .ok (.ior, 1) := by decide +kernel
theorem dX0_onward_32 : decode cX0_onward 32 = .ok (.istore_n 2, 1) := by decide +kernel
theorem dX0_onward_33 : decode cX0_onward 33 = .ok (.iinc 3 1, 3) := by decide +kernel
theorem dX0_onward_36 : decode cX0_onward 36 = .ok (.goto (-29), 3) := by decide +kernel
theorem dX0_onward_39 : decode cX0_onward 39 = .ok (.iload_n 2, 1) := by decide +kernel
theorem dX0_onward_40 : decode cX0_onward 40 = .ok (.aload_n 0, 1) := by decide +kernel
theorem dX0_onward_41 : decode cX0_onward 41 = .ok (.iload_n 1, 1) := by decide +kernel
theorem dX0_onward_42 : decode cX0_onward 42 = .ok (.invokevirtual 85, 3) := by decide +kernel
theorem dX0_onward_45 : decode cX0_onward 45 = .ok (.iand, 1) := by decide +kernel
theorem dX0_onward_46 : decode cX0_onward 46 = .ok (.ireturn, 1) := by decide +kernel
theorem dX0_placesFor_0 : decode cX0_placesFor 0 = .ok (.iconst 0, 1) := by decide +kernel
theorem dX0_placesFor_1 : decode cX0_placesFor 1 = .ok (.istore_n 2, 1) := by decide +kernel
theorem dX0_placesFor_2 : decode cX0_placesFor 2 = .ok (.iconst 0, 1) := by decide +kernel
theorem dX0_placesFor_3 : decode cX0_placesFor 3 = .ok (.istore_n 3, 1) := by decide +kernel
theorem dX0_placesFor_4 : decode cX0_placesFor 4 = .ok (.iload_n 3, 1) := by decide +kernel
theorem dX0_placesFor_5 : decode cX0_placesFor 5 = .ok (.iconst 4, 1) := by decide +kernel
theorem dX0_placesFor_6 : decode cX0_placesFor 6 = .ok (.if_icmp .ge 55, 3) := by decide +kernel
theorem dX0_placesFor_9 : decode cX0_placesFor 9 = .ok (.iconst 0, 1) := by decide +kernel
theorem dX0_placesFor_10 : decode cX0_placesFor 10 = .ok (.istore 4, 2) := by decide +kernel
theorem dX0_placesFor_12 : decode cX0_placesFor 12 = .ok (.iload 4, 2) := by decide +kernel
theorem dX0_placesFor_14 : decode cX0_placesFor 14 = .ok (.aload_n 0, 1) := by decide +kernel
theorem dX0_placesFor_15 : decode cX0_placesFor 15 = .ok (.getfield 7, 3) := by decide +kernel
theorem dX0_placesFor_18 : decode cX0_placesFor 18 = .ok (.iload_n 3, 1) := by decide +kernel
theorem dX0_placesFor_19 : decode cX0_placesFor 19 = .ok (.baload, 1) := by decide +kernel
theorem dX0_placesFor_20 : decode cX0_placesFor 20 = .ok (.if_icmp .ge 35, 3) := by decide +kernel
theorem dX0_placesFor_23 : decode cX0_placesFor 23 = .ok (.iload_n 3, 1) := by decide +kernel
theorem dX0_placesFor_24 : decode cX0_placesFor 24 = .ok (.bipush 6, 2) := by decide +kernel
theorem dX0_placesFor_26 : decode cX0_placesFor 26 = .ok (.imul, 1) := by decide +kernel
theorem dX0_placesFor_27 : decode cX0_placesFor 27 = .ok (.iload 4, 2) := by decide +kernel
theorem dX0_placesFor_29 : decode cX0_placesFor 29 = .ok (.iadd, 1) := by decide +kernel
theorem dX0_placesFor_30 : decode cX0_placesFor 30 = .ok (.istore 5, 2) := by decide +kernel
theorem dX0_placesFor_32 : decode cX0_placesFor 32 = .ok (.iload_n 2, 1) := by decide +kernel
theorem dX0_placesFor_33 : decode cX0_placesFor 33 = .ok (.aload_n 0, 1) := by decide +kernel
theorem dX0_placesFor_34 : decode cX0_placesFor 34 = .ok (.getfield 13, 3) := by decide +kernel
theorem dX0_placesFor_37 : decode cX0_placesFor 37 = .ok (.iload 5, 2) := by decide +kernel
theorem dX0_placesFor_39 : decode cX0_placesFor 39 = .ok (.baload, 1) := by decide +kernel
theorem dX0_placesFor_40 : decode cX0_placesFor 40 = .ok (.iload_n 1, 1) := by decide +kernel
theorem dX0_placesFor_41 : decode cX0_placesFor 41 = .ok (.ishr, 1) := by decide +kernel
theorem dX0_placesFor_42 : decode cX0_placesFor 42 = .ok (.iconst 1, 1) := by decide +kernel
theorem dX0_placesFor_43 : decode cX0_placesFor 43 = .ok (.iand, 1) := by decide +kernel
theorem dX0_placesFor_44 : decode cX0_placesFor 44 = .ok (.iload 5, 2) := by decide +kernel
theorem dX0_placesFor_46 : decode cX0_placesFor 46 = .ok (.ishl, 1) := by decide +kernel
theorem dX0_placesFor_47 : decode cX0_placesFor 47 = .ok (.ior, 1) := by decide +kernel
theorem dX0_placesFor_48 : decode cX0_placesFor 48 = .ok (.istore_n 2, 1) := by decide +kernel
theorem dX0_placesFor_49 : decode cX0_placesFor 49 = .ok (.iinc 4 1, 3) := by decide +kernel
theorem dX0_placesFor_52 : decode cX0_placesFor 52 = .ok (.goto (-40), 3) := by decide +kernel
theorem dX0_placesFor_55 : decode cX0_placesFor 55 = .ok (.iinc 3 1, 3) := by decide +kernel
theorem dX0_placesFor_58 : decode cX0_placesFor 58 = .ok (.goto (-54), 3) := by decide +kernel
theorem dX0_placesFor_61 : decode cX0_placesFor 61 = .ok (.iload_n 2, 1) := by decide +kernel
theorem dX0_placesFor_62 : decode cX0_placesFor 62 = .ok (.ireturn, 1) := by decide +kernel
theorem dX0_pass_0 : decode cX0_pass 0 = .ok (.iconst 0, 1) := by decide +kernel
theorem dX0_pass_1 : decode cX0_pass 1 = .ok (.istore_n 3, 1) := by decide +kernel
theorem dX0_pass_2 : decode cX0_pass 2 = .ok (.iload_n 3, 1) := by decide +kernel
theorem dX0_pass_3 : decode cX0_pass 3 = .ok (.bipush 24, 2) := by decide +kernel
theorem dX0_pass_5 : decode cX0_pass 5 = .ok (.if_icmp .ge 71, 3) := by decide +kernel
theorem dX0_pass_8 : decode cX0_pass 8 = .ok (.iload_n 2, 1) := by decide +kernel
theorem dX0_pass_9 : decode cX0_pass 9 = .ok (.iload_n 3, 1) := by decide +kernel
theorem dX0_pass_10 : decode cX0_pass 10 = .ok (.ishr, 1) := by decide +kernel
theorem dX0_pass_11 : decode cX0_pass 11 = .ok (.iconst 1, 1) := by decide +kernel
theorem dX0_pass_12 : decode cX0_pass 12 = .ok (.iand, 1) := by decide +kernel
theorem dX0_pass_13 : decode cX0_pass 13 = .ok (.ifCond .eq 57, 3) := by decide +kernel
theorem dX0_pass_16 : decode cX0_pass 16 = .ok (.aload_n 0, 1) := by decide +kernel
theorem dX0_pass_17 : decode cX0_pass 17 = .ok (.getfield 26, 3) := by decide +kernel
theorem dX0_pass_20 : decode cX0_pass 20 = .ok (.iload_n 1, 1) := by decide +kernel
theorem dX0_pass_21 : decode cX0_pass 21 = .ok (.baload, 1) := by decide +kernel
theorem dX0_pass_22 : decode cX0_pass 22 = .ok (.aload_n 0, 1) := by decide +kernel
theorem dX0_pass_23 : decode cX0_pass 23 = .ok (.getfield 32, 3) := by decide +kernel
theorem dX0_pass_26 : decode cX0_pass 26 = .ok (.iload_n 3, 1) := by decide +kernel
theorem dX0_pass_27 : decode cX0_pass 27 = .ok (.baload, 1) := by decide +kernel
theorem dX0_pass_28 : decode cX0_pass 28 = .ok (.if_icmp .ge 15, 3) := by decide +kernel
theorem dX0_pass_31 : decode cX0_pass 31 = .ok (.aload_n 0, 1) := by decide +kernel
theorem dX0_pass_32 : decode cX0_pass 32 = .ok (.getfield 32, 3) := by decide +kernel
theorem dX0_pass_35 : decode cX0_pass 35 = .ok (.iload_n 3, 1) := by decide +kernel
theorem dX0_pass_36 : decode cX0_pass 36 = .ok (.aload_n 0, 1) := by decide +kernel
theorem dX0_pass_37 : decode cX0_pass 37 = .ok (.getfield 26, 3) := by decide +kernel
theorem dX0_pass_40 : decode cX0_pass 40 = .ok (.iload_n 1, 1) := by decide +kernel
theorem dX0_pass_41 : decode cX0_pass 41 = .ok (.baload, 1) := by decide +kernel
theorem dX0_pass_42 : decode cX0_pass 42 = .ok (.bastore, 1) := by decide +kernel
theorem dX0_pass_43 : decode cX0_pass 43 = .ok (.aload_n 0, 1) := by decide +kernel
theorem dX0_pass_44 : decode cX0_pass 44 = .ok (.getfield 29, 3) := by decide +kernel
theorem dX0_pass_47 : decode cX0_pass 47 = .ok (.iload_n 1, 1) := by decide +kernel
theorem dX0_pass_48 : decode cX0_pass 48 = .ok (.baload, 1) := by decide +kernel
theorem dX0_pass_49 : decode cX0_pass 49 = .ok (.aload_n 0, 1) := by decide +kernel
theorem dX0_pass_50 : decode cX0_pass 50 = .ok (.getfield 35, 3) := by decide +kernel
theorem dX0_pass_53 : decode cX0_pass 53 = .ok (.iload_n 3, 1) := by decide +kernel
theorem dX0_pass_54 : decode cX0_pass 54 = .ok (.baload, 1) := by decide +kernel
theorem dX0_pass_55 : decode cX0_pass 55 = .ok (.if_icmp .le 15, 3) := by decide +kernel
theorem dX0_pass_58 : decode cX0_pass 58 = .ok (.aload_n 0, 1) := by decide +kernel
theorem dX0_pass_59 : decode cX0_pass 59 = .ok (.getfield 35, 3) := by decide +kernel
theorem dX0_pass_62 : decode cX0_pass 62 = .ok (.iload_n 3, 1) := by decide +kernel
theorem dX0_pass_63 : decode cX0_pass 63 = .ok (.aload_n 0, 1) := by decide +kernel
theorem dX0_pass_64 : decode cX0_pass 64 = .ok (.getfield 29, 3) := by decide +kernel
theorem dX0_pass_67 : decode cX0_pass 67 = .ok (.iload_n 1, 1) := by decide +kernel
theorem dX0_pass_68 : decode cX0_pass 68 = .ok (.baload, 1) := by decide +kernel
theorem dX0_pass_69 : decode cX0_pass 69 = .ok (.bastore, 1) := by decide +kernel
theorem dX0_pass_70 : decode cX0_pass 70 = .ok (.iinc 3 1, 3) := by decide +kernel
theorem dX0_pass_73 : decode cX0_pass 73 = .ok (.goto (-71), 3) := by decide +kernel
theorem dX0_pass_76 : decode cX0_pass 76 = .ok (.return_, 1) := by decide +kernel
theorem dX0_note_0 : decode cX0_note 0 = .ok (.iconst 0, 1) := by decide +kernel
theorem dX0_note_1 : decode cX0_note 1 = .ok (.istore_n 2, 1) := by decide +kernel
theorem dX0_note_2 : decode cX0_note 2 = .ok (.iload_n 2, 1) := by decide +kernel
theorem dX0_note_3 : decode cX0_note 3 = .ok (.iconst 4, 1) := by decide +kernel
theorem dX0_note_4 : decode cX0_note 4 = .ok (.if_icmp .ge 144, 3) := by decide +kernel
theorem dX0_note_7 : decode cX0_note 7 = .ok (.bipush 60, 2) := by decide +kernel
theorem dX0_note_9 : decode cX0_note 9 = .ok (.istore_n 3, 1) := by decide +kernel
theorem dX0_note_10 : decode cX0_note 10 = .ok (.iconst (-1), 1) := by decide +kernel
theorem dX0_note_11 : decode cX0_note 11 = .ok (.istore 4, 2) := by decide +kernel
theorem dX0_note_13 : decode cX0_note 13 = .ok (.iconst 0, 1) := by decide +kernel
theorem dX0_note_14 : decode cX0_note 14 = .ok (.istore 5, 2) := by decide +kernel
theorem dX0_note_16 : decode cX0_note 16 = .ok (.iload 5, 2) := by decide +kernel
theorem dX0_note_18 : decode cX0_note 18 = .ok (.aload_n 0, 1) := by decide +kernel
theorem dX0_note_19 : decode cX0_note 19 = .ok (.getfield 7, 3) := by decide +kernel
theorem dX0_note_22 : decode cX0_note 22 = .ok (.iload_n 2, 1) := by decide +kernel
theorem dX0_note_23 : decode cX0_note 23 = .ok (.baload, 1) := by decide +kernel
theorem dX0_note_24 : decode cX0_note 24 = .ok (.if_icmp .ge 84, 3) := by decide +kernel
theorem dX0_note_27 : decode cX0_note 27 = .ok (.iload_n 2, 1) := by decide +kernel
theorem dX0_note_28 : decode cX0_note 28 = .ok (.bipush 6, 2) := by decide +kernel
theorem dX0_note_30 : decode cX0_note 30 = .ok (.imul, 1) := by decide +kernel
theorem dX0_note_31 : decode cX0_note 31 = .ok (.iload 5, 2) := by decide +kernel
theorem dX0_note_33 : decode cX0_note 33 = .ok (.iadd, 1) := by decide +kernel
theorem dX0_note_34 : decode cX0_note 34 = .ok (.istore 6, 2) := by decide +kernel
theorem dX0_note_36 : decode cX0_note 36 = .ok (.aload_n 0, 1) := by decide +kernel
theorem dX0_note_37 : decode cX0_note 37 = .ok (.getfield 62, 3) := by decide +kernel
theorem dX0_note_40 : decode cX0_note 40 = .ok (.aload_n 0, 1) := by decide +kernel
theorem dX0_note_41 : decode cX0_note 41 = .ok (.getfield 68, 3) := by decide +kernel
theorem dX0_note_44 : decode cX0_note 44 = .ok (.iand, 1) := by decide +kernel
theorem dX0_note_45 : decode cX0_note 45 = .ok (.iload 6, 2) := by decide +kernel
theorem dX0_note_47 : decode cX0_note 47 = .ok (.ishr, 1) := by decide +kernel
theorem dX0_note_48 : decode cX0_note 48 = .ok (.iconst 1, 1) := by decide +kernel
theorem dX0_note_49 : decode cX0_note 49 = .ok (.iand, 1) := by decide +kernel
theorem dX0_note_50 : decode cX0_note 50 = .ok (.ifCond .eq 52, 3) := by decide +kernel
theorem dX0_note_53 : decode cX0_note 53 = .ok (.aload_n 0, 1) := by decide +kernel
theorem dX0_note_54 : decode cX0_note 54 = .ok (.getfield 26, 3) := by decide +kernel
theorem dX0_note_57 : decode cX0_note 57 = .ok (.iload 6, 2) := by decide +kernel
theorem dX0_note_59 : decode cX0_note 59 = .ok (.baload, 1) := by decide +kernel
theorem dX0_note_60 : decode cX0_note 60 = .ok (.iload_n 3, 1) := by decide +kernel
theorem dX0_note_61 : decode cX0_note 61 = .ok (.if_icmp .ge 13, 3) := by decide +kernel
theorem dX0_note_64 : decode cX0_note 64 = .ok (.aload_n 0, 1) := by decide +kernel
theorem dX0_note_65 : decode cX0_note 65 = .ok (.getfield 26, 3) := by decide +kernel
theorem dX0_note_68 : decode cX0_note 68 = .ok (.iload 6, 2) := by decide +kernel
end
section
set_option maxRecDepth 100000
theorem dX0_note_70 : decode cX0_note 70 = .ok (.baload, 1) := by decide +kernel
theorem dX0_note_71 : decode cX0_note 71 = .ok (.goto 4, 3) := by decide +kernel
theorem dX0_note_74 : decode cX0_note 74 = .ok (.iload_n 3, 1) := by decide +kernel
theorem dX0_note_75 : decode cX0_note 75 = .ok (.istore_n 3, 1) := by decide +kernel
theorem dX0_note_76 : decode cX0_note 76 = .ok (.aload_n 0, 1) := by decide +kernel
theorem dX0_note_77 : decode cX0_note 77 = .ok (.getfield 29, 3) := by decide +kernel
theorem dX0_note_80 : decode cX0_note 80 = .ok (.iload 6, 2) := by decide +kernel
theorem dX0_note_82 : decode cX0_note 82 = .ok (.baload, 1) := by decide +kernel
theorem dX0_note_83 : decode cX0_note 83 = .ok (.iload 4, 2) := by decide +kernel
theorem dX0_note_85 : decode cX0_note 85 = .ok (.if_icmp .le 13, 3) := by decide +kernel
theorem dX0_note_88 : decode cX0_note 88 = .ok (.aload_n 0, 1) := by decide +kernel
theorem dX0_note_89 : decode cX0_note 89 = .ok (.getfield 29, 3) := by decide +kernel
theorem dX0_note_92 : decode cX0_note 92 = .ok (.iload 6, 2) := by decide +kernel
theorem dX0_note_94 : decode cX0_note 94 = .ok (.baload, 1) := by decide +kernel
theorem dX0_note_95 : decode cX0_note 95 = .ok (.goto 5, 3) := by decide +kernel
theorem dX0_note_98 : decode cX0_note 98 = .ok (.iload 4, 2) := by decide +kernel
theorem dX0_note_100 : decode cX0_note 100 = .ok (.istore 4, 2) := by decide +kernel
theorem dX0_note_102 : decode cX0_note 102 = .ok (.iinc 5 1, 3) := by decide +kernel
theorem dX0_note_105 : decode cX0_note 105 = .ok (.goto (-89), 3) := by decide +kernel
theorem dX0_note_108 : decode cX0_note 108 = .ok (.aload_n 0, 1) := by decide +kernel
theorem dX0_note_109 : decode cX0_note 109 = .ok (.getfield 38, 3) := by decide +kernel
theorem dX0_note_112 : decode cX0_note 112 = .ok (.iload_n 1, 1) := by decide +kernel
theorem dX0_note_113 : decode cX0_note 113 = .ok (.iconst 4, 1) := by decide +kernel
theorem dX0_note_114 : decode cX0_note 114 = .ok (.imul, 1) := by decide +kernel
theorem dX0_note_115 : decode cX0_note 115 = .ok (.iload_n 2, 1) := by decide +kernel
theorem dX0_note_116 : decode cX0_note 116 = .ok (.iadd, 1) := by decide +kernel
theorem dX0_note_117 : decode cX0_note 117 = .ok (.iload 4, 2) := by decide +kernel
theorem dX0_note_119 : decode cX0_note 119 = .ok (.ifCond .ge 7, 3) := by decide +kernel
theorem dX0_note_122 : decode cX0_note 122 = .ok (.iconst (-1), 1) := by decide +kernel
theorem dX0_note_123 : decode cX0_note 123 = .ok (.goto 4, 3) := by decide +kernel
theorem dX0_note_126 : decode cX0_note 126 = .ok (.iload_n 3, 1) := by decide +kernel
theorem dX0_note_127 : decode cX0_note 127 = .ok (.i2b, 1) := by decide +kernel
theorem dX0_note_128 : decode cX0_note 128 = .ok (.bastore, 1) := by decide +kernel
theorem dX0_note_129 : decode cX0_note 129 = .ok (.aload_n 0, 1) := by decide +kernel
theorem dX0_note_130 : decode cX0_note 130 = .ok (.getfield 41, 3) := by decide +kernel
theorem dX0_note_133 : decode cX0_note 133 = .ok (.iload_n 1, 1) := by decide +kernel
theorem dX0_note_134 : decode cX0_note 134 = .ok (.iconst 4, 1) := by decide +kernel
theorem dX0_note_135 : decode cX0_note 135 = .ok (.imul, 1) := by decide +kernel
theorem dX0_note_136 : decode cX0_note 136 = .ok (.iload_n 2, 1) := by decide +kernel
theorem dX0_note_137 : decode cX0_note 137 = .ok (.iadd, 1) := by decide +kernel
theorem dX0_note_138 : decode cX0_note 138 = .ok (.iload 4, 2) := by decide +kernel
theorem dX0_note_140 : decode cX0_note 140 = .ok (.i2b, 1) := by decide +kernel
theorem dX0_note_141 : decode cX0_note 141 = .ok (.bastore, 1) := by decide +kernel
theorem dX0_note_142 : decode cX0_note 142 = .ok (.iinc 2 1, 3) := by decide +kernel
theorem dX0_note_145 : decode cX0_note 145 = .ok (.goto (-143), 3) := by decide +kernel
theorem dX0_note_148 : decode cX0_note 148 = .ok (.return_, 1) := by decide +kernel
theorem dX0_reset_0 : decode cX0_reset 0 = .ok (.aload_n 0, 1) := by decide +kernel
theorem dX0_reset_1 : decode cX0_reset 1 = .ok (.iconst 0, 1) := by decide +kernel
theorem dX0_reset_2 : decode cX0_reset 2 = .ok (.putfield 89, 3) := by decide +kernel
theorem dX0_reset_5 : decode cX0_reset 5 = .ok (.aload_n 0, 1) := by decide +kernel
theorem dX0_reset_6 : decode cX0_reset 6 = .ok (.invokevirtual 55, 3) := by decide +kernel
theorem dX0_reset_9 : decode cX0_reset 9 = .ok (.return_, 1) := by decide +kernel
theorem dX0_taken_0 : decode cX0_taken 0 = .ok (.aload_n 0, 1) := by decide +kernel
theorem dX0_taken_1 : decode cX0_taken 1 = .ok (.getfield 89, 3) := by decide +kernel
theorem dX0_taken_4 : decode cX0_taken 4 = .ok (.ireturn, 1) := by decide +kernel
theorem dX0_ends_0 : decode cX0_ends 0 = .ok (.iload_n 1, 1) := by decide +kernel
theorem dX0_ends_1 : decode cX0_ends 1 = .ok (.invokestatic 44, 3) := by decide +kernel
theorem dX0_ends_4 : decode cX0_ends 4 = .ok (.ifCond .ne 5, 3) := by decide +kernel
theorem dX0_ends_7 : decode cX0_ends 7 = .ok (.iconst 0, 1) := by decide +kernel
theorem dX0_ends_8 : decode cX0_ends 8 = .ok (.ireturn, 1) := by decide +kernel
theorem dX0_ends_9 : decode cX0_ends 9 = .ok (.aload_n 0, 1) := by decide +kernel
theorem dX0_ends_10 : decode cX0_ends 10 = .ok (.invokevirtual 115, 3) := by decide +kernel
theorem dX0_ends_13 : decode cX0_ends 13 = .ok (.iconst 0, 1) := by decide +kernel
theorem dX0_ends_14 : decode cX0_ends 14 = .ok (.istore_n 2, 1) := by decide +kernel
theorem dX0_ends_15 : decode cX0_ends 15 = .ok (.iconst 0, 1) := by decide +kernel
theorem dX0_ends_16 : decode cX0_ends 16 = .ok (.istore_n 3, 1) := by decide +kernel
theorem dX0_ends_17 : decode cX0_ends 17 = .ok (.iload_n 3, 1) := by decide +kernel
theorem dX0_ends_18 : decode cX0_ends 18 = .ok (.aload_n 0, 1) := by decide +kernel
theorem dX0_ends_19 : decode cX0_ends 19 = .ok (.getfield 89, 3) := by decide +kernel
theorem dX0_ends_22 : decode cX0_ends 22 = .ok (.if_icmp .ge 30, 3) := by decide +kernel
theorem dX0_ends_25 : decode cX0_ends 25 = .ok (.iload_n 2, 1) := by decide +kernel
theorem dX0_ends_26 : decode cX0_ends 26 = .ok (.aload_n 0, 1) := by decide +kernel
theorem dX0_ends_27 : decode cX0_ends 27 = .ok (.getfield 41, 3) := by decide +kernel
theorem dX0_ends_30 : decode cX0_ends 30 = .ok (.iload_n 3, 1) := by decide +kernel
theorem dX0_ends_31 : decode cX0_ends 31 = .ok (.iconst 4, 1) := by decide +kernel
theorem dX0_ends_32 : decode cX0_ends 32 = .ok (.imul, 1) := by decide +kernel
theorem dX0_ends_33 : decode cX0_ends 33 = .ok (.iload_n 1, 1) := by decide +kernel
theorem dX0_ends_34 : decode cX0_ends 34 = .ok (.iadd, 1) := by decide +kernel
theorem dX0_ends_35 : decode cX0_ends 35 = .ok (.baload, 1) := by decide +kernel
theorem dX0_ends_36 : decode cX0_ends 36 = .ok (.ifCond .lt 7, 3) := by decide +kernel
theorem dX0_ends_39 : decode cX0_ends 39 = .ok (.iconst 1, 1) := by decide +kernel
theorem dX0_ends_40 : decode cX0_ends 40 = .ok (.goto 4, 3) := by decide +kernel
theorem dX0_ends_43 : decode cX0_ends 43 = .ok (.iconst 0, 1) := by decide +kernel
theorem dX0_ends_44 : decode cX0_ends 44 = .ok (.iadd, 1) := by decide +kernel
theorem dX0_ends_45 : decode cX0_ends 45 = .ok (.istore_n 2, 1) := by decide +kernel
theorem dX0_ends_46 : decode cX0_ends 46 = .ok (.iinc 3 1, 3) := by decide +kernel
theorem dX0_ends_49 : decode cX0_ends 49 = .ok (.goto (-32), 3) := by decide +kernel
theorem dX0_ends_52 : decode cX0_ends 52 = .ok (.iload_n 2, 1) := by decide +kernel
theorem dX0_ends_53 : decode cX0_ends 53 = .ok (.ireturn, 1) := by decide +kernel
theorem dX0_firstEnd_0 : decode cX0_firstEnd 0 = .ok (.iload_n 1, 1) := by decide +kernel
theorem dX0_firstEnd_1 : decode cX0_firstEnd 1 = .ok (.invokestatic 44, 3) := by decide +kernel
theorem dX0_firstEnd_4 : decode cX0_firstEnd 4 = .ok (.ifCond .ne 5, 3) := by decide +kernel
theorem dX0_firstEnd_7 : decode cX0_firstEnd 7 = .ok (.iconst (-1), 1) := by decide +kernel
theorem dX0_firstEnd_8 : decode cX0_firstEnd 8 = .ok (.ireturn, 1) := by decide +kernel
theorem dX0_firstEnd_9 : decode cX0_firstEnd 9 = .ok (.aload_n 0, 1) := by decide +kernel
theorem dX0_firstEnd_10 : decode cX0_firstEnd 10 = .ok (.invokevirtual 115, 3) := by decide +kernel
theorem dX0_firstEnd_13 : decode cX0_firstEnd 13 = .ok (.iconst 0, 1) := by decide +kernel
theorem dX0_firstEnd_14 : decode cX0_firstEnd 14 = .ok (.istore_n 2, 1) := by decide +kernel
theorem dX0_firstEnd_15 : decode cX0_firstEnd 15 = .ok (.iload_n 2, 1) := by decide +kernel
theorem dX0_firstEnd_16 : decode cX0_firstEnd 16 = .ok (.aload_n 0, 1) := by decide +kernel
theorem dX0_firstEnd_17 : decode cX0_firstEnd 17 = .ok (.getfield 89, 3) := by decide +kernel
theorem dX0_firstEnd_20 : decode cX0_firstEnd 20 = .ok (.if_icmp .ge 24, 3) := by decide +kernel
theorem dX0_firstEnd_23 : decode cX0_firstEnd 23 = .ok (.aload_n 0, 1) := by decide +kernel
theorem dX0_firstEnd_24 : decode cX0_firstEnd 24 = .ok (.getfield 41, 3) := by decide +kernel
theorem dX0_firstEnd_27 : decode cX0_firstEnd 27 = .ok (.iload_n 2, 1) := by decide +kernel
theorem dX0_firstEnd_28 : decode cX0_firstEnd 28 = .ok (.iconst 4, 1) := by decide +kernel
theorem dX0_firstEnd_29 : decode cX0_firstEnd 29 = .ok (.imul, 1) := by decide +kernel
theorem dX0_firstEnd_30 : decode cX0_firstEnd 30 = .ok (.iload_n 1, 1) := by decide +kernel
theorem dX0_firstEnd_31 : decode cX0_firstEnd 31 = .ok (.iadd, 1) := by decide +kernel
theorem dX0_firstEnd_32 : decode cX0_firstEnd 32 = .ok (.baload, 1) := by decide +kernel
theorem dX0_firstEnd_33 : decode cX0_firstEnd 33 = .ok (.ifCond .lt 5, 3) := by decide +kernel
theorem dX0_firstEnd_36 : decode cX0_firstEnd 36 = .ok (.iload_n 2, 1) := by decide +kernel
theorem dX0_firstEnd_37 : decode cX0_firstEnd 37 = .ok (.ireturn, 1) := by decide +kernel
theorem dX0_firstEnd_38 : decode cX0_firstEnd 38 = .ok (.iinc 2 1, 3) := by decide +kernel
theorem dX0_firstEnd_41 : decode cX0_firstEnd 41 = .ok (.goto (-26), 3) := by decide +kernel
theorem dX0_firstEnd_44 : decode cX0_firstEnd 44 = .ok (.iconst (-1), 1) := by decide +kernel
theorem dX0_firstEnd_45 : decode cX0_firstEnd 45 = .ok (.ireturn, 1) := by decide +kernel
theorem dX0_earliest_0 : decode cX0_earliest 0 = .ok (.iload_n 1, 1) := by decide +kernel
theorem dX0_earliest_1 : decode cX0_earliest 1 = .ok (.invokestatic 44, 3) := by decide +kernel
theorem dX0_earliest_4 : decode cX0_earliest 4 = .ok (.ifCond .eq 11, 3) := by decide +kernel
theorem dX0_earliest_7 : decode cX0_earliest 7 = .ok (.aload_n 0, 1) := by decide +kernel
theorem dX0_earliest_8 : decode cX0_earliest 8 = .ok (.iload_n 2, 1) := by decide +kernel
theorem dX0_earliest_9 : decode cX0_earliest 9 = .ok (.invokevirtual 112, 3) := by decide +kernel
theorem dX0_earliest_12 : decode cX0_earliest 12 = .ok (.ifCond .ne 5, 3) := by decide +kernel
theorem dX0_earliest_15 : decode cX0_earliest 15 = .ok (.iconst (-1), 1) := by decide +kernel
theorem dX0_earliest_16 : decode cX0_earliest 16 = .ok (.ireturn, 1) := by decide +kernel
theorem dX0_earliest_17 : decode cX0_earliest 17 = .ok (.aload_n 0, 1) := by decide +kernel
theorem dX0_earliest_18 : decode cX0_earliest 18 = .ok (.invokevirtual 115, 3) := by decide +kernel
theorem dX0_earliest_21 : decode cX0_earliest 21 = .ok (.aload_n 0, 1) := by decide +kernel
theorem dX0_earliest_22 : decode cX0_earliest 22 = .ok (.getfield 38, 3) := by decide +kernel
theorem dX0_earliest_25 : decode cX0_earliest 25 = .ok (.iload_n 2, 1) := by decide +kernel
theorem dX0_earliest_26 : decode cX0_earliest 26 = .ok (.iconst 4, 1) := by decide +kernel
theorem dX0_earliest_27 : decode cX0_earliest 27 = .ok (.imul, 1) := by decide +kernel
theorem dX0_earliest_28 : decode cX0_earliest 28 = .ok (.iload_n 1, 1) := by decide +kernel
theorem dX0_earliest_29 : decode cX0_earliest 29 = .ok (.iadd, 1) := by decide +kernel
theorem dX0_earliest_30 : decode cX0_earliest 30 = .ok (.baload, 1) := by decide +kernel
theorem dX0_earliest_31 : decode cX0_earliest 31 = .ok (.ireturn, 1) := by decide +kernel
theorem dX0_latest_0 : decode cX0_latest 0 = .ok (.iload_n 1, 1) := by decide +kernel
theorem dX0_latest_1 : decode cX0_latest 1 = .ok (.invokestatic 44, 3) := by decide +kernel
theorem dX0_latest_4 : decode cX0_latest 4 = .ok (.ifCond .eq 11, 3) := by decide +kernel
theorem dX0_latest_7 : decode cX0_latest 7 = .ok (.aload_n 0, 1) := by decide +kernel
theorem dX0_latest_8 : decode cX0_latest 8 = .ok (.iload_n 2, 1) := by decide +kernel
theorem dX0_latest_9 : decode cX0_latest 9 = .ok (.invokevirtual 112, 3) := by decide +kernel
theorem dX0_latest_12 : decode cX0_latest 12 = .ok (.ifCond .ne 5, 3) := by decide +kernel
theorem dX0_latest_15 : decode cX0_latest 15 = .ok (.iconst (-1), 1) := by decide +kernel
theorem dX0_latest_16 : decode cX0_latest 16 = .ok (.ireturn, 1) := by decide +kernel
theorem dX0_latest_17 : decode cX0_latest 17 = .ok (.aload_n 0, 1) := by decide +kernel
theorem dX0_latest_18 : decode cX0_latest 18 = .ok (.invokevirtual 115, 3) := by decide +kernel
theorem dX0_latest_21 : decode cX0_latest 21 = .ok (.aload_n 0, 1) := by decide +kernel
theorem dX0_latest_22 : decode cX0_latest 22 = .ok (.getfield 41, 3) := by decide +kernel
theorem dX0_latest_25 : decode cX0_latest 25 = .ok (.iload_n 2, 1) := by decide +kernel
theorem dX0_latest_26 : decode cX0_latest 26 = .ok (.iconst 4, 1) := by decide +kernel
theorem dX0_latest_27 : decode cX0_latest 27 = .ok (.imul, 1) := by decide +kernel
theorem dX0_latest_28 : decode cX0_latest 28 = .ok (.iload_n 1, 1) := by decide +kernel
theorem dX0_latest_29 : decode cX0_latest 29 = .ok (.iadd, 1) := by decide +kernel
theorem dX0_latest_30 : decode cX0_latest 30 = .ok (.baload, 1) := by decide +kernel
theorem dX0_latest_31 : decode cX0_latest 31 = .ok (.ireturn, 1) := by decide +kernel
theorem dX0_longest_0 : decode cX0_longest 0 = .ok (.iconst 0, 1) := by decide +kernel
theorem dX0_longest_1 : decode cX0_longest 1 = .ok (.istore_n 2, 1) := by decide +kernel
theorem dX0_longest_2 : decode cX0_longest 2 = .ok (.iconst 0, 1) := by decide +kernel
theorem dX0_longest_3 : decode cX0_longest 3 = .ok (.istore_n 3, 1) := by decide +kernel
theorem dX0_longest_4 : decode cX0_longest 4 = .ok (.iload_n 3, 1) := by decide +kernel
theorem dX0_longest_5 : decode cX0_longest 5 = .ok (.aload_n 0, 1) := by decide +kernel
theorem dX0_longest_6 : decode cX0_longest 6 = .ok (.getfield 89, 3) := by decide +kernel
theorem dX0_longest_9 : decode cX0_longest 9 = .ok (.if_icmp .ge 39, 3) := by decide +kernel
theorem dX0_longest_12 : decode cX0_longest 12 = .ok (.aload_n 0, 1) := by decide +kernel
theorem dX0_longest_13 : decode cX0_longest 13 = .ok (.iload_n 1, 1) := by decide +kernel
theorem dX0_longest_14 : decode cX0_longest 14 = .ok (.iload_n 3, 1) := by decide +kernel
theorem dX0_longest_15 : decode cX0_longest 15 = .ok (.invokevirtual 118, 3) := by decide +kernel
theorem dX0_longest_18 : decode cX0_longest 18 = .ok (.istore 4, 2) := by decide +kernel
theorem dX0_longest_20 : decode cX0_longest 20 = .ok (.iload 4, 2) := by decide +kernel
theorem dX0_longest_22 : decode cX0_longest 22 = .ok (.ifCond .lt 20, 3) := by decide +kernel
theorem dX0_longest_25 : decode cX0_longest 25 = .ok (.iload_n 3, 1) := by decide +kernel
theorem dX0_longest_26 : decode cX0_longest 26 = .ok (.iconst 1, 1) := by decide +kernel
theorem dX0_longest_27 : decode cX0_longest 27 = .ok (.iadd, 1) := by decide +kernel
theorem dX0_longest_28 : decode cX0_longest 28 = .ok (.iload 4, 2) := by decide +kernel
theorem dX0_longest_30 : decode cX0_longest 30 = .ok (.isub, 1) := by decide +kernel
theorem dX0_longest_31 : decode cX0_longest 31 = .ok (.iload_n 2, 1) := by decide +kernel
theorem dX0_longest_32 : decode cX0_longest 32 = .ok (.if_icmp .le 10, 3) := by decide +kernel
theorem dX0_longest_35 : decode cX0_longest 35 = .ok (.iload_n 3, 1) := by decide +kernel
theorem dX0_longest_36 : decode cX0_longest 36 = .ok (.iconst 1, 1) := by decide +kernel
theorem dX0_longest_37 : decode cX0_longest 37 = .ok (.iadd, 1) := by decide +kernel
theorem dX0_longest_38 : decode cX0_longest 38 = .ok (.iload 4, 2) := by decide +kernel
theorem dX0_longest_40 : decode cX0_longest 40 = .ok (.isub, 1) := by decide +kernel
theorem dX0_longest_41 : decode cX0_longest 41 = .ok (.istore_n 2, 1) := by decide +kernel
theorem dX0_longest_42 : decode cX0_longest 42 = .ok (.iinc 3 1, 3) := by decide +kernel
theorem dX0_longest_45 : decode cX0_longest 45 = .ok (.goto (-41), 3) := by decide +kernel
theorem dX0_longest_48 : decode cX0_longest 48 = .ok (.iload_n 2, 1) := by decide +kernel
theorem dX0_longest_49 : decode cX0_longest 49 = .ok (.ireturn, 1) := by decide +kernel
theorem dX0_completing_0 : decode cX0_completing 0 = .ok (.iload_n 1, 1) := by decide +kernel
theorem dX0_completing_1 : decode cX0_completing 1 = .ok (.invokestatic 44, 3) := by decide +kernel
theorem dX0_completing_4 : decode cX0_completing 4 = .ok (.ifCond .ne 5, 3) := by decide +kernel
theorem dX0_completing_7 : decode cX0_completing 7 = .ok (.iconst 0, 1) := by decide +kernel
theorem dX0_completing_8 : decode cX0_completing 8 = .ok (.ireturn, 1) := by decide +kernel
theorem dX0_completing_9 : decode cX0_completing 9 = .ok (.aload_n 0, 1) := by decide +kernel
theorem dX0_completing_10 : decode cX0_completing 10 = .ok (.invokevirtual 115, 3) := by decide +kernel
theorem dX0_completing_13 : decode cX0_completing 13 = .ok (.bipush 63, 2) := by decide +kernel
theorem dX0_completing_15 : decode cX0_completing 15 = .ok (.iload_n 1, 1) := by decide +kernel
theorem dX0_completing_16 : decode cX0_completing 16 = .ok (.bipush 6, 2) := by decide +kernel
theorem dX0_completing_18 : decode cX0_completing 18 = .ok (.imul, 1) := by decide +kernel
theorem dX0_completing_19 : decode cX0_completing 19 = .ok (.ishl, 1) := by decide +kernel
theorem dX0_completing_20 : decode cX0_completing 20 = .ok (.istore_n 2, 1) := by decide +kernel
theorem dX0_completing_21 : decode cX0_completing 21 = .ok (.iconst 0, 1) := by decide +kernel
theorem dX0_completing_22 : decode cX0_completing 22 = .ok (.istore_n 3, 1) := by decide +kernel
theorem dX0_completing_23 : decode cX0_completing 23 = .ok (.iconst 0, 1) := by decide +kernel
theorem dX0_completing_24 : decode cX0_completing 24 = .ok (.istore 4, 2) := by decide +kernel
theorem dX0_completing_26 : decode cX0_completing 26 = .ok (.iload 4, 2) := by decide +kernel
theorem dX0_completing_28 : decode cX0_completing 28 = .ok (.iconst 4, 1) := by decide +kernel
theorem dX0_completing_29 : decode cX0_completing 29 = .ok (.if_icmp .ge 40, 3) := by decide +kernel
theorem dX0_completing_32 : decode cX0_completing 32 = .ok (.aload_n 0, 1) := by decide +kernel
theorem dX0_completing_33 : decode cX0_completing 33 = .ok (.iload 4, 2) := by decide +kernel
theorem dX0_completing_35 : decode cX0_completing 35 = .ok (.invokevirtual 106, 3) := by decide +kernel
theorem dX0_completing_38 : decode cX0_completing 38 = .ok (.istore 5, 2) := by decide +kernel
theorem dX0_completing_40 : decode cX0_completing 40 = .ok (.iload_n 3, 1) := by decide +kernel
theorem dX0_completing_41 : decode cX0_completing 41 = .ok (.iload 5, 2) := by decide +kernel
theorem dX0_completing_43 : decode cX0_completing 43 = .ok (.aload_n 0, 1) := by decide +kernel
theorem dX0_completing_44 : decode cX0_completing 44 = .ok (.getfield 68, 3) := by decide +kernel
theorem dX0_completing_47 : decode cX0_completing 47 = .ok (.iand, 1) := by decide +kernel
theorem dX0_completing_48 : decode cX0_completing 48 = .ok (.iload_n 2, 1) := by decide +kernel
theorem dX0_completing_49 : decode cX0_completing 49 = .ok (.iand, 1) := by decide +kernel
theorem dX0_completing_50 : decode cX0_completing 50 = .ok (.ifCond .eq 10, 3) := by decide +kernel
theorem dX0_completing_53 : decode cX0_completing 53 = .ok (.iconst 1, 1) := by decide +kernel
theorem dX0_completing_54 : decode cX0_completing 54 = .ok (.iload 4, 2) := by decide +kernel
theorem dX0_completing_56 : decode cX0_completing 56 = .ok (.ishl, 1) := by decide +kernel
theorem dX0_completing_57 : decode cX0_completing 57 = .ok (.goto 4, 3) := by decide +kernel
theorem dX0_completing_60 : decode cX0_completing 60 = .ok (.iconst 0, 1) := by decide +kernel
theorem dX0_completing_61 : decode cX0_completing 61 = .ok (.ior, 1) := by decide +kernel
theorem dX0_completing_62 : decode cX0_completing 62 = .ok (.istore_n 3, 1) := by decide +kernel
theorem dX0_completing_63 : decode cX0_completing 63 = .ok (.iinc 4 1, 3) := by decide +kernel
theorem dX0_completing_66 : decode cX0_completing 66 = .ok (.goto (-40), 3) := by decide +kernel
theorem dX0_completing_69 : decode cX0_completing 69 = .ok (.iload_n 3, 1) := by decide +kernel
theorem dX0_completing_70 : decode cX0_completing 70 = .ok (.ireturn, 1) := by decide +kernel
theorem dX0_emptyFits_0 : decode cX0_emptyFits 0 = .ok (.iconst 0, 1) := by decide +kernel
theorem dX0_emptyFits_1 : decode cX0_emptyFits 1 = .ok (.istore_n 1, 1) := by decide +kernel
theorem dX0_emptyFits_2 : decode cX0_emptyFits 2 = .ok (.iconst 0, 1) := by decide +kernel
theorem dX0_emptyFits_3 : decode cX0_emptyFits 3 = .ok (.istore_n 2, 1) := by decide +kernel
theorem dX0_emptyFits_4 : decode cX0_emptyFits 4 = .ok (.iload_n 2, 1) := by decide +kernel
theorem dX0_emptyFits_5 : decode cX0_emptyFits 5 = .ok (.iconst 4, 1) := by decide +kernel
theorem dX0_emptyFits_6 : decode cX0_emptyFits 6 = .ok (.if_icmp .ge 28, 3) := by decide +kernel
theorem dX0_emptyFits_9 : decode cX0_emptyFits 9 = .ok (.iload_n 1, 1) := by decide +kernel
theorem dX0_emptyFits_10 : decode cX0_emptyFits 10 = .ok (.aload_n 0, 1) := by decide +kernel
theorem dX0_emptyFits_11 : decode cX0_emptyFits 11 = .ok (.iload_n 2, 1) := by decide +kernel
theorem dX0_emptyFits_12 : decode cX0_emptyFits 12 = .ok (.iconst 0, 1) := by decide +kernel
theorem dX0_emptyFits_13 : decode cX0_emptyFits 13 = .ok (.invokevirtual 78, 3) := by decide +kernel
theorem dX0_emptyFits_16 : decode cX0_emptyFits 16 = .ok (.ifCond .eq 9, 3) := by decide +kernel
theorem dX0_emptyFits_19 : decode cX0_emptyFits 19 = .ok (.iconst 1, 1) := by decide +kernel
theorem dX0_emptyFits_20 : decode cX0_emptyFits 20 = .ok (.iload_n 2, 1) := by decide +kernel
theorem dX0_emptyFits_21 : decode cX0_emptyFits 21 = .ok (.ishl, 1) := by decide +kernel
theorem dX0_emptyFits_22 : decode cX0_emptyFits 22 = .ok (.goto 4, 3) := by decide +kernel
theorem dX0_emptyFits_25 : decode cX0_emptyFits 25 = .ok (.iconst 0, 1) := by decide +kernel
theorem dX0_emptyFits_26 : decode cX0_emptyFits 26 = .ok (.ior, 1) := by decide +kernel
theorem dX0_emptyFits_27 : decode cX0_emptyFits 27 = .ok (.istore_n 1, 1) := by decide +kernel
theorem dX0_emptyFits_28 : decode cX0_emptyFits 28 = .ok (.iinc 2 1, 3) := by decide +kernel
theorem dX0_emptyFits_31 : decode cX0_emptyFits 31 = .ok (.goto (-27), 3) := by decide +kernel
theorem dX0_emptyFits_34 : decode cX0_emptyFits 34 = .ok (.iload_n 1, 1) := by decide +kernel
theorem dX0_emptyFits_35 : decode cX0_emptyFits 35 = .ok (.ireturn, 1) := by decide +kernel
end
section
set_option maxRecDepth 100000
theorem dX1_init_0 : decode cX1_init 0 = .ok (.aload_n 0, 1) := by decide +kernel
theorem dX1_init_1 : decode cX1_init 1 = .ok (.invokespecial 1, 3) := by decide +kernel
theorem dX1_init_4 : decode cX1_init 4 = .ok (.aload_n 0, 1) := by decide +kernel
theorem dX1_init_5 : decode cX1_init 5 = .ok (.iconst 4, 1) := by decide +kernel
theorem dX1_init_6 : decode cX1_init 6 = .ok (.newarray .int, 2) := by decide +kernel
theorem dX1_init_8 : decode cX1_init 8 = .ok (.putfield 7, 3) := by decide +kernel
theorem dX1_init_11 : decode cX1_init 11 = .ok (.aload_n 0, 1) := by decide +kernel
theorem dX1_init_12 : decode cX1_init 12 = .ok (.bipush 24, 2) := by decide +kernel
theorem dX1_init_14 : decode cX1_init 14 = .ok (.newarray .int, 2) := by decide +kernel
theorem dX1_init_16 : decode cX1_init 16 = .ok (.putfield 13, 3) := by decide +kernel
theorem dX1_init_19 : decode cX1_init 19 = .ok (.aload_n 0, 1) := by decide +kernel
theorem dX1_init_20 : decode cX1_init 20 = .ok (.bipush 24, 2) := by decide +kernel
theorem dX1_init_22 : decode cX1_init 22 = .ok (.newarray .int, 2) := by decide +kernel
theorem dX1_init_24 : decode cX1_init 24 = .ok (.putfield 16, 3) := by decide +kernel
theorem dX1_init_27 : decode cX1_init 27 = .ok (.aload_n 0, 1) := by decide +kernel
theorem dX1_init_28 : decode cX1_init 28 = .ok (.bipush 61, 2) := by decide +kernel
theorem dX1_init_30 : decode cX1_init 30 = .ok (.newarray .int, 2) := by decide +kernel
theorem dX1_init_32 : decode cX1_init 32 = .ok (.putfield 19, 3) := by decide +kernel
theorem dX1_init_35 : decode cX1_init 35 = .ok (.aload_n 0, 1) := by decide +kernel
theorem dX1_init_36 : decode cX1_init 36 = .ok (.bipush 62, 2) := by decide +kernel
theorem dX1_init_38 : decode cX1_init 38 = .ok (.newarray .boolean, 2) := by decide +kernel
theorem dX1_init_40 : decode cX1_init 40 = .ok (.putfield 22, 3) := by decide +kernel
theorem dX1_init_43 : decode cX1_init 43 = .ok (.aload_n 0, 1) := by decide +kernel
theorem dX1_init_44 : decode cX1_init 44 = .ok (.bipush 62, 2) := by decide +kernel
theorem dX1_init_46 : decode cX1_init 46 = .ok (.newarray .boolean, 2) := by decide +kernel
theorem dX1_init_48 : decode cX1_init 48 = .ok (.putfield 26, 3) := by decide +kernel
theorem dX1_init_51 : decode cX1_init 51 = .ok (.return_, 1) := by decide +kernel
theorem dX1_item_0 : decode cX1_item 0 = .ok (.aload_n 0, 1) := by decide +kernel
theorem dX1_item_1 : decode cX1_item 1 = .ok (.iload_n 1, 1) := by decide +kernel
theorem dX1_item_2 : decode cX1_item 2 = .ok (.invokevirtual 29, 3) := by decide +kernel
theorem dX1_item_5 : decode cX1_item 5 = .ok (.ifCond .eq 23, 3) := by decide +kernel
theorem dX1_item_8 : decode cX1_item 8 = .ok (.iload_n 2, 1) := by decide +kernel
theorem dX1_item_9 : decode cX1_item 9 = .ok (.iconst 1, 1) := by decide +kernel
theorem dX1_item_10 : decode cX1_item 10 = .ok (.if_icmp .lt 18, 3) := by decide +kernel
theorem dX1_item_13 : decode cX1_item 13 = .ok (.iload_n 2, 1) := by decide +kernel
theorem dX1_item_14 : decode cX1_item 14 = .ok (.bipush 15, 2) := by decide +kernel
theorem dX1_item_16 : decode cX1_item 16 = .ok (.if_icmp .gt 12, 3) := by decide +kernel
theorem dX1_item_19 : decode cX1_item 19 = .ok (.iload_n 3, 1) := by decide +kernel
theorem dX1_item_20 : decode cX1_item 20 = .ok (.ifCond .lt 8, 3) := by decide +kernel
theorem dX1_item_23 : decode cX1_item 23 = .ok (.iload_n 3, 1) := by decide +kernel
theorem dX1_item_24 : decode cX1_item 24 = .ok (.iconst 3, 1) := by decide +kernel
theorem dX1_item_25 : decode cX1_item 25 = .ok (.if_icmp .le 5, 3) := by decide +kernel
theorem dX1_item_28 : decode cX1_item 28 = .ok (.iconst (-1), 1) := by decide +kernel
theorem dX1_item_29 : decode cX1_item 29 = .ok (.ireturn, 1) := by decide +kernel
theorem dX1_item_30 : decode cX1_item 30 = .ok (.aload_n 0, 1) := by decide +kernel
theorem dX1_item_31 : decode cX1_item 31 = .ok (.getfield 7, 3) := by decide +kernel
theorem dX1_item_34 : decode cX1_item 34 = .ok (.iload_n 1, 1) := by decide +kernel
theorem dX1_item_35 : decode cX1_item 35 = .ok (.iaload, 1) := by decide +kernel
theorem dX1_item_36 : decode cX1_item 36 = .ok (.bipush 6, 2) := by decide +kernel
theorem dX1_item_38 : decode cX1_item 38 = .ok (.if_icmp .lt 6, 3) := by decide +kernel
theorem dX1_item_41 : decode cX1_item 41 = .ok (.bipush (-2), 2) := by decide +kernel
theorem dX1_item_43 : decode cX1_item 43 = .ok (.ireturn, 1) := by decide +kernel
theorem dX1_item_44 : decode cX1_item 44 = .ok (.aload_n 0, 1) := by decide +kernel
theorem dX1_item_45 : decode cX1_item 45 = .ok (.getfield 13, 3) := by decide +kernel
theorem dX1_item_48 : decode cX1_item 48 = .ok (.bipush 6, 2) := by decide +kernel
theorem dX1_item_50 : decode cX1_item 50 = .ok (.iload_n 1, 1) := by decide +kernel
theorem dX1_item_51 : decode cX1_item 51 = .ok (.imul, 1) := by decide +kernel
theorem dX1_item_52 : decode cX1_item 52 = .ok (.aload_n 0, 1) := by decide +kernel
theorem dX1_item_53 : decode cX1_item 53 = .ok (.getfield 7, 3) := by decide +kernel
theorem dX1_item_56 : decode cX1_item 56 = .ok (.iload_n 1, 1) := by decide +kernel
theorem dX1_item_57 : decode cX1_item 57 = .ok (.iaload, 1) := by decide +kernel
theorem dX1_item_58 : decode cX1_item 58 = .ok (.iadd, 1) := by decide +kernel
theorem dX1_item_59 : decode cX1_item 59 = .ok (.iload_n 2, 1) := by decide +kernel
theorem dX1_item_60 : decode cX1_item 60 = .ok (.iastore, 1) := by decide +kernel
theorem dX1_item_61 : decode cX1_item 61 = .ok (.aload_n 0, 1) := by decide +kernel
theorem dX1_item_62 : decode cX1_item 62 = .ok (.getfield 16, 3) := by decide +kernel
theorem dX1_item_65 : decode cX1_item 65 = .ok (.bipush 6, 2) := by decide +kernel
theorem dX1_item_67 : decode cX1_item 67 = .ok (.iload_n 1, 1) := by decide +kernel
theorem dX1_item_68 : decode cX1_item 68 = .ok (.imul, 1) := by decide +kernel
theorem dX1_item_69 : decode cX1_item 69 = .ok (.aload_n 0, 1) := by decide +kernel
theorem dX1_item_70 : decode cX1_item 70 = .ok (.getfield 7, 3) := by decide +kernel
theorem dX1_item_73 : decode cX1_item 73 = .ok (.iload_n 1, 1) := by decide +kernel
theorem dX1_item_74 : decode cX1_item 74 = .ok (.iaload, 1) := by decide +kernel
theorem dX1_item_75 : decode cX1_item 75 = .ok (.iadd, 1) := by decide +kernel
theorem dX1_item_76 : decode cX1_item 76 = .ok (.iload_n 3, 1) := by decide +kernel
theorem dX1_item_77 : decode cX1_item 77 = .ok (.iastore, 1) := by decide +kernel
theorem dX1_item_78 : decode cX1_item 78 = .ok (.aload_n 0, 1) := by decide +kernel
theorem dX1_item_79 : decode cX1_item 79 = .ok (.getfield 7, 3) := by decide +kernel
theorem dX1_item_82 : decode cX1_item 82 = .ok (.iload_n 1, 1) := by decide +kernel
theorem dX1_item_83 : decode cX1_item 83 = .ok (.dup2, 1) := by decide +kernel
theorem dX1_item_84 : decode cX1_item 84 = .ok (.iaload, 1) := by decide +kernel
theorem dX1_item_85 : decode cX1_item 85 = .ok (.iconst 1, 1) := by decide +kernel
theorem dX1_item_86 : decode cX1_item 86 = .ok (.iadd, 1) := by decide +kernel
theorem dX1_item_87 : decode cX1_item 87 = .ok (.iastore, 1) := by decide +kernel
theorem dX1_item_88 : decode cX1_item 88 = .ok (.aload_n 0, 1) := by decide +kernel
theorem dX1_item_89 : decode cX1_item 89 = .ok (.getfield 7, 3) := by decide +kernel
theorem dX1_item_92 : decode cX1_item 92 = .ok (.iload_n 1, 1) := by decide +kernel
theorem dX1_item_93 : decode cX1_item 93 = .ok (.iaload, 1) := by decide +kernel
theorem dX1_item_94 : decode cX1_item 94 = .ok (.ireturn, 1) := by decide +kernel
theorem dX1_pattern_0 : decode cX1_pattern 0 = .ok (.iload_n 1, 1) := by decide +kernel
theorem dX1_pattern_1 : decode cX1_pattern 1 = .ok (.ifCond .lt 12, 3) := by decide +kernel
theorem dX1_pattern_4 : decode cX1_pattern 4 = .ok (.iload_n 1, 1) := by decide +kernel
theorem dX1_pattern_5 : decode cX1_pattern 5 = .ok (.iconst 3, 1) := by decide +kernel
theorem dX1_pattern_6 : decode cX1_pattern 6 = .ok (.if_icmp .gt 7, 3) := by decide +kernel
theorem dX1_pattern_9 : decode cX1_pattern 9 = .ok (.iconst 1, 1) := by decide +kernel
theorem dX1_pattern_10 : decode cX1_pattern 10 = .ok (.goto 4, 3) := by decide +kernel
theorem dX1_pattern_13 : decode cX1_pattern 13 = .ok (.iconst 0, 1) := by decide +kernel
theorem dX1_pattern_14 : decode cX1_pattern 14 = .ok (.ireturn, 1) := by decide +kernel
theorem dX1_drop_0 : decode cX1_drop 0 = .ok (.aload_n 0, 1) := by decide +kernel
theorem dX1_drop_1 : decode cX1_drop 1 = .ok (.iload_n 1, 1) := by decide +kernel
theorem dX1_drop_2 : decode cX1_drop 2 = .ok (.invokevirtual 29, 3) := by decide +kernel
theorem dX1_drop_5 : decode cX1_drop 5 = .ok (.ifCond .eq 12, 3) := by decide +kernel
theorem dX1_drop_8 : decode cX1_drop 8 = .ok (.aload_n 0, 1) := by decide +kernel
theorem dX1_drop_9 : decode cX1_drop 9 = .ok (.getfield 7, 3) := by decide +kernel
theorem dX1_drop_12 : decode cX1_drop 12 = .ok (.iload_n 1, 1) := by decide +kernel
theorem dX1_drop_13 : decode cX1_drop 13 = .ok (.iaload, 1) := by decide +kernel
theorem dX1_drop_14 : decode cX1_drop 14 = .ok (.ifCond .ne 5, 3) := by decide +kernel
theorem dX1_drop_17 : decode cX1_drop 17 = .ok (.iconst (-1), 1) := by decide +kernel
theorem dX1_drop_18 : decode cX1_drop 18 = .ok (.ireturn, 1) := by decide +kernel
theorem dX1_drop_19 : decode cX1_drop 19 = .ok (.aload_n 0, 1) := by decide +kernel
theorem dX1_drop_20 : decode cX1_drop 20 = .ok (.getfield 7, 3) := by decide +kernel
theorem dX1_drop_23 : decode cX1_drop 23 = .ok (.iload_n 1, 1) := by decide +kernel
theorem dX1_drop_24 : decode cX1_drop 24 = .ok (.dup2, 1) := by decide +kernel
theorem dX1_drop_25 : decode cX1_drop 25 = .ok (.iaload, 1) := by decide +kernel
theorem dX1_drop_26 : decode cX1_drop 26 = .ok (.iconst 1, 1) := by decide +kernel
theorem dX1_drop_27 : decode cX1_drop 27 = .ok (.isub, 1) := by decide +kernel
theorem dX1_drop_28 : decode cX1_drop 28 = .ok (.iastore, 1) := by decide +kernel
theorem dX1_drop_29 : decode cX1_drop 29 = .ok (.aload_n 0, 1) := by decide +kernel
theorem dX1_drop_30 : decode cX1_drop 30 = .ok (.getfield 7, 3) := by decide +kernel
theorem dX1_drop_33 : decode cX1_drop 33 = .ok (.iload_n 1, 1) := by decide +kernel
theorem dX1_drop_34 : decode cX1_drop 34 = .ok (.iaload, 1) := by decide +kernel
theorem dX1_drop_35 : decode cX1_drop 35 = .ok (.ireturn, 1) := by decide +kernel
theorem dX1_items_0 : decode cX1_items 0 = .ok (.aload_n 0, 1) := by decide +kernel
theorem dX1_items_1 : decode cX1_items 1 = .ok (.iload_n 1, 1) := by decide +kernel
theorem dX1_items_2 : decode cX1_items 2 = .ok (.invokevirtual 29, 3) := by decide +kernel
theorem dX1_items_5 : decode cX1_items 5 = .ok (.ifCond .eq 12, 3) := by decide +kernel
theorem dX1_items_8 : decode cX1_items 8 = .ok (.aload_n 0, 1) := by decide +kernel
theorem dX1_items_9 : decode cX1_items 9 = .ok (.getfield 7, 3) := by decide +kernel
theorem dX1_items_12 : decode cX1_items 12 = .ok (.iload_n 1, 1) := by decide +kernel
theorem dX1_items_13 : decode cX1_items 13 = .ok (.iaload, 1) := by decide +kernel
theorem dX1_items_14 : decode cX1_items 14 = .ok (.goto 4, 3) := by decide +kernel
theorem dX1_items_17 : decode cX1_items 17 = .ok (.iconst (-1), 1) := by decide +kernel
theorem dX1_items_18 : decode cX1_items 18 = .ok (.ireturn, 1) := by decide +kernel
theorem dX1_push_0 : decode cX1_push 0 = .ok (.iload_n 1, 1) := by decide +kernel
theorem dX1_push_1 : decode cX1_push 1 = .ok (.ifCond .lt 8, 3) := by decide +kernel
theorem dX1_push_4 : decode cX1_push 4 = .ok (.iload_n 1, 1) := by decide +kernel
theorem dX1_push_5 : decode cX1_push 5 = .ok (.iconst 3, 1) := by decide +kernel
theorem dX1_push_6 : decode cX1_push 6 = .ok (.if_icmp .le 5, 3) := by decide +kernel
theorem dX1_push_9 : decode cX1_push 9 = .ok (.iconst (-1), 1) := by decide +kernel
theorem dX1_push_10 : decode cX1_push 10 = .ok (.ireturn, 1) := by decide +kernel
theorem dX1_push_11 : decode cX1_push 11 = .ok (.aload_n 0, 1) := by decide +kernel
theorem dX1_push_12 : decode cX1_push 12 = .ok (.getfield 44, 3) := by decide +kernel
theorem dX1_push_15 : decode cX1_push 15 = .ok (.bipush 60, 2) := by decide +kernel
theorem dX1_push_17 : decode cX1_push 17 = .ok (.if_icmp .lt 6, 3) := by decide +kernel
theorem dX1_push_20 : decode cX1_push 20 = .ok (.bipush (-2), 2) := by decide +kernel
theorem dX1_push_22 : decode cX1_push 22 = .ok (.ireturn, 1) := by decide +kernel
theorem dX1_push_23 : decode cX1_push 23 = .ok (.aload_n 0, 1) := by decide +kernel
theorem dX1_push_24 : decode cX1_push 24 = .ok (.getfield 19, 3) := by decide +kernel
theorem dX1_push_27 : decode cX1_push 27 = .ok (.aload_n 0, 1) := by decide +kernel
theorem dX1_push_28 : decode cX1_push 28 = .ok (.getfield 44, 3) := by decide +kernel
theorem dX1_push_31 : decode cX1_push 31 = .ok (.iload_n 1, 1) := by decide +kernel
theorem dX1_push_32 : decode cX1_push 32 = .ok (.iastore, 1) := by decide +kernel
theorem dX1_push_33 : decode cX1_push 33 = .ok (.aload_n 0, 1) := by decide +kernel
theorem dX1_push_34 : decode cX1_push 34 = .ok (.dup, 1) := by decide +kernel
theorem dX1_push_35 : decode cX1_push 35 = .ok (.getfield 44, 3) := by decide +kernel
theorem dX1_push_38 : decode cX1_push 38 = .ok (.iconst 1, 1) := by decide +kernel
theorem dX1_push_39 : decode cX1_push 39 = .ok (.iadd, 1) := by decide +kernel
theorem dX1_push_40 : decode cX1_push 40 = .ok (.putfield 44, 3) := by decide +kernel
theorem dX1_push_43 : decode cX1_push 43 = .ok (.aload_n 0, 1) := by decide +kernel
theorem dX1_push_44 : decode cX1_push 44 = .ok (.aload_n 0, 1) := by decide +kernel
theorem dX1_push_45 : decode cX1_push 45 = .ok (.getfield 44, 3) := by decide +kernel
theorem dX1_push_48 : decode cX1_push 48 = .ok (.iconst 1, 1) := by decide +kernel
theorem dX1_push_49 : decode cX1_push 49 = .ok (.isub, 1) := by decide +kernel
theorem dX1_push_50 : decode cX1_push 50 = .ok (.invokevirtual 48, 3) := by decide +kernel
theorem dX1_push_53 : decode cX1_push 53 = .ok (.ireturn, 1) := by decide +kernel
theorem dX1_endingAt_0 : decode cX1_endingAt 0 = .ok (.iconst 0, 1) := by decide +kernel
theorem dX1_endingAt_1 : decode cX1_endingAt 1 = .ok (.istore_n 2, 1) := by decide +kernel
theorem dX1_endingAt_2 : decode cX1_endingAt 2 = .ok (.iconst 0, 1) := by decide +kernel
theorem dX1_endingAt_3 : decode cX1_endingAt 3 = .ok (.istore_n 3, 1) := by decide +kernel
theorem dX1_endingAt_4 : decode cX1_endingAt 4 = .ok (.iload_n 3, 1) := by decide +kernel
theorem dX1_endingAt_5 : decode cX1_endingAt 5 = .ok (.iconst 4, 1) := by decide +kernel
theorem dX1_endingAt_6 : decode cX1_endingAt 6 = .ok (.if_icmp .ge 43, 3) := by decide +kernel
theorem dX1_endingAt_9 : decode cX1_endingAt 9 = .ok (.iload_n 1, 1) := by decide +kernel
theorem dX1_endingAt_10 : decode cX1_endingAt 10 = .ok (.ifCond .lt 39, 3) := by decide +kernel
theorem dX1_endingAt_13 : decode cX1_endingAt 13 = .ok (.iload_n 1, 1) := by decide +kernel
theorem dX1_endingAt_14 : decode cX1_endingAt 14 = .ok (.aload_n 0, 1) := by decide +kernel
theorem dX1_endingAt_15 : decode cX1_endingAt 15 = .ok (.getfield 44, 3) := by decide +kernel
theorem dX1_endingAt_18 : decode cX1_endingAt 18 = .ok (.if_icmp .ge 31, 3) := by decide +kernel
theorem dX1_endingAt_21 : decode cX1_endingAt 21 = .ok (.aload_n 0, 1) := by decide +kernel
theorem dX1_endingAt_22 : decode cX1_endingAt 22 = .ok (.iload_n 3, 1) := by decide +kernel
theorem dX1_endingAt_23 : decode cX1_endingAt 23 = .ok (.iload_n 1, 1) := by decide +kernel
theorem dX1_endingAt_24 : decode cX1_endingAt 24 = .ok (.iload_n 1, 1) := by decide +kernel
theorem dX1_endingAt_25 : decode cX1_endingAt 25 = .ok (.iconst 1, 1) := by decide +kernel
theorem dX1_endingAt_26 : decode cX1_endingAt 26 = .ok (.iadd, 1) := by decide +kernel
theorem dX1_endingAt_27 : decode cX1_endingAt 27 = .ok (.invokevirtual 52, 3) := by decide +kernel
theorem dX1_endingAt_30 : decode cX1_endingAt 30 = .ok (.ifCond .eq 11, 3) := by decide +kernel
theorem dX1_endingAt_33 : decode cX1_endingAt 33 = .ok (.iload_n 2, 1) := by decide +kernel
theorem dX1_endingAt_34 : decode cX1_endingAt 34 = .ok (.iconst 1, 1) := by decide +kernel
theorem dX1_endingAt_35 : decode cX1_endingAt 35 = .ok (.iload_n 3, 1) := by decide +kernel
theorem dX1_endingAt_36 : decode cX1_endingAt 36 = .ok (.ishl, 1) := by decide +kernel
theorem dX1_endingAt_37 : decode cX1_endingAt 37 = .ok (.ior, 1) := by decide +kernel
theorem dX1_endingAt_38 : decode cX1_endingAt 38 = .ok (.goto 4, 3) := by decide +kernel
theorem dX1_endingAt_41 : decode cX1_endingAt 41 = .ok (.iload_n 2, 1) := by decide +kernel
theorem dX1_endingAt_42 : decode cX1_endingAt 42 = .ok (.istore_n 2, 1) := by decide +kernel
theorem dX1_endingAt_43 : decode cX1_endingAt 43 = .ok (.iinc 3 1, 3) := by decide +kernel
theorem dX1_endingAt_46 : decode cX1_endingAt 46 = .ok (.goto (-42), 3) := by decide +kernel
theorem dX1_endingAt_49 : decode cX1_endingAt 49 = .ok (.iload_n 2, 1) := by decide +kernel
theorem dX1_endingAt_50 : decode cX1_endingAt 50 = .ok (.ireturn, 1) := by decide +kernel
theorem dX1_endsAt_0 : decode cX1_endsAt 0 = .ok (.iconst 0, 1) := by decide +kernel
theorem dX1_endsAt_1 : decode cX1_endsAt 1 = .ok (.istore 4, 2) := by decide +kernel
theorem dX1_endsAt_3 : decode cX1_endsAt 3 = .ok (.iconst 0, 1) := by decide +kernel
theorem dX1_endsAt_4 : decode cX1_endsAt 4 = .ok (.istore 5, 2) := by decide +kernel
theorem dX1_endsAt_6 : decode cX1_endsAt 6 = .ok (.iload 5, 2) := by decide +kernel
theorem dX1_endsAt_8 : decode cX1_endsAt 8 = .ok (.iload_n 2, 1) := by decide +kernel
theorem dX1_endsAt_9 : decode cX1_endsAt 9 = .ok (.if_icmp .gt 40, 3) := by decide +kernel
theorem dX1_endsAt_12 : decode cX1_endsAt 12 = .ok (.aload_n 0, 1) := by decide +kernel
theorem dX1_endsAt_13 : decode cX1_endsAt 13 = .ok (.iload_n 1, 1) := by decide +kernel
theorem dX1_endsAt_14 : decode cX1_endsAt 14 = .ok (.iload 5, 2) := by decide +kernel
theorem dX1_endsAt_16 : decode cX1_endsAt 16 = .ok (.iload_n 3, 1) := by decide +kernel
theorem dX1_endsAt_17 : decode cX1_endsAt 17 = .ok (.invokevirtual 41, 3) := by decide +kernel
theorem dX1_endsAt_20 : decode cX1_endsAt 20 = .ok (.iload 4, 2) := by decide +kernel
theorem dX1_endsAt_22 : decode cX1_endsAt 22 = .ok (.ifCond .ne 14, 3) := by decide +kernel
theorem dX1_endsAt_25 : decode cX1_endsAt 25 = .ok (.aload_n 0, 1) := by decide +kernel
theorem dX1_endsAt_26 : decode cX1_endsAt 26 = .ok (.getfield 22, 3) := by decide +kernel
theorem dX1_endsAt_29 : decode cX1_endsAt 29 = .ok (.iload_n 2, 1) := by decide +kernel
theorem dX1_endsAt_30 : decode cX1_endsAt 30 = .ok (.iconst 1, 1) := by decide +kernel
theorem dX1_endsAt_31 : decode cX1_endsAt 31 = .ok (.iadd, 1) := by decide +kernel
theorem dX1_endsAt_32 : decode cX1_endsAt 32 = .ok (.baload, 1) := by decide +kernel
theorem dX1_endsAt_33 : decode cX1_endsAt 33 = .ok (.ifCond .eq 7, 3) := by decide +kernel
theorem dX1_endsAt_36 : decode cX1_endsAt 36 = .ok (.iconst 1, 1) := by decide +kernel
theorem dX1_endsAt_37 : decode cX1_endsAt 37 = .ok (.goto 4, 3) := by decide +kernel
theorem dX1_endsAt_40 : decode cX1_endsAt 40 = .ok (.iconst 0, 1) := by decide +kernel
theorem dX1_endsAt_41 : decode cX1_endsAt 41 = .ok (.istore 4, 2) := by decide +kernel
theorem dX1_endsAt_43 : decode cX1_endsAt 43 = .ok (.iinc 5 1, 3) := by decide +kernel
theorem dX1_endsAt_46 : decode cX1_endsAt 46 = .ok (.goto (-40), 3) := by decide +kernel
theorem dX1_endsAt_49 : decode cX1_endsAt 49 = .ok (.iload 4, 2) := by decide +kernel
theorem dX1_endsAt_51 : decode cX1_endsAt 51 = .ok (.ireturn, 1) := by decide +kernel
theorem dX1_work_0 : decode cX1_work 0 = .ok (.iload_n 2, 1) := by decide +kernel
theorem dX1_work_1 : decode cX1_work 1 = .ok (.istore 4, 2) := by decide +kernel
theorem dX1_work_3 : decode cX1_work 3 = .ok (.iload 4, 2) := by decide +kernel
theorem dX1_work_5 : decode cX1_work 5 = .ok (.iload_n 3, 1) := by decide +kernel
theorem dX1_work_6 : decode cX1_work 6 = .ok (.if_icmp .gt 27, 3) := by decide +kernel
theorem dX1_work_9 : decode cX1_work 9 = .ok (.aload_n 0, 1) := by decide +kernel
theorem dX1_work_10 : decode cX1_work 10 = .ok (.getfield 22, 3) := by decide +kernel
theorem dX1_work_13 : decode cX1_work 13 = .ok (.iload 4, 2) := by decide +kernel
theorem dX1_work_15 : decode cX1_work 15 = .ok (.iload 4, 2) := by decide +kernel
theorem dX1_work_17 : decode cX1_work 17 = .ok (.iload_n 2, 1) := by decide +kernel
theorem dX1_work_18 : decode cX1_work 18 = .ok (.if_icmp .ne 7, 3) := by decide +kernel
theorem dX1_work_21 : decode cX1_work 21 = .ok (.iconst 1, 1) := by decide +kernel
theorem dX1_work_22 : decode cX1_work 22 = .ok (.goto 4, 3) := by decide +kernel
theorem dX1_work_25 : decode cX1_work 25 = .ok (.iconst 0, 1) := by decide +kernel
theorem dX1_work_26 : decode cX1_work 26 = .ok (.bastore, 1) := by decide +kernel
theorem dX1_work_27 : decode cX1_work 27 = .ok (.iinc 4 1, 3) := by decide +kernel
theorem dX1_work_30 : decode cX1_work 30 = .ok (.goto (-27), 3) := by decide +kernel
theorem dX1_work_33 : decode cX1_work 33 = .ok (.iconst 0, 1) := by decide +kernel
theorem dX1_work_34 : decode cX1_work 34 = .ok (.istore 4, 2) := by decide +kernel
theorem dX1_work_36 : decode cX1_work 36 = .ok (.iload 4, 2) := by decide +kernel
theorem dX1_work_38 : decode cX1_work 38 = .ok (.aload_n 0, 1) := by decide +kernel
theorem dX1_work_39 : decode cX1_work 39 = .ok (.getfield 7, 3) := by decide +kernel
theorem dX1_work_42 : decode cX1_work 42 = .ok (.iload_n 1, 1) := by decide +kernel
theorem dX1_work_43 : decode cX1_work 43 = .ok (.iaload, 1) := by decide +kernel
theorem dX1_work_44 : decode cX1_work 44 = .ok (.if_icmp .ge 22, 3) := by decide +kernel
theorem dX1_work_47 : decode cX1_work 47 = .ok (.aload_n 0, 1) := by decide +kernel
theorem dX1_work_48 : decode cX1_work 48 = .ok (.bipush 6, 2) := by decide +kernel
theorem dX1_work_50 : decode cX1_work 50 = .ok (.iload_n 1, 1) := by decide +kernel
theorem dX1_work_51 : decode cX1_work 51 = .ok (.imul, 1) := by decide +kernel
theorem dX1_work_52 : decode cX1_work 52 = .ok (.iload 4, 2) := by decide +kernel
theorem dX1_work_54 : decode cX1_work 54 = .ok (.iadd, 1) := by decide +kernel
theorem dX1_work_55 : decode cX1_work 55 = .ok (.iload_n 2, 1) := by decide +kernel
theorem dX1_work_56 : decode cX1_work 56 = .ok (.iload_n 3, 1) := by decide +kernel
theorem dX1_work_57 : decode cX1_work 57 = .ok (.invokevirtual 37, 3) := by decide +kernel
theorem dX1_work_60 : decode cX1_work 60 = .ok (.iinc 4 1, 3) := by decide +kernel
theorem dX1_work_63 : decode cX1_work 63 = .ok (.goto (-27), 3) := by decide +kernel
theorem dX1_work_66 : decode cX1_work 66 = .ok (.return_, 1) := by decide +kernel
theorem dX1_extend_0 : decode cX1_extend 0 = .ok (.iload_n 2, 1) := by decide +kernel
theorem dX1_extend_1 : decode cX1_extend 1 = .ok (.istore 4, 2) := by decide +kernel
theorem dX1_extend_3 : decode cX1_extend 3 = .ok (.iload 4, 2) := by decide +kernel
theorem dX1_extend_5 : decode cX1_extend 5 = .ok (.iload_n 3, 1) := by decide +kernel
theorem dX1_extend_6 : decode cX1_extend 6 = .ok (.if_icmp .gt 17, 3) := by decide +kernel
theorem dX1_extend_9 : decode cX1_extend 9 = .ok (.aload_n 0, 1) := by decide +kernel
theorem dX1_extend_10 : decode cX1_extend 10 = .ok (.getfield 26, 3) := by decide +kernel
theorem dX1_extend_13 : decode cX1_extend 13 = .ok (.iload 4, 2) := by decide +kernel
theorem dX1_extend_15 : decode cX1_extend 15 = .ok (.iconst 0, 1) := by decide +kernel
theorem dX1_extend_16 : decode cX1_extend 16 = .ok (.bastore, 1) := by decide +kernel
theorem dX1_extend_17 : decode cX1_extend 17 = .ok (.iinc 4 1, 3) := by decide +kernel
theorem dX1_extend_20 : decode cX1_extend 20 = .ok (.goto (-17), 3) := by decide +kernel
theorem dX1_extend_23 : decode cX1_extend 23 = .ok (.iload_n 2, 1) := by decide +kernel
theorem dX1_extend_24 : decode cX1_extend 24 = .ok (.istore 4, 2) := by decide +kernel
theorem dX1_extend_26 : decode cX1_extend 26 = .ok (.iload 4, 2) := by decide +kernel
theorem dX1_extend_28 : decode cX1_extend 28 = .ok (.iload_n 3, 1) := by decide +kernel
theorem dX1_extend_29 : decode cX1_extend 29 = .ok (.if_icmp .gt 112, 3) := by decide +kernel
theorem dX1_extend_32 : decode cX1_extend 32 = .ok (.aload_n 0, 1) := by decide +kernel
theorem dX1_extend_33 : decode cX1_extend 33 = .ok (.getfield 22, 3) := by decide +kernel
theorem dX1_extend_36 : decode cX1_extend 36 = .ok (.iload 4, 2) := by decide +kernel
theorem dX1_extend_38 : decode cX1_extend 38 = .ok (.baload, 1) := by decide +kernel
theorem dX1_extend_39 : decode cX1_extend 39 = .ok (.istore 5, 2) := by decide +kernel
theorem dX1_extend_41 : decode cX1_extend 41 = .ok (.iload 4, 2) := by decide +kernel
theorem dX1_extend_43 : decode cX1_extend 43 = .ok (.istore 6, 2) := by decide +kernel
theorem dX1_extend_45 : decode cX1_extend 45 = .ok (.iload 6, 2) := by decide +kernel
theorem dX1_extend_47 : decode cX1_extend 47 = .ok (.iload_n 3, 1) := by decide +kernel
theorem dX1_extend_48 : decode cX1_extend 48 = .ok (.if_icmp .gt 87, 3) := by decide +kernel
theorem dX1_extend_51 : decode cX1_extend 51 = .ok (.iload 5, 2) := by decide +kernel
theorem dX1_extend_53 : decode cX1_extend 53 = .ok (.ifCond .eq 82, 3) := by decide +kernel
theorem dX1_extend_56 : decode cX1_extend 56 = .ok (.aload_n 0, 1) := by decide +kernel
theorem dX1_extend_57 : decode cX1_extend 57 = .ok (.getfield 26, 3) := by decide +kernel
theorem dX1_extend_60 : decode cX1_extend 60 = .ok (.iload 6, 2) := by decide +kernel
theorem dX1_extend_62 : decode cX1_extend 62 = .ok (.aload_n 0, 1) := by decide +kernel
theorem dX1_extend_63 : decode cX1_extend 63 = .ok (.getfield 26, 3) := by decide +kernel
theorem dX1_extend_66 : decode cX1_extend 66 = .ok (.iload 6, 2) := by decide +kernel
theorem dX1_extend_68 : decode cX1_extend 68 = .ok (.baload, 1) := by decide +kernel
theorem dX1_extend_69 : decode cX1_extend 69 = .ok (.ifCond .ne 21, 3) := by decide +kernel
theorem dX1_extend_72 : decode cX1_extend 72 = .ok (.aload_n 0, 1) := by decide +kernel
theorem dX1_extend_73 : decode cX1_extend 73 = .ok (.aload_n 0, 1) := by decide +kernel
theorem dX1_extend_74 : decode cX1_extend 74 = .ok (.getfield 16, 3) := by decide +kernel
theorem dX1_extend_77 : decode cX1_extend 77 = .ok (.iload_n 1, 1) := by decide +kernel
theorem dX1_extend_78 : decode cX1_extend 78 = .ok (.iaload, 1) := by decide +kernel
theorem dX1_extend_79 : decode cX1_extend 79 = .ok (.iload 6, 2) := by decide +kernel
theorem dX1_extend_81 : decode cX1_extend 81 = .ok (.iload 4, 2) := by decide +kernel
theorem dX1_extend_83 : decode cX1_extend 83 = .ok (.isub, 1) := by decide +kernel
theorem dX1_extend_84 : decode cX1_extend 84 = .ok (.invokevirtual 33, 3) := by decide +kernel
theorem dX1_extend_87 : decode cX1_extend 87 = .ok (.ifCond .eq 7, 3) := by decide +kernel
theorem dX1_extend_90 : decode cX1_extend 90 = .ok (.iconst 1, 1) := by decide +kernel
theorem dX1_extend_91 : decode cX1_extend 91 = .ok (.goto 4, 3) := by decide +kernel
theorem dX1_extend_94 : decode cX1_extend 94 = .ok (.iconst 0, 1) := by decide +kernel
theorem dX1_extend_95 : decode cX1_extend 95 = .ok (.bastore, 1) := by decide +kernel
theorem dX1_extend_96 : decode cX1_extend 96 = .ok (.iload 6, 2) := by decide +kernel
theorem dX1_extend_98 : decode cX1_extend 98 = .ok (.iload_n 3, 1) := by decide +kernel
theorem dX1_extend_99 : decode cX1_extend 99 = .ok (.if_icmp .ge 27, 3) := by decide +kernel
theorem dX1_extend_102 : decode cX1_extend 102 = .ok (.aload_n 0, 1) := by decide +kernel
theorem dX1_extend_103 : decode cX1_extend 103 = .ok (.getfield 13, 3) := by decide +kernel
theorem dX1_extend_106 : decode cX1_extend 106 = .ok (.iload_n 1, 1) := by decide +kernel
theorem dX1_extend_107 : decode cX1_extend 107 = .ok (.iaload, 1) := by decide +kernel
theorem dX1_extend_108 : decode cX1_extend 108 = .ok (.aload_n 0, 1) := by decide +kernel
theorem dX1_extend_109 : decode cX1_extend 109 = .ok (.getfield 19, 3) := by decide +kernel
theorem dX1_extend_112 : decode cX1_extend 112 = .ok (.iload 6, 2) := by decide +kernel
theorem dX1_extend_114 : decode cX1_extend 114 = .ok (.iaload, 1) := by decide +kernel
theorem dX1_extend_115 : decode cX1_extend 115 = .ok (.ishr, 1) := by decide +kernel
theorem dX1_extend_116 : decode cX1_extend 116 = .ok (.iconst 1, 1) := by decide +kernel
theorem dX1_extend_117 : decode cX1_extend 117 = .ok (.iand, 1) := by decide +kernel
theorem dX1_extend_118 : decode cX1_extend 118 = .ok (.iconst 1, 1) := by decide +kernel
theorem dX1_extend_119 : decode cX1_extend 119 = .ok (.if_icmp .ne 7, 3) := by decide +kernel
theorem dX1_extend_122 : decode cX1_extend 122 = .ok (.iconst 1, 1) := by decide +kernel
theorem dX1_extend_123 : decode cX1_extend 123 = .ok (.goto 4, 3) := by decide +kernel
theorem dX1_extend_126 : decode cX1_extend 126 = .ok (.iconst 0, 1) := by decide +kernel
theorem dX1_extend_127 : decode cX1_extend 127 = .ok (.istore 5, 2) := by decide +kernel
theorem dX1_extend_129 : decode cX1_extend 129 = .ok (.iinc 6 1, 3) := by decide +kernel
theorem dX1_extend_132 : decode cX1_extend 132 = .ok (.goto (-87), 3) := by decide +kernel
theorem dX1_extend_135 : decode cX1_extend 135 = .ok (.iinc 4 1, 3) := by decide +kernel
theorem dX1_extend_138 : decode cX1_extend 138 = .ok (.goto (-112), 3) := by decide +kernel
theorem dX1_extend_141 : decode cX1_extend 141 = .ok (.iload_n 2, 1) := by decide +kernel
theorem dX1_extend_142 : decode cX1_extend 142 = .ok (.istore 4, 2) := by decide +kernel
theorem dX1_extend_144 : decode cX1_extend 144 = .ok (.iload 4, 2) := by decide +kernel
theorem dX1_extend_146 : decode cX1_extend 146 = .ok (.iload_n 3, 1) := by decide +kernel
theorem dX1_extend_147 : decode cX1_extend 147 = .ok (.if_icmp .gt 23, 3) := by decide +kernel
theorem dX1_extend_150 : decode cX1_extend 150 = .ok (.aload_n 0, 1) := by decide +kernel
theorem dX1_extend_151 : decode cX1_extend 151 = .ok (.getfield 22, 3) := by decide +kernel
theorem dX1_extend_154 : decode cX1_extend 154 = .ok (.iload 4, 2) := by decide +kernel
theorem dX1_extend_156 : decode cX1_extend 156 = .ok (.aload_n 0, 1) := by decide +kernel
theorem dX1_extend_157 : decode cX1_extend 157 = .ok (.getfield 26, 3) := by decide +kernel
theorem dX1_extend_160 : decode cX1_extend 160 = .ok (.iload 4, 2) := by decide +kernel
end
section
set_option maxRecDepth 100000
theorem dX1_extend_162 : decode cX1_extend 162 = .ok (.baload, 1) := by decide +kernel
theorem dX1_extend_163 : decode cX1_extend 163 = .ok (.bastore, 1) := by decide +kernel
theorem dX1_extend_164 : decode cX1_extend 164 = .ok (.iinc 4 1, 3) := by decide +kernel
theorem dX1_extend_167 : decode cX1_extend 167 = .ok (.goto (-23), 3) := by decide +kernel
theorem dX1_extend_170 : decode cX1_extend 170 = .ok (.return_, 1) := by decide +kernel
theorem dX1_allows_0 : decode cX1_allows 0 = .ok (.iload_n 1, 1) := by decide +kernel
theorem dX1_allows_1 : decode cX1_allows 1 = .ok (.ifCond .ne 16, 3) := by decide +kernel
theorem dX1_allows_4 : decode cX1_allows 4 = .ok (.iload_n 2, 1) := by decide +kernel
theorem dX1_allows_5 : decode cX1_allows 5 = .ok (.iconst 1, 1) := by decide +kernel
theorem dX1_allows_6 : decode cX1_allows 6 = .ok (.if_icmp .ne 7, 3) := by decide +kernel
theorem dX1_allows_9 : decode cX1_allows 9 = .ok (.iconst 1, 1) := by decide +kernel
theorem dX1_allows_10 : decode cX1_allows 10 = .ok (.goto 40, 3) := by decide +kernel
theorem dX1_allows_13 : decode cX1_allows 13 = .ok (.iconst 0, 1) := by decide +kernel
theorem dX1_allows_14 : decode cX1_allows 14 = .ok (.goto 36, 3) := by decide +kernel
theorem dX1_allows_17 : decode cX1_allows 17 = .ok (.iload_n 1, 1) := by decide +kernel
theorem dX1_allows_18 : decode cX1_allows 18 = .ok (.iconst 1, 1) := by decide +kernel
theorem dX1_allows_19 : decode cX1_allows 19 = .ok (.if_icmp .ne 16, 3) := by decide +kernel
theorem dX1_allows_22 : decode cX1_allows 22 = .ok (.iload_n 2, 1) := by decide +kernel
theorem dX1_allows_23 : decode cX1_allows 23 = .ok (.iconst 1, 1) := by decide +kernel
theorem dX1_allows_24 : decode cX1_allows 24 = .ok (.if_icmp .gt 7, 3) := by decide +kernel
theorem dX1_allows_27 : decode cX1_allows 27 = .ok (.iconst 1, 1) := by decide +kernel
theorem dX1_allows_28 : decode cX1_allows 28 = .ok (.goto 22, 3) := by decide +kernel
theorem dX1_allows_31 : decode cX1_allows 31 = .ok (.iconst 0, 1) := by decide +kernel
theorem dX1_allows_32 : decode cX1_allows 32 = .ok (.goto 18, 3) := by decide +kernel
theorem dX1_allows_35 : decode cX1_allows 35 = .ok (.iload_n 1, 1) := by decide +kernel
theorem dX1_allows_36 : decode cX1_allows 36 = .ok (.iconst 2, 1) := by decide +kernel
theorem dX1_allows_37 : decode cX1_allows 37 = .ok (.if_icmp .eq 8, 3) := by decide +kernel
theorem dX1_allows_40 : decode cX1_allows 40 = .ok (.iload_n 2, 1) := by decide +kernel
theorem dX1_allows_41 : decode cX1_allows 41 = .ok (.iconst 1, 1) := by decide +kernel
theorem dX1_allows_42 : decode cX1_allows 42 = .ok (.if_icmp .lt 7, 3) := by decide +kernel
theorem dX1_allows_45 : decode cX1_allows 45 = .ok (.iconst 1, 1) := by decide +kernel
theorem dX1_allows_46 : decode cX1_allows 46 = .ok (.goto 4, 3) := by decide +kernel
theorem dX1_allows_49 : decode cX1_allows 49 = .ok (.iconst 0, 1) := by decide +kernel
theorem dX1_allows_50 : decode cX1_allows 50 = .ok (.ireturn, 1) := by decide +kernel
theorem dX1_reset_0 : decode cX1_reset 0 = .ok (.aload_n 0, 1) := by decide +kernel
theorem dX1_reset_1 : decode cX1_reset 1 = .ok (.iconst 0, 1) := by decide +kernel
theorem dX1_reset_2 : decode cX1_reset 2 = .ok (.putfield 44, 3) := by decide +kernel
theorem dX1_reset_5 : decode cX1_reset 5 = .ok (.return_, 1) := by decide +kernel
theorem dX1_taken_0 : decode cX1_taken 0 = .ok (.aload_n 0, 1) := by decide +kernel
theorem dX1_taken_1 : decode cX1_taken 1 = .ok (.getfield 44, 3) := by decide +kernel
theorem dX1_taken_4 : decode cX1_taken 4 = .ok (.ireturn, 1) := by decide +kernel
theorem dX1_ends_0 : decode cX1_ends 0 = .ok (.iconst 0, 1) := by decide +kernel
theorem dX1_ends_1 : decode cX1_ends 1 = .ok (.istore_n 2, 1) := by decide +kernel
theorem dX1_ends_2 : decode cX1_ends 2 = .ok (.iconst 0, 1) := by decide +kernel
theorem dX1_ends_3 : decode cX1_ends 3 = .ok (.istore_n 3, 1) := by decide +kernel
theorem dX1_ends_4 : decode cX1_ends 4 = .ok (.iload_n 3, 1) := by decide +kernel
theorem dX1_ends_5 : decode cX1_ends 5 = .ok (.aload_n 0, 1) := by decide +kernel
theorem dX1_ends_6 : decode cX1_ends 6 = .ok (.getfield 44, 3) := by decide +kernel
theorem dX1_ends_9 : decode cX1_ends 9 = .ok (.if_icmp .ge 37, 3) := by decide +kernel
theorem dX1_ends_12 : decode cX1_ends 12 = .ok (.aload_n 0, 1) := by decide +kernel
theorem dX1_ends_13 : decode cX1_ends 13 = .ok (.iload_n 1, 1) := by decide +kernel
theorem dX1_ends_14 : decode cX1_ends 14 = .ok (.invokevirtual 29, 3) := by decide +kernel
theorem dX1_ends_17 : decode cX1_ends 17 = .ok (.ifCond .eq 29, 3) := by decide +kernel
theorem dX1_ends_20 : decode cX1_ends 20 = .ok (.aload_n 0, 1) := by decide +kernel
theorem dX1_ends_21 : decode cX1_ends 21 = .ok (.iload_n 1, 1) := by decide +kernel
theorem dX1_ends_22 : decode cX1_ends 22 = .ok (.iload_n 3, 1) := by decide +kernel
theorem dX1_ends_23 : decode cX1_ends 23 = .ok (.iload_n 3, 1) := by decide +kernel
theorem dX1_ends_24 : decode cX1_ends 24 = .ok (.iconst 1, 1) := by decide +kernel
theorem dX1_ends_25 : decode cX1_ends 25 = .ok (.iadd, 1) := by decide +kernel
theorem dX1_ends_26 : decode cX1_ends 26 = .ok (.invokevirtual 52, 3) := by decide +kernel
theorem dX1_ends_29 : decode cX1_ends 29 = .ok (.ifCond .eq 9, 3) := by decide +kernel
theorem dX1_ends_32 : decode cX1_ends 32 = .ok (.iload_n 2, 1) := by decide +kernel
theorem dX1_ends_33 : decode cX1_ends 33 = .ok (.iconst 1, 1) := by decide +kernel
theorem dX1_ends_34 : decode cX1_ends 34 = .ok (.iadd, 1) := by decide +kernel
theorem dX1_ends_35 : decode cX1_ends 35 = .ok (.goto 4, 3) := by decide +kernel
theorem dX1_ends_38 : decode cX1_ends 38 = .ok (.iload_n 2, 1) := by decide +kernel
theorem dX1_ends_39 : decode cX1_ends 39 = .ok (.istore_n 2, 1) := by decide +kernel
theorem dX1_ends_40 : decode cX1_ends 40 = .ok (.iinc 3 1, 3) := by decide +kernel
theorem dX1_ends_43 : decode cX1_ends 43 = .ok (.goto (-39), 3) := by decide +kernel
theorem dX1_ends_46 : decode cX1_ends 46 = .ok (.iload_n 2, 1) := by decide +kernel
theorem dX1_ends_47 : decode cX1_ends 47 = .ok (.ireturn, 1) := by decide +kernel
theorem dX1_firstEnd_0 : decode cX1_firstEnd 0 = .ok (.iconst 0, 1) := by decide +kernel
theorem dX1_firstEnd_1 : decode cX1_firstEnd 1 = .ok (.istore_n 2, 1) := by decide +kernel
theorem dX1_firstEnd_2 : decode cX1_firstEnd 2 = .ok (.iload_n 2, 1) := by decide +kernel
theorem dX1_firstEnd_3 : decode cX1_firstEnd 3 = .ok (.aload_n 0, 1) := by decide +kernel
theorem dX1_firstEnd_4 : decode cX1_firstEnd 4 = .ok (.getfield 44, 3) := by decide +kernel
theorem dX1_firstEnd_7 : decode cX1_firstEnd 7 = .ok (.if_icmp .ge 31, 3) := by decide +kernel
theorem dX1_firstEnd_10 : decode cX1_firstEnd 10 = .ok (.aload_n 0, 1) := by decide +kernel
theorem dX1_firstEnd_11 : decode cX1_firstEnd 11 = .ok (.iload_n 1, 1) := by decide +kernel
theorem dX1_firstEnd_12 : decode cX1_firstEnd 12 = .ok (.invokevirtual 29, 3) := by decide +kernel
theorem dX1_firstEnd_15 : decode cX1_firstEnd 15 = .ok (.ifCond .eq 23, 3) := by decide +kernel
theorem dX1_firstEnd_18 : decode cX1_firstEnd 18 = .ok (.aload_n 0, 1) := by decide +kernel
theorem dX1_firstEnd_19 : decode cX1_firstEnd 19 = .ok (.iload_n 1, 1) := by decide +kernel
theorem dX1_firstEnd_20 : decode cX1_firstEnd 20 = .ok (.iload_n 2, 1) := by decide +kernel
theorem dX1_firstEnd_21 : decode cX1_firstEnd 21 = .ok (.iload_n 2, 1) := by decide +kernel
theorem dX1_firstEnd_22 : decode cX1_firstEnd 22 = .ok (.iconst 1, 1) := by decide +kernel
theorem dX1_firstEnd_23 : decode cX1_firstEnd 23 = .ok (.iadd, 1) := by decide +kernel
theorem dX1_firstEnd_24 : decode cX1_firstEnd 24 = .ok (.invokevirtual 52, 3) := by decide +kernel
theorem dX1_firstEnd_27 : decode cX1_firstEnd 27 = .ok (.ifCond .eq 5, 3) := by decide +kernel
theorem dX1_firstEnd_30 : decode cX1_firstEnd 30 = .ok (.iload_n 2, 1) := by decide +kernel
theorem dX1_firstEnd_31 : decode cX1_firstEnd 31 = .ok (.ireturn, 1) := by decide +kernel
theorem dX1_firstEnd_32 : decode cX1_firstEnd 32 = .ok (.iinc 2 1, 3) := by decide +kernel
theorem dX1_firstEnd_35 : decode cX1_firstEnd 35 = .ok (.goto (-33), 3) := by decide +kernel
theorem dX1_firstEnd_38 : decode cX1_firstEnd 38 = .ok (.iconst (-1), 1) := by decide +kernel
theorem dX1_firstEnd_39 : decode cX1_firstEnd 39 = .ok (.ireturn, 1) := by decide +kernel
theorem dX1_earliest_0 : decode cX1_earliest 0 = .ok (.iconst 0, 1) := by decide +kernel
theorem dX1_earliest_1 : decode cX1_earliest 1 = .ok (.istore_n 3, 1) := by decide +kernel
theorem dX1_earliest_2 : decode cX1_earliest 2 = .ok (.iload_n 3, 1) := by decide +kernel
theorem dX1_earliest_3 : decode cX1_earliest 3 = .ok (.iload_n 2, 1) := by decide +kernel
theorem dX1_earliest_4 : decode cX1_earliest 4 = .ok (.if_icmp .gt 47, 3) := by decide +kernel
theorem dX1_earliest_7 : decode cX1_earliest 7 = .ok (.aload_n 0, 1) := by decide +kernel
theorem dX1_earliest_8 : decode cX1_earliest 8 = .ok (.iload_n 1, 1) := by decide +kernel
theorem dX1_earliest_9 : decode cX1_earliest 9 = .ok (.invokevirtual 29, 3) := by decide +kernel
theorem dX1_earliest_12 : decode cX1_earliest 12 = .ok (.ifCond .eq 39, 3) := by decide +kernel
theorem dX1_earliest_15 : decode cX1_earliest 15 = .ok (.iload_n 2, 1) := by decide +kernel
theorem dX1_earliest_16 : decode cX1_earliest 16 = .ok (.aload_n 0, 1) := by decide +kernel
theorem dX1_earliest_17 : decode cX1_earliest 17 = .ok (.getfield 44, 3) := by decide +kernel
theorem dX1_earliest_20 : decode cX1_earliest 20 = .ok (.if_icmp .ge 31, 3) := by decide +kernel
theorem dX1_earliest_23 : decode cX1_earliest 23 = .ok (.aload_n 0, 1) := by decide +kernel
theorem dX1_earliest_24 : decode cX1_earliest 24 = .ok (.iload_n 1, 1) := by decide +kernel
theorem dX1_earliest_25 : decode cX1_earliest 25 = .ok (.iload_n 3, 1) := by decide +kernel
theorem dX1_earliest_26 : decode cX1_earliest 26 = .ok (.iload_n 2, 1) := by decide +kernel
theorem dX1_earliest_27 : decode cX1_earliest 27 = .ok (.iconst 1, 1) := by decide +kernel
theorem dX1_earliest_28 : decode cX1_earliest 28 = .ok (.iadd, 1) := by decide +kernel
theorem dX1_earliest_29 : decode cX1_earliest 29 = .ok (.invokevirtual 41, 3) := by decide +kernel
theorem dX1_earliest_32 : decode cX1_earliest 32 = .ok (.aload_n 0, 1) := by decide +kernel
theorem dX1_earliest_33 : decode cX1_earliest 33 = .ok (.getfield 22, 3) := by decide +kernel
theorem dX1_earliest_36 : decode cX1_earliest 36 = .ok (.iload_n 2, 1) := by decide +kernel
theorem dX1_earliest_37 : decode cX1_earliest 37 = .ok (.iconst 1, 1) := by decide +kernel
theorem dX1_earliest_38 : decode cX1_earliest 38 = .ok (.iadd, 1) := by decide +kernel
theorem dX1_earliest_39 : decode cX1_earliest 39 = .ok (.baload, 1) := by decide +kernel
theorem dX1_earliest_40 : decode cX1_earliest 40 = .ok (.ifCond .eq 5, 3) := by decide +kernel
theorem dX1_earliest_43 : decode cX1_earliest 43 = .ok (.iload_n 3, 1) := by decide +kernel
theorem dX1_earliest_44 : decode cX1_earliest 44 = .ok (.ireturn, 1) := by decide +kernel
theorem dX1_earliest_45 : decode cX1_earliest 45 = .ok (.iinc 3 1, 3) := by decide +kernel
theorem dX1_earliest_48 : decode cX1_earliest 48 = .ok (.goto (-46), 3) := by decide +kernel
theorem dX1_earliest_51 : decode cX1_earliest 51 = .ok (.iconst (-1), 1) := by decide +kernel
theorem dX1_earliest_52 : decode cX1_earliest 52 = .ok (.ireturn, 1) := by decide +kernel
theorem dX1_latest_0 : decode cX1_latest 0 = .ok (.iload_n 2, 1) := by decide +kernel
theorem dX1_latest_1 : decode cX1_latest 1 = .ok (.aload_n 0, 1) := by decide +kernel
theorem dX1_latest_2 : decode cX1_latest 2 = .ok (.getfield 44, 3) := by decide +kernel
theorem dX1_latest_5 : decode cX1_latest 5 = .ok (.if_icmp .ge 7, 3) := by decide +kernel
theorem dX1_latest_8 : decode cX1_latest 8 = .ok (.iload_n 2, 1) := by decide +kernel
theorem dX1_latest_9 : decode cX1_latest 9 = .ok (.goto 4, 3) := by decide +kernel
theorem dX1_latest_12 : decode cX1_latest 12 = .ok (.iconst (-1), 1) := by decide +kernel
theorem dX1_latest_13 : decode cX1_latest 13 = .ok (.istore_n 3, 1) := by decide +kernel
theorem dX1_latest_14 : decode cX1_latest 14 = .ok (.iload_n 3, 1) := by decide +kernel
theorem dX1_latest_15 : decode cX1_latest 15 = .ok (.ifCond .lt 39, 3) := by decide +kernel
theorem dX1_latest_18 : decode cX1_latest 18 = .ok (.aload_n 0, 1) := by decide +kernel
theorem dX1_latest_19 : decode cX1_latest 19 = .ok (.iload_n 1, 1) := by decide +kernel
theorem dX1_latest_20 : decode cX1_latest 20 = .ok (.invokevirtual 29, 3) := by decide +kernel
theorem dX1_latest_23 : decode cX1_latest 23 = .ok (.ifCond .eq 31, 3) := by decide +kernel
theorem dX1_latest_26 : decode cX1_latest 26 = .ok (.aload_n 0, 1) := by decide +kernel
theorem dX1_latest_27 : decode cX1_latest 27 = .ok (.iload_n 1, 1) := by decide +kernel
theorem dX1_latest_28 : decode cX1_latest 28 = .ok (.iload_n 3, 1) := by decide +kernel
theorem dX1_latest_29 : decode cX1_latest 29 = .ok (.iload_n 2, 1) := by decide +kernel
theorem dX1_latest_30 : decode cX1_latest 30 = .ok (.iconst 1, 1) := by decide +kernel
theorem dX1_latest_31 : decode cX1_latest 31 = .ok (.iadd, 1) := by decide +kernel
theorem dX1_latest_32 : decode cX1_latest 32 = .ok (.invokevirtual 41, 3) := by decide +kernel
theorem dX1_latest_35 : decode cX1_latest 35 = .ok (.aload_n 0, 1) := by decide +kernel
theorem dX1_latest_36 : decode cX1_latest 36 = .ok (.getfield 22, 3) := by decide +kernel
theorem dX1_latest_39 : decode cX1_latest 39 = .ok (.iload_n 2, 1) := by decide +kernel
theorem dX1_latest_40 : decode cX1_latest 40 = .ok (.iconst 1, 1) := by decide +kernel
theorem dX1_latest_41 : decode cX1_latest 41 = .ok (.iadd, 1) := by decide +kernel
theorem dX1_latest_42 : decode cX1_latest 42 = .ok (.baload, 1) := by decide +kernel
theorem dX1_latest_43 : decode cX1_latest 43 = .ok (.ifCond .eq 5, 3) := by decide +kernel
theorem dX1_latest_46 : decode cX1_latest 46 = .ok (.iload_n 3, 1) := by decide +kernel
theorem dX1_latest_47 : decode cX1_latest 47 = .ok (.ireturn, 1) := by decide +kernel
theorem dX1_latest_48 : decode cX1_latest 48 = .ok (.iinc 3 (-1), 3) := by decide +kernel
theorem dX1_latest_51 : decode cX1_latest 51 = .ok (.goto (-37), 3) := by decide +kernel
theorem dX1_latest_54 : decode cX1_latest 54 = .ok (.iconst (-1), 1) := by decide +kernel
theorem dX1_latest_55 : decode cX1_latest 55 = .ok (.ireturn, 1) := by decide +kernel
theorem dX1_longest_0 : decode cX1_longest 0 = .ok (.iconst 0, 1) := by decide +kernel
theorem dX1_longest_1 : decode cX1_longest 1 = .ok (.istore_n 2, 1) := by decide +kernel
theorem dX1_longest_2 : decode cX1_longest 2 = .ok (.iconst 0, 1) := by decide +kernel
theorem dX1_longest_3 : decode cX1_longest 3 = .ok (.istore_n 3, 1) := by decide +kernel
theorem dX1_longest_4 : decode cX1_longest 4 = .ok (.iload_n 3, 1) := by decide +kernel
theorem dX1_longest_5 : decode cX1_longest 5 = .ok (.aload_n 0, 1) := by decide +kernel
theorem dX1_longest_6 : decode cX1_longest 6 = .ok (.getfield 44, 3) := by decide +kernel
theorem dX1_longest_9 : decode cX1_longest 9 = .ok (.if_icmp .ge 74, 3) := by decide +kernel
theorem dX1_longest_12 : decode cX1_longest 12 = .ok (.aload_n 0, 1) := by decide +kernel
theorem dX1_longest_13 : decode cX1_longest 13 = .ok (.iload_n 1, 1) := by decide +kernel
theorem dX1_longest_14 : decode cX1_longest 14 = .ok (.invokevirtual 29, 3) := by decide +kernel
theorem dX1_longest_17 : decode cX1_longest 17 = .ok (.ifCond .eq 66, 3) := by decide +kernel
theorem dX1_longest_20 : decode cX1_longest 20 = .ok (.aload_n 0, 1) := by decide +kernel
theorem dX1_longest_21 : decode cX1_longest 21 = .ok (.iload_n 1, 1) := by decide +kernel
theorem dX1_longest_22 : decode cX1_longest 22 = .ok (.iload_n 3, 1) := by decide +kernel
theorem dX1_longest_23 : decode cX1_longest 23 = .ok (.aload_n 0, 1) := by decide +kernel
theorem dX1_longest_24 : decode cX1_longest 24 = .ok (.getfield 44, 3) := by decide +kernel
theorem dX1_longest_27 : decode cX1_longest 27 = .ok (.invokevirtual 41, 3) := by decide +kernel
theorem dX1_longest_30 : decode cX1_longest 30 = .ok (.iload_n 3, 1) := by decide +kernel
theorem dX1_longest_31 : decode cX1_longest 31 = .ok (.iconst 1, 1) := by decide +kernel
theorem dX1_longest_32 : decode cX1_longest 32 = .ok (.iadd, 1) := by decide +kernel
theorem dX1_longest_33 : decode cX1_longest 33 = .ok (.istore 4, 2) := by decide +kernel
theorem dX1_longest_35 : decode cX1_longest 35 = .ok (.iload 4, 2) := by decide +kernel
theorem dX1_longest_37 : decode cX1_longest 37 = .ok (.aload_n 0, 1) := by decide +kernel
theorem dX1_longest_38 : decode cX1_longest 38 = .ok (.getfield 44, 3) := by decide +kernel
theorem dX1_longest_41 : decode cX1_longest 41 = .ok (.if_icmp .gt 36, 3) := by decide +kernel
theorem dX1_longest_44 : decode cX1_longest 44 = .ok (.aload_n 0, 1) := by decide +kernel
theorem dX1_longest_45 : decode cX1_longest 45 = .ok (.getfield 22, 3) := by decide +kernel
theorem dX1_longest_48 : decode cX1_longest 48 = .ok (.iload 4, 2) := by decide +kernel
theorem dX1_longest_50 : decode cX1_longest 50 = .ok (.baload, 1) := by decide +kernel
theorem dX1_longest_51 : decode cX1_longest 51 = .ok (.ifCond .eq 18, 3) := by decide +kernel
theorem dX1_longest_54 : decode cX1_longest 54 = .ok (.iload 4, 2) := by decide +kernel
theorem dX1_longest_56 : decode cX1_longest 56 = .ok (.iload_n 3, 1) := by decide +kernel
theorem dX1_longest_57 : decode cX1_longest 57 = .ok (.isub, 1) := by decide +kernel
theorem dX1_longest_58 : decode cX1_longest 58 = .ok (.iload_n 2, 1) := by decide +kernel
theorem dX1_longest_59 : decode cX1_longest 59 = .ok (.if_icmp .le 10, 3) := by decide +kernel
theorem dX1_longest_62 : decode cX1_longest 62 = .ok (.iload 4, 2) := by decide +kernel
theorem dX1_longest_64 : decode cX1_longest 64 = .ok (.iload_n 3, 1) := by decide +kernel
theorem dX1_longest_65 : decode cX1_longest 65 = .ok (.isub, 1) := by decide +kernel
theorem dX1_longest_66 : decode cX1_longest 66 = .ok (.goto 4, 3) := by decide +kernel
theorem dX1_longest_69 : decode cX1_longest 69 = .ok (.iload_n 2, 1) := by decide +kernel
theorem dX1_longest_70 : decode cX1_longest 70 = .ok (.istore_n 2, 1) := by decide +kernel
theorem dX1_longest_71 : decode cX1_longest 71 = .ok (.iinc 4 1, 3) := by decide +kernel
theorem dX1_longest_74 : decode cX1_longest 74 = .ok (.goto (-39), 3) := by decide +kernel
theorem dX1_longest_77 : decode cX1_longest 77 = .ok (.iinc 3 1, 3) := by decide +kernel
theorem dX1_longest_80 : decode cX1_longest 80 = .ok (.goto (-76), 3) := by decide +kernel
theorem dX1_longest_83 : decode cX1_longest 83 = .ok (.iload_n 2, 1) := by decide +kernel
theorem dX1_longest_84 : decode cX1_longest 84 = .ok (.ireturn, 1) := by decide +kernel
theorem dX1_completing_0 : decode cX1_completing 0 = .ok (.iconst 0, 1) := by decide +kernel
theorem dX1_completing_1 : decode cX1_completing 1 = .ok (.istore_n 2, 1) := by decide +kernel
theorem dX1_completing_2 : decode cX1_completing 2 = .ok (.iconst 0, 1) := by decide +kernel
theorem dX1_completing_3 : decode cX1_completing 3 = .ok (.istore_n 3, 1) := by decide +kernel
theorem dX1_completing_4 : decode cX1_completing 4 = .ok (.iload_n 3, 1) := by decide +kernel
theorem dX1_completing_5 : decode cX1_completing 5 = .ok (.iconst 4, 1) := by decide +kernel
theorem dX1_completing_6 : decode cX1_completing 6 = .ok (.if_icmp .ge 55, 3) := by decide +kernel
theorem dX1_completing_9 : decode cX1_completing 9 = .ok (.aload_n 0, 1) := by decide +kernel
theorem dX1_completing_10 : decode cX1_completing 10 = .ok (.iload_n 1, 1) := by decide +kernel
theorem dX1_completing_11 : decode cX1_completing 11 = .ok (.invokevirtual 29, 3) := by decide +kernel
theorem dX1_completing_14 : decode cX1_completing 14 = .ok (.ifCond .eq 47, 3) := by decide +kernel
theorem dX1_completing_17 : decode cX1_completing 17 = .ok (.aload_n 0, 1) := by decide +kernel
theorem dX1_completing_18 : decode cX1_completing 18 = .ok (.getfield 19, 3) := by decide +kernel
theorem dX1_completing_21 : decode cX1_completing 21 = .ok (.aload_n 0, 1) := by decide +kernel
theorem dX1_completing_22 : decode cX1_completing 22 = .ok (.getfield 44, 3) := by decide +kernel
theorem dX1_completing_25 : decode cX1_completing 25 = .ok (.iload_n 3, 1) := by decide +kernel
theorem dX1_completing_26 : decode cX1_completing 26 = .ok (.iastore, 1) := by decide +kernel
theorem dX1_completing_27 : decode cX1_completing 27 = .ok (.aload_n 0, 1) := by decide +kernel
theorem dX1_completing_28 : decode cX1_completing 28 = .ok (.iload_n 1, 1) := by decide +kernel
theorem dX1_completing_29 : decode cX1_completing 29 = .ok (.aload_n 0, 1) := by decide +kernel
theorem dX1_completing_30 : decode cX1_completing 30 = .ok (.getfield 44, 3) := by decide +kernel
theorem dX1_completing_33 : decode cX1_completing 33 = .ok (.aload_n 0, 1) := by decide +kernel
theorem dX1_completing_34 : decode cX1_completing 34 = .ok (.getfield 44, 3) := by decide +kernel
theorem dX1_completing_37 : decode cX1_completing 37 = .ok (.iconst 1, 1) := by decide +kernel
theorem dX1_completing_38 : decode cX1_completing 38 = .ok (.iadd, 1) := by decide +kernel
theorem dX1_completing_39 : decode cX1_completing 39 = .ok (.invokevirtual 52, 3) := by decide +kernel
theorem dX1_completing_42 : decode cX1_completing 42 = .ok (.ifCond .eq 11, 3) := by decide +kernel
theorem dX1_completing_45 : decode cX1_completing 45 = .ok (.iload_n 2, 1) := by decide +kernel
theorem dX1_completing_46 : decode cX1_completing 46 = .ok (.iconst 1, 1) := by decide +kernel
theorem dX1_completing_47 : decode cX1_completing 47 = .ok (.iload_n 3, 1) := by decide +kernel
theorem dX1_completing_48 : decode cX1_completing 48 = .ok (.ishl, 1) := by decide +kernel
theorem dX1_completing_49 : decode cX1_completing 49 = .ok (.ior, 1) := by decide +kernel
theorem dX1_completing_50 : decode cX1_completing 50 = .ok (.goto 4, 3) := by decide +kernel
theorem dX1_completing_53 : decode cX1_completing 53 = .ok (.iload_n 2, 1) := by decide +kernel
theorem dX1_completing_54 : decode cX1_completing 54 = .ok (.istore_n 2, 1) := by decide +kernel
theorem dX1_completing_55 : decode cX1_completing 55 = .ok (.iinc 3 1, 3) := by decide +kernel
theorem dX1_completing_58 : decode cX1_completing 58 = .ok (.goto (-54), 3) := by decide +kernel
theorem dX1_completing_61 : decode cX1_completing 61 = .ok (.iload_n 2, 1) := by decide +kernel
theorem dX1_completing_62 : decode cX1_completing 62 = .ok (.ireturn, 1) := by decide +kernel
theorem dX1_emptyFits_0 : decode cX1_emptyFits 0 = .ok (.iconst 0, 1) := by decide +kernel
theorem dX1_emptyFits_1 : decode cX1_emptyFits 1 = .ok (.istore_n 1, 1) := by decide +kernel
theorem dX1_emptyFits_2 : decode cX1_emptyFits 2 = .ok (.iconst 0, 1) := by decide +kernel
theorem dX1_emptyFits_3 : decode cX1_emptyFits 3 = .ok (.istore_n 2, 1) := by decide +kernel
theorem dX1_emptyFits_4 : decode cX1_emptyFits 4 = .ok (.iload_n 2, 1) := by decide +kernel
theorem dX1_emptyFits_5 : decode cX1_emptyFits 5 = .ok (.iconst 4, 1) := by decide +kernel
theorem dX1_emptyFits_6 : decode cX1_emptyFits 6 = .ok (.if_icmp .ge 35, 3) := by decide +kernel
theorem dX1_emptyFits_9 : decode cX1_emptyFits 9 = .ok (.aload_n 0, 1) := by decide +kernel
theorem dX1_emptyFits_10 : decode cX1_emptyFits 10 = .ok (.iload_n 2, 1) := by decide +kernel
theorem dX1_emptyFits_11 : decode cX1_emptyFits 11 = .ok (.iconst 0, 1) := by decide +kernel
theorem dX1_emptyFits_12 : decode cX1_emptyFits 12 = .ok (.iconst 0, 1) := by decide +kernel
theorem dX1_emptyFits_13 : decode cX1_emptyFits 13 = .ok (.invokevirtual 41, 3) := by decide +kernel
theorem dX1_emptyFits_16 : decode cX1_emptyFits 16 = .ok (.aload_n 0, 1) := by decide +kernel
theorem dX1_emptyFits_17 : decode cX1_emptyFits 17 = .ok (.getfield 22, 3) := by decide +kernel
theorem dX1_emptyFits_20 : decode cX1_emptyFits 20 = .ok (.iconst 0, 1) := by decide +kernel
theorem dX1_emptyFits_21 : decode cX1_emptyFits 21 = .ok (.baload, 1) := by decide +kernel
theorem dX1_emptyFits_22 : decode cX1_emptyFits 22 = .ok (.ifCond .eq 11, 3) := by decide +kernel
theorem dX1_emptyFits_25 : decode cX1_emptyFits 25 = .ok (.iload_n 1, 1) := by decide +kernel
theorem dX1_emptyFits_26 : decode cX1_emptyFits 26 = .ok (.iconst 1, 1) := by decide +kernel
theorem dX1_emptyFits_27 : decode cX1_emptyFits 27 = .ok (.iload_n 2, 1) := by decide +kernel
theorem dX1_emptyFits_28 : decode cX1_emptyFits 28 = .ok (.ishl, 1) := by decide +kernel
theorem dX1_emptyFits_29 : decode cX1_emptyFits 29 = .ok (.ior, 1) := by decide +kernel
theorem dX1_emptyFits_30 : decode cX1_emptyFits 30 = .ok (.goto 4, 3) := by decide +kernel
theorem dX1_emptyFits_33 : decode cX1_emptyFits 33 = .ok (.iload_n 1, 1) := by decide +kernel
theorem dX1_emptyFits_34 : decode cX1_emptyFits 34 = .ok (.istore_n 1, 1) := by decide +kernel
theorem dX1_emptyFits_35 : decode cX1_emptyFits 35 = .ok (.iinc 2 1, 3) := by decide +kernel
theorem dX1_emptyFits_38 : decode cX1_emptyFits 38 = .ok (.goto (-34), 3) := by decide +kernel
theorem dX1_emptyFits_41 : decode cX1_emptyFits 41 = .ok (.iload_n 1, 1) := by decide +kernel
theorem dX1_emptyFits_42 : decode cX1_emptyFits 42 = .ok (.ireturn, 1) := by decide +kernel
end
section
set_option maxRecDepth 100000
theorem dL_law_0 : decode cL_law 0 = .ok (.new 7, 3) := by decide +kernel
theorem dL_law_3 : decode cL_law 3 = .ok (.dup, 1) := by decide +kernel
theorem dL_law_4 : decode cL_law 4 = .ok (.invokespecial 9, 3) := by decide +kernel
theorem dL_law_7 : decode cL_law 7 = .ok (.astore_n 1, 1) := by decide +kernel
theorem dL_law_8 : decode cL_law 8 = .ok (.new 10, 3) := by decide +kernel
theorem dL_law_11 : decode cL_law 11 = .ok (.dup, 1) := by decide +kernel
theorem dL_law_12 : decode cL_law 12 = .ok (.invokespecial 12, 3) := by decide +kernel
theorem dL_law_15 : decode cL_law 15 = .ok (.astore_n 2, 1) := by decide +kernel
theorem dL_law_16 : decode cL_law 16 = .ok (.iconst 0, 1) := by decide +kernel
theorem dL_law_17 : decode cL_law 17 = .ok (.istore_n 3, 1) := by decide +kernel
theorem dL_law_18 : decode cL_law 18 = .ok (.iload_n 3, 1) := by decide +kernel
theorem dL_law_19 : decode cL_law 19 = .ok (.aload_n 0, 1) := by decide +kernel
theorem dL_law_20 : decode cL_law 20 = .ok (.arraylength, 1) := by decide +kernel
theorem dL_law_21 : decode cL_law 21 = .ok (.iconst 4, 1) := by decide +kernel
theorem dL_law_22 : decode cL_law 22 = .ok (.isub, 1) := by decide +kernel
theorem dL_law_23 : decode cL_law 23 = .ok (.if_icmp .gt 417, 3) := by decide +kernel
theorem dL_law_26 : decode cL_law 26 = .ok (.aload_n 0, 1) := by decide +kernel
theorem dL_law_27 : decode cL_law 27 = .ok (.iload_n 3, 1) := by decide +kernel
theorem dL_law_28 : decode cL_law 28 = .ok (.iaload, 1) := by decide +kernel
theorem dL_law_29 : decode cL_law 29 = .ok (.bipush 15, 2) := by decide +kernel
theorem dL_law_31 : decode cL_law 31 = .ok (.iand, 1) := by decide +kernel
theorem dL_law_32 : decode cL_law 32 = .ok (.tableswitch 402 0 13 #[72, 115, 138, 161, 184, 195, 208, 231, 254, 277, 310, 343, 366, 389], 72) := by decide +kernel
theorem dL_law_104 : decode cL_law 104 = .ok (.aload_n 1, 1) := by decide +kernel
theorem dL_law_105 : decode cL_law 105 = .ok (.aload_n 0, 1) := by decide +kernel
theorem dL_law_106 : decode cL_law 106 = .ok (.iload_n 3, 1) := by decide +kernel
theorem dL_law_107 : decode cL_law 107 = .ok (.iconst 1, 1) := by decide +kernel
theorem dL_law_108 : decode cL_law 108 = .ok (.iadd, 1) := by decide +kernel
theorem dL_law_109 : decode cL_law 109 = .ok (.iaload, 1) := by decide +kernel
theorem dL_law_110 : decode cL_law 110 = .ok (.aload_n 0, 1) := by decide +kernel
theorem dL_law_111 : decode cL_law 111 = .ok (.iload_n 3, 1) := by decide +kernel
theorem dL_law_112 : decode cL_law 112 = .ok (.iconst 2, 1) := by decide +kernel
theorem dL_law_113 : decode cL_law 113 = .ok (.iadd, 1) := by decide +kernel
theorem dL_law_114 : decode cL_law 114 = .ok (.iaload, 1) := by decide +kernel
theorem dL_law_115 : decode cL_law 115 = .ok (.aload_n 0, 1) := by decide +kernel
theorem dL_law_116 : decode cL_law 116 = .ok (.iload_n 3, 1) := by decide +kernel
theorem dL_law_117 : decode cL_law 117 = .ok (.iconst 3, 1) := by decide +kernel
theorem dL_law_118 : decode cL_law 118 = .ok (.iadd, 1) := by decide +kernel
theorem dL_law_119 : decode cL_law 119 = .ok (.iaload, 1) := by decide +kernel
theorem dL_law_120 : decode cL_law 120 = .ok (.invokevirtual 13, 3) := by decide +kernel
theorem dL_law_123 : decode cL_law 123 = .ok (.aload_n 2, 1) := by decide +kernel
theorem dL_law_124 : decode cL_law 124 = .ok (.aload_n 0, 1) := by decide +kernel
theorem dL_law_125 : decode cL_law 125 = .ok (.iload_n 3, 1) := by decide +kernel
theorem dL_law_126 : decode cL_law 126 = .ok (.iconst 1, 1) := by decide +kernel
theorem dL_law_127 : decode cL_law 127 = .ok (.iadd, 1) := by decide +kernel
theorem dL_law_128 : decode cL_law 128 = .ok (.iaload, 1) := by decide +kernel
theorem dL_law_129 : decode cL_law 129 = .ok (.aload_n 0, 1) := by decide +kernel
theorem dL_law_130 : decode cL_law 130 = .ok (.iload_n 3, 1) := by decide +kernel
theorem dL_law_131 : decode cL_law 131 = .ok (.iconst 2, 1) := by decide +kernel
theorem dL_law_132 : decode cL_law 132 = .ok (.iadd, 1) := by decide +kernel
theorem dL_law_133 : decode cL_law 133 = .ok (.iaload, 1) := by decide +kernel
theorem dL_law_134 : decode cL_law 134 = .ok (.aload_n 0, 1) := by decide +kernel
theorem dL_law_135 : decode cL_law 135 = .ok (.iload_n 3, 1) := by decide +kernel
theorem dL_law_136 : decode cL_law 136 = .ok (.iconst 3, 1) := by decide +kernel
theorem dL_law_137 : decode cL_law 137 = .ok (.iadd, 1) := by decide +kernel
theorem dL_law_138 : decode cL_law 138 = .ok (.iaload, 1) := by decide +kernel
theorem dL_law_139 : decode cL_law 139 = .ok (.invokevirtual 17, 3) := by decide +kernel
theorem dL_law_142 : decode cL_law 142 = .ok (.if_icmp .eq 292, 3) := by decide +kernel
theorem dL_law_145 : decode cL_law 145 = .ok (.iconst 0, 1) := by decide +kernel
theorem dL_law_146 : decode cL_law 146 = .ok (.ireturn, 1) := by decide +kernel
theorem dL_law_147 : decode cL_law 147 = .ok (.aload_n 1, 1) := by decide +kernel
theorem dL_law_148 : decode cL_law 148 = .ok (.aload_n 0, 1) := by decide +kernel
theorem dL_law_149 : decode cL_law 149 = .ok (.iload_n 3, 1) := by decide +kernel
theorem dL_law_150 : decode cL_law 150 = .ok (.iconst 1, 1) := by decide +kernel
theorem dL_law_151 : decode cL_law 151 = .ok (.iadd, 1) := by decide +kernel
theorem dL_law_152 : decode cL_law 152 = .ok (.iaload, 1) := by decide +kernel
theorem dL_law_153 : decode cL_law 153 = .ok (.invokevirtual 18, 3) := by decide +kernel
theorem dL_law_156 : decode cL_law 156 = .ok (.aload_n 2, 1) := by decide +kernel
theorem dL_law_157 : decode cL_law 157 = .ok (.aload_n 0, 1) := by decide +kernel
theorem dL_law_158 : decode cL_law 158 = .ok (.iload_n 3, 1) := by decide +kernel
theorem dL_law_159 : decode cL_law 159 = .ok (.iconst 1, 1) := by decide +kernel
theorem dL_law_160 : decode cL_law 160 = .ok (.iadd, 1) := by decide +kernel
theorem dL_law_161 : decode cL_law 161 = .ok (.iaload, 1) := by decide +kernel
theorem dL_law_162 : decode cL_law 162 = .ok (.invokevirtual 22, 3) := by decide +kernel
theorem dL_law_165 : decode cL_law 165 = .ok (.if_icmp .eq 269, 3) := by decide +kernel
theorem dL_law_168 : decode cL_law 168 = .ok (.iconst 0, 1) := by decide +kernel
theorem dL_law_169 : decode cL_law 169 = .ok (.ireturn, 1) := by decide +kernel
theorem dL_law_170 : decode cL_law 170 = .ok (.aload_n 1, 1) := by decide +kernel
theorem dL_law_171 : decode cL_law 171 = .ok (.aload_n 0, 1) := by decide +kernel
theorem dL_law_172 : decode cL_law 172 = .ok (.iload_n 3, 1) := by decide +kernel
theorem dL_law_173 : decode cL_law 173 = .ok (.iconst 1, 1) := by decide +kernel
theorem dL_law_174 : decode cL_law 174 = .ok (.iadd, 1) := by decide +kernel
theorem dL_law_175 : decode cL_law 175 = .ok (.iaload, 1) := by decide +kernel
theorem dL_law_176 : decode cL_law 176 = .ok (.invokevirtual 23, 3) := by decide +kernel
theorem dL_law_179 : decode cL_law 179 = .ok (.aload_n 2, 1) := by decide +kernel
theorem dL_law_180 : decode cL_law 180 = .ok (.aload_n 0, 1) := by decide +kernel
theorem dL_law_181 : decode cL_law 181 = .ok (.iload_n 3, 1) := by decide +kernel
theorem dL_law_182 : decode cL_law 182 = .ok (.iconst 1, 1) := by decide +kernel
theorem dL_law_183 : decode cL_law 183 = .ok (.iadd, 1) := by decide +kernel
theorem dL_law_184 : decode cL_law 184 = .ok (.iaload, 1) := by decide +kernel
theorem dL_law_185 : decode cL_law 185 = .ok (.invokevirtual 26, 3) := by decide +kernel
theorem dL_law_188 : decode cL_law 188 = .ok (.if_icmp .eq 246, 3) := by decide +kernel
theorem dL_law_191 : decode cL_law 191 = .ok (.iconst 0, 1) := by decide +kernel
theorem dL_law_192 : decode cL_law 192 = .ok (.ireturn, 1) := by decide +kernel
theorem dL_law_193 : decode cL_law 193 = .ok (.aload_n 1, 1) := by decide +kernel
theorem dL_law_194 : decode cL_law 194 = .ok (.aload_n 0, 1) := by decide +kernel
theorem dL_law_195 : decode cL_law 195 = .ok (.iload_n 3, 1) := by decide +kernel
theorem dL_law_196 : decode cL_law 196 = .ok (.iconst 1, 1) := by decide +kernel
theorem dL_law_197 : decode cL_law 197 = .ok (.iadd, 1) := by decide +kernel
theorem dL_law_198 : decode cL_law 198 = .ok (.iaload, 1) := by decide +kernel
theorem dL_law_199 : decode cL_law 199 = .ok (.invokevirtual 27, 3) := by decide +kernel
theorem dL_law_202 : decode cL_law 202 = .ok (.aload_n 2, 1) := by decide +kernel
theorem dL_law_203 : decode cL_law 203 = .ok (.aload_n 0, 1) := by decide +kernel
theorem dL_law_204 : decode cL_law 204 = .ok (.iload_n 3, 1) := by decide +kernel
theorem dL_law_205 : decode cL_law 205 = .ok (.iconst 1, 1) := by decide +kernel
theorem dL_law_206 : decode cL_law 206 = .ok (.iadd, 1) := by decide +kernel
theorem dL_law_207 : decode cL_law 207 = .ok (.iaload, 1) := by decide +kernel
theorem dL_law_208 : decode cL_law 208 = .ok (.invokevirtual 30, 3) := by decide +kernel
theorem dL_law_211 : decode cL_law 211 = .ok (.if_icmp .eq 223, 3) := by decide +kernel
theorem dL_law_214 : decode cL_law 214 = .ok (.iconst 0, 1) := by decide +kernel
theorem dL_law_215 : decode cL_law 215 = .ok (.ireturn, 1) := by decide +kernel
theorem dL_law_216 : decode cL_law 216 = .ok (.aload_n 1, 1) := by decide +kernel
theorem dL_law_217 : decode cL_law 217 = .ok (.invokevirtual 31, 3) := by decide +kernel
theorem dL_law_220 : decode cL_law 220 = .ok (.aload_n 2, 1) := by decide +kernel
theorem dL_law_221 : decode cL_law 221 = .ok (.invokevirtual 34, 3) := by decide +kernel
theorem dL_law_224 : decode cL_law 224 = .ok (.goto 210, 3) := by decide +kernel
theorem dL_law_227 : decode cL_law 227 = .ok (.aload_n 1, 1) := by decide +kernel
theorem dL_law_228 : decode cL_law 228 = .ok (.invokevirtual 35, 3) := by decide +kernel
theorem dL_law_231 : decode cL_law 231 = .ok (.aload_n 2, 1) := by decide +kernel
theorem dL_law_232 : decode cL_law 232 = .ok (.invokevirtual 39, 3) := by decide +kernel
theorem dL_law_235 : decode cL_law 235 = .ok (.if_icmp .eq 199, 3) := by decide +kernel
theorem dL_law_238 : decode cL_law 238 = .ok (.iconst 0, 1) := by decide +kernel
theorem dL_law_239 : decode cL_law 239 = .ok (.ireturn, 1) := by decide +kernel
theorem dL_law_240 : decode cL_law 240 = .ok (.aload_n 1, 1) := by decide +kernel
theorem dL_law_241 : decode cL_law 241 = .ok (.aload_n 0, 1) := by decide +kernel
theorem dL_law_242 : decode cL_law 242 = .ok (.iload_n 3, 1) := by decide +kernel
theorem dL_law_243 : decode cL_law 243 = .ok (.iconst 1, 1) := by decide +kernel
theorem dL_law_244 : decode cL_law 244 = .ok (.iadd, 1) := by decide +kernel
theorem dL_law_245 : decode cL_law 245 = .ok (.iaload, 1) := by decide +kernel
theorem dL_law_246 : decode cL_law 246 = .ok (.invokevirtual 40, 3) := by decide +kernel
theorem dL_law_249 : decode cL_law 249 = .ok (.aload_n 2, 1) := by decide +kernel
theorem dL_law_250 : decode cL_law 250 = .ok (.aload_n 0, 1) := by decide +kernel
theorem dL_law_251 : decode cL_law 251 = .ok (.iload_n 3, 1) := by decide +kernel
theorem dL_law_252 : decode cL_law 252 = .ok (.iconst 1, 1) := by decide +kernel
theorem dL_law_253 : decode cL_law 253 = .ok (.iadd, 1) := by decide +kernel
theorem dL_law_254 : decode cL_law 254 = .ok (.iaload, 1) := by decide +kernel
theorem dL_law_255 : decode cL_law 255 = .ok (.invokevirtual 43, 3) := by decide +kernel
theorem dL_law_258 : decode cL_law 258 = .ok (.if_icmp .eq 176, 3) := by decide +kernel
theorem dL_law_261 : decode cL_law 261 = .ok (.iconst 0, 1) := by decide +kernel
theorem dL_law_262 : decode cL_law 262 = .ok (.ireturn, 1) := by decide +kernel
theorem dL_law_263 : decode cL_law 263 = .ok (.aload_n 1, 1) := by decide +kernel
end
section
set_option maxRecDepth 100000
theorem dL_law_264 : decode cL_law 264 = .ok (.aload_n 0, 1) := by decide +kernel
theorem dL_law_265 : decode cL_law 265 = .ok (.iload_n 3, 1) := by decide +kernel
theorem dL_law_266 : decode cL_law 266 = .ok (.iconst 1, 1) := by decide +kernel
theorem dL_law_267 : decode cL_law 267 = .ok (.iadd, 1) := by decide +kernel
theorem dL_law_268 : decode cL_law 268 = .ok (.iaload, 1) := by decide +kernel
theorem dL_law_269 : decode cL_law 269 = .ok (.invokevirtual 44, 3) := by decide +kernel
theorem dL_law_272 : decode cL_law 272 = .ok (.aload_n 2, 1) := by decide +kernel
theorem dL_law_273 : decode cL_law 273 = .ok (.aload_n 0, 1) := by decide +kernel
theorem dL_law_274 : decode cL_law 274 = .ok (.iload_n 3, 1) := by decide +kernel
theorem dL_law_275 : decode cL_law 275 = .ok (.iconst 1, 1) := by decide +kernel
theorem dL_law_276 : decode cL_law 276 = .ok (.iadd, 1) := by decide +kernel
theorem dL_law_277 : decode cL_law 277 = .ok (.iaload, 1) := by decide +kernel
theorem dL_law_278 : decode cL_law 278 = .ok (.invokevirtual 47, 3) := by decide +kernel
theorem dL_law_281 : decode cL_law 281 = .ok (.if_icmp .eq 153, 3) := by decide +kernel
theorem dL_law_284 : decode cL_law 284 = .ok (.iconst 0, 1) := by decide +kernel
theorem dL_law_285 : decode cL_law 285 = .ok (.ireturn, 1) := by decide +kernel
theorem dL_law_286 : decode cL_law 286 = .ok (.aload_n 1, 1) := by decide +kernel
theorem dL_law_287 : decode cL_law 287 = .ok (.aload_n 0, 1) := by decide +kernel
theorem dL_law_288 : decode cL_law 288 = .ok (.iload_n 3, 1) := by decide +kernel
theorem dL_law_289 : decode cL_law 289 = .ok (.iconst 1, 1) := by decide +kernel
theorem dL_law_290 : decode cL_law 290 = .ok (.iadd, 1) := by decide +kernel
theorem dL_law_291 : decode cL_law 291 = .ok (.iaload, 1) := by decide +kernel
theorem dL_law_292 : decode cL_law 292 = .ok (.invokevirtual 48, 3) := by decide +kernel
theorem dL_law_295 : decode cL_law 295 = .ok (.aload_n 2, 1) := by decide +kernel
theorem dL_law_296 : decode cL_law 296 = .ok (.aload_n 0, 1) := by decide +kernel
theorem dL_law_297 : decode cL_law 297 = .ok (.iload_n 3, 1) := by decide +kernel
theorem dL_law_298 : decode cL_law 298 = .ok (.iconst 1, 1) := by decide +kernel
theorem dL_law_299 : decode cL_law 299 = .ok (.iadd, 1) := by decide +kernel
theorem dL_law_300 : decode cL_law 300 = .ok (.iaload, 1) := by decide +kernel
theorem dL_law_301 : decode cL_law 301 = .ok (.invokevirtual 51, 3) := by decide +kernel
theorem dL_law_304 : decode cL_law 304 = .ok (.if_icmp .eq 130, 3) := by decide +kernel
theorem dL_law_307 : decode cL_law 307 = .ok (.iconst 0, 1) := by decide +kernel
theorem dL_law_308 : decode cL_law 308 = .ok (.ireturn, 1) := by decide +kernel
theorem dL_law_309 : decode cL_law 309 = .ok (.aload_n 1, 1) := by decide +kernel
theorem dL_law_310 : decode cL_law 310 = .ok (.aload_n 0, 1) := by decide +kernel
theorem dL_law_311 : decode cL_law 311 = .ok (.iload_n 3, 1) := by decide +kernel
theorem dL_law_312 : decode cL_law 312 = .ok (.iconst 1, 1) := by decide +kernel
theorem dL_law_313 : decode cL_law 313 = .ok (.iadd, 1) := by decide +kernel
theorem dL_law_314 : decode cL_law 314 = .ok (.iaload, 1) := by decide +kernel
theorem dL_law_315 : decode cL_law 315 = .ok (.aload_n 0, 1) := by decide +kernel
theorem dL_law_316 : decode cL_law 316 = .ok (.iload_n 3, 1) := by decide +kernel
theorem dL_law_317 : decode cL_law 317 = .ok (.iconst 2, 1) := by decide +kernel
theorem dL_law_318 : decode cL_law 318 = .ok (.iadd, 1) := by decide +kernel
theorem dL_law_319 : decode cL_law 319 = .ok (.iaload, 1) := by decide +kernel
theorem dL_law_320 : decode cL_law 320 = .ok (.invokevirtual 52, 3) := by decide +kernel
theorem dL_law_323 : decode cL_law 323 = .ok (.aload_n 2, 1) := by decide +kernel
theorem dL_law_324 : decode cL_law 324 = .ok (.aload_n 0, 1) := by decide +kernel
theorem dL_law_325 : decode cL_law 325 = .ok (.iload_n 3, 1) := by decide +kernel
theorem dL_law_326 : decode cL_law 326 = .ok (.iconst 1, 1) := by decide +kernel
theorem dL_law_327 : decode cL_law 327 = .ok (.iadd, 1) := by decide +kernel
theorem dL_law_328 : decode cL_law 328 = .ok (.iaload, 1) := by decide +kernel
theorem dL_law_329 : decode cL_law 329 = .ok (.aload_n 0, 1) := by decide +kernel
theorem dL_law_330 : decode cL_law 330 = .ok (.iload_n 3, 1) := by decide +kernel
theorem dL_law_331 : decode cL_law 331 = .ok (.iconst 2, 1) := by decide +kernel
theorem dL_law_332 : decode cL_law 332 = .ok (.iadd, 1) := by decide +kernel
theorem dL_law_333 : decode cL_law 333 = .ok (.iaload, 1) := by decide +kernel
theorem dL_law_334 : decode cL_law 334 = .ok (.invokevirtual 56, 3) := by decide +kernel
theorem dL_law_337 : decode cL_law 337 = .ok (.if_icmp .eq 97, 3) := by decide +kernel
theorem dL_law_340 : decode cL_law 340 = .ok (.iconst 0, 1) := by decide +kernel
theorem dL_law_341 : decode cL_law 341 = .ok (.ireturn, 1) := by decide +kernel
theorem dL_law_342 : decode cL_law 342 = .ok (.aload_n 1, 1) := by decide +kernel
theorem dL_law_343 : decode cL_law 343 = .ok (.aload_n 0, 1) := by decide +kernel
theorem dL_law_344 : decode cL_law 344 = .ok (.iload_n 3, 1) := by decide +kernel
theorem dL_law_345 : decode cL_law 345 = .ok (.iconst 1, 1) := by decide +kernel
theorem dL_law_346 : decode cL_law 346 = .ok (.iadd, 1) := by decide +kernel
theorem dL_law_347 : decode cL_law 347 = .ok (.iaload, 1) := by decide +kernel
theorem dL_law_348 : decode cL_law 348 = .ok (.aload_n 0, 1) := by decide +kernel
theorem dL_law_349 : decode cL_law 349 = .ok (.iload_n 3, 1) := by decide +kernel
theorem dL_law_350 : decode cL_law 350 = .ok (.iconst 2, 1) := by decide +kernel
theorem dL_law_351 : decode cL_law 351 = .ok (.iadd, 1) := by decide +kernel
theorem dL_law_352 : decode cL_law 352 = .ok (.iaload, 1) := by decide +kernel
theorem dL_law_353 : decode cL_law 353 = .ok (.invokevirtual 57, 3) := by decide +kernel
theorem dL_law_356 : decode cL_law 356 = .ok (.aload_n 2, 1) := by decide +kernel
theorem dL_law_357 : decode cL_law 357 = .ok (.aload_n 0, 1) := by decide +kernel
theorem dL_law_358 : decode cL_law 358 = .ok (.iload_n 3, 1) := by decide +kernel
theorem dL_law_359 : decode cL_law 359 = .ok (.iconst 1, 1) := by decide +kernel
theorem dL_law_360 : decode cL_law 360 = .ok (.iadd, 1) := by decide +kernel
theorem dL_law_361 : decode cL_law 361 = .ok (.iaload, 1) := by decide +kernel
theorem dL_law_362 : decode cL_law 362 = .ok (.aload_n 0, 1) := by decide +kernel
theorem dL_law_363 : decode cL_law 363 = .ok (.iload_n 3, 1) := by decide +kernel
theorem dL_law_364 : decode cL_law 364 = .ok (.iconst 2, 1) := by decide +kernel
theorem dL_law_365 : decode cL_law 365 = .ok (.iadd, 1) := by decide +kernel
theorem dL_law_366 : decode cL_law 366 = .ok (.iaload, 1) := by decide +kernel
theorem dL_law_367 : decode cL_law 367 = .ok (.invokevirtual 60, 3) := by decide +kernel
theorem dL_law_370 : decode cL_law 370 = .ok (.if_icmp .eq 64, 3) := by decide +kernel
theorem dL_law_373 : decode cL_law 373 = .ok (.iconst 0, 1) := by decide +kernel
theorem dL_law_374 : decode cL_law 374 = .ok (.ireturn, 1) := by decide +kernel
theorem dL_law_375 : decode cL_law 375 = .ok (.aload_n 1, 1) := by decide +kernel
theorem dL_law_376 : decode cL_law 376 = .ok (.aload_n 0, 1) := by decide +kernel
theorem dL_law_377 : decode cL_law 377 = .ok (.iload_n 3, 1) := by decide +kernel
theorem dL_law_378 : decode cL_law 378 = .ok (.iconst 1, 1) := by decide +kernel
theorem dL_law_379 : decode cL_law 379 = .ok (.iadd, 1) := by decide +kernel
theorem dL_law_380 : decode cL_law 380 = .ok (.iaload, 1) := by decide +kernel
theorem dL_law_381 : decode cL_law 381 = .ok (.invokevirtual 61, 3) := by decide +kernel
theorem dL_law_384 : decode cL_law 384 = .ok (.aload_n 2, 1) := by decide +kernel
theorem dL_law_385 : decode cL_law 385 = .ok (.aload_n 0, 1) := by decide +kernel
theorem dL_law_386 : decode cL_law 386 = .ok (.iload_n 3, 1) := by decide +kernel
theorem dL_law_387 : decode cL_law 387 = .ok (.iconst 1, 1) := by decide +kernel
theorem dL_law_388 : decode cL_law 388 = .ok (.iadd, 1) := by decide +kernel
theorem dL_law_389 : decode cL_law 389 = .ok (.iaload, 1) := by decide +kernel
theorem dL_law_390 : decode cL_law 390 = .ok (.invokevirtual 64, 3) := by decide +kernel
theorem dL_law_393 : decode cL_law 393 = .ok (.if_icmp .eq 41, 3) := by decide +kernel
theorem dL_law_396 : decode cL_law 396 = .ok (.iconst 0, 1) := by decide +kernel
theorem dL_law_397 : decode cL_law 397 = .ok (.ireturn, 1) := by decide +kernel
theorem dL_law_398 : decode cL_law 398 = .ok (.aload_n 1, 1) := by decide +kernel
theorem dL_law_399 : decode cL_law 399 = .ok (.aload_n 0, 1) := by decide +kernel
theorem dL_law_400 : decode cL_law 400 = .ok (.iload_n 3, 1) := by decide +kernel
theorem dL_law_401 : decode cL_law 401 = .ok (.iconst 1, 1) := by decide +kernel
theorem dL_law_402 : decode cL_law 402 = .ok (.iadd, 1) := by decide +kernel
theorem dL_law_403 : decode cL_law 403 = .ok (.iaload, 1) := by decide +kernel
theorem dL_law_404 : decode cL_law 404 = .ok (.invokevirtual 65, 3) := by decide +kernel
theorem dL_law_407 : decode cL_law 407 = .ok (.aload_n 2, 1) := by decide +kernel
theorem dL_law_408 : decode cL_law 408 = .ok (.aload_n 0, 1) := by decide +kernel
theorem dL_law_409 : decode cL_law 409 = .ok (.iload_n 3, 1) := by decide +kernel
theorem dL_law_410 : decode cL_law 410 = .ok (.iconst 1, 1) := by decide +kernel
theorem dL_law_411 : decode cL_law 411 = .ok (.iadd, 1) := by decide +kernel
theorem dL_law_412 : decode cL_law 412 = .ok (.iaload, 1) := by decide +kernel
theorem dL_law_413 : decode cL_law 413 = .ok (.invokevirtual 68, 3) := by decide +kernel
theorem dL_law_416 : decode cL_law 416 = .ok (.if_icmp .eq 18, 3) := by decide +kernel
theorem dL_law_419 : decode cL_law 419 = .ok (.iconst 0, 1) := by decide +kernel
theorem dL_law_420 : decode cL_law 420 = .ok (.ireturn, 1) := by decide +kernel
theorem dL_law_421 : decode cL_law 421 = .ok (.aload_n 1, 1) := by decide +kernel
theorem dL_law_422 : decode cL_law 422 = .ok (.invokevirtual 69, 3) := by decide +kernel
theorem dL_law_425 : decode cL_law 425 = .ok (.aload_n 2, 1) := by decide +kernel
theorem dL_law_426 : decode cL_law 426 = .ok (.invokevirtual 72, 3) := by decide +kernel
theorem dL_law_429 : decode cL_law 429 = .ok (.if_icmp .eq 5, 3) := by decide +kernel
theorem dL_law_432 : decode cL_law 432 = .ok (.iconst 0, 1) := by decide +kernel
theorem dL_law_433 : decode cL_law 433 = .ok (.ireturn, 1) := by decide +kernel
theorem dL_law_434 : decode cL_law 434 = .ok (.iinc 3 4, 3) := by decide +kernel
theorem dL_law_437 : decode cL_law 437 = .ok (.goto (-419), 3) := by decide +kernel
theorem dL_law_440 : decode cL_law 440 = .ok (.iconst 1, 1) := by decide +kernel
theorem dL_law_441 : decode cL_law 441 = .ok (.ireturn, 1) := by decide +kernel
end
section
/-! numbers: nI of a Nat, zI of an Int; arrays: nF, zF of a function -/
def zI (z : Int) : Int32 := Int32.ofInt z
def nF (f : Nat → Nat) : Nat → Int32 := fun j => nI (f j)
def zF (f : Nat → Int) : Nat → Int32 := fun j => zI (f j)
theorem zI_toInt {z : Int} (h1 : -2147483648 ≤ z) (h2 : z < 2147483648) : (zI z).toInt = z := Int32.toInt_ofInt_of_le h1 h2
theorem zI_n (n : Nat) : zI (n : Int) = nI n := Int32.ofInt_eq_ofNat
theorem zI_of (x : Int32) : ∃ z : Int, -2147483648 ≤ z ∧ z < 2147483648 ∧ x = zI z := ⟨x.toInt, Int32.le_toInt x, Int32.toInt_lt x, (Int32.ofInt_toInt x).symm⟩
theorem sw_or' (a b : Nat) : nI a ||| nI b = nI (a ||| b) := by
  apply Int32.toBitVec_inj.1
  show BitVec.ofNat 32 a ||| BitVec.ofNat 32 b = BitVec.ofNat 32 (a ||| b)
  apply BitVec.eq_of_getLsbD_eq
  intro i hi
  simp [hi]
theorem sw_and' (a b : Nat) : nI a &&& nI b = nI (a &&& b) := by
  apply Int32.toBitVec_inj.1
  show BitVec.ofNat 32 a &&& BitVec.ofNat 32 b = BitVec.ofNat 32 (a &&& b)
  apply BitVec.eq_of_getLsbD_eq
  intro i hi
  simp [hi]
theorem sw_sl : ∀ n, n < 32 → ((nI n &&& 31).toBitVec.smod 32).toNat = n := by decide +kernel
theorem sw_byN : ∀ n, n < 128 → (nI n).toInt8.toInt32 = nI n := by decide +kernel
theorem sw_byZ' : ∀ n : Nat, n < 256 → (zI ((n : Int) - 128)).toInt8.toInt32 = zI ((n : Int) - 128) := by decide +kernel
theorem sw_byZ {z : Int} (h1 : -128 ≤ z) (h2 : z < 128) : (zI z).toInt8.toInt32 = zI z := by
  obtain ⟨n, hn⟩ := Int.eq_ofNat_of_zero_le (show 0 ≤ z + 128 by omega)
  have h := sw_byZ' n (by omega)
  rw [show ((n : Int) - 128) = z by omega] at h
  exact h
theorem sw_naN {n : Nat} (h : n < 128) : vp_nar .byte (nI n) = nI n := by rw [vp_nar_byte]; exact sw_byN n h
theorem sw_naZ {z : Int} (h1 : -128 ≤ z) (h2 : z < 128) : vp_nar .byte (zI z) = zI z := by rw [vp_nar_byte]; exact sw_byZ h1 h2
theorem sw_naB' : ∀ n, n < 2 → vp_nar .boolean (nI n) = nI n := by decide +kernel
theorem sw_naB {n : Nat} (h : n < 2) : vp_nar .boolean (nI n) = nI n := sw_naB' n h
theorem sw_nzB' : ∀ n, n < 2 → narrow .boolean (.int (nI n)) = .int (nI n) := by decide +kernel
theorem sw_updN (f : Nat → Nat) (j v : Nat) : upd (nF f) j (nI v) = nF (va_up f j v) := by
  funext i
  unfold upd nF va_up
  by_cases h : i = j
  · rw [if_pos h, if_pos h]
  · rw [if_neg h, if_neg h]
theorem sw_updZ (f : Nat → Int) (j : Nat) (v : Int) : upd (zF f) j (zI v) = zF (va_up f j v) := by
  funext i
  unfold upd zF va_up
  by_cases h : i = j
  · rw [if_pos h, if_pos h]
  · rw [if_neg h, if_neg h]
theorem sw_updZN (f : Nat → Int) (j v : Nat) : upd (zF f) j (nI v) = zF (va_up f j (v : Int)) := by rw [← zI_n]; exact sw_updZ f j v
theorem sw_us {α : Type} (f : Nat → α) (k : Nat) (v : α) : va_up f k v k = v := if_pos rfl
theorem sw_un {α : Type} {f : Nat → α} {k j : Nat} {v : α} (h : j ≠ k) : va_up f k v j = f j := if_neg h
/-- x tells whether P -/
def sw_b (P : Prop) (r : Int32) : Prop := (r = nI 1 ∧ P) ∨ (r = nI 0 ∧ ¬ P)
theorem sw_b_iff {P P' : Prop} (h : P ↔ P') {r : Int32} (hb : sw_b P r) : sw_b P' r := by
  rcases hb with ⟨e, q⟩ | ⟨e, q⟩
  · exact Or.inl ⟨e, h.mp q⟩
  · exact Or.inr ⟨e, fun x => q (h.mpr x)⟩
theorem sw_b_nar {P : Prop} {r : Int32} (hb : sw_b P r) : narrow .boolean (.int r) = .int r := by
  rcases hb with ⟨rfl, -⟩ | ⟨rfl, -⟩
  · exact sw_nzB' 1 (by decide)
  · exact sw_nzB' 0 (by decide)
/-- the same for a number of an array -/
def sw_t (P : Prop) (x : Nat) : Prop := (x = 1 ∧ P) ∨ (x = 0 ∧ ¬ P)
theorem sw_t_lt {P : Prop} {x : Nat} (h : sw_t P x) : x < 2 := by
  rcases h with ⟨e, -⟩ | ⟨e, -⟩ <;> omega
theorem sw_t_iff {P P' : Prop} (h : P ↔ P') {x : Nat} (hb : sw_t P x) : sw_t P' x := by
  rcases hb with ⟨e, q⟩ | ⟨e, q⟩
  · exact Or.inl ⟨e, h.mp q⟩
  · exact Or.inr ⟨e, fun x => q (h.mpr x)⟩
/-- contracts' starts: a method that reads, a method that writes -/
def sw_R (D : va_G) (cl : List vw_C) (ws : va_W) (tys : List (ClassId × FieldType)) (av : List Value) : Array Value → State → Prop := va_Pc av (fun U => va_P D cl ws U.heap ∧ va_K D cl tys U)
def sw_M (D : va_G) (cl : List vw_C) (ws : va_W) (tys : List (ClassId × FieldType)) (sz : Nat) (av : List Value) : Array Value → State → Prop := va_Pc av (fun U => U.heap.size = sz ∧ va_P D cl ws U.heap ∧ va_K D cl tys U ∧ va_D (fun _ => True) ws)
def sw_B {σ : Type} (D : va_G) (cl : List vw_C) (tys : List (ClassId × FieldType)) (A : Nat → Prop) (w : σ → va_W) : σ → State → Prop := fun u t => va_P D cl (w u) t.heap ∧ va_K D cl tys t ∧ va_D A (w u)
theorem sw_R_blind {D : va_G} {cl : List vw_C} {ws : va_W} {tys : List (ClassId × FieldType)} {av : List Value} : FrameBlind (sw_R D cl ws tys av) := fun a U g mk q => by
  obtain ⟨q0, qP, qK⟩ := q
  exact ⟨q0, qP, va_K.moved (u := U) (U := U.calling g mk a) (Vm.Alike.refl U.vm) qK⟩
theorem sw_M_blind {D : va_G} {cl : List vw_C} {ws : va_W} {tys : List (ClassId × FieldType)} {sz : Nat} {av : List Value} : FrameBlind (sw_M D cl ws tys sz av) := fun a U g mk q => by
  obtain ⟨q0, q1, qP, qK, qD⟩ := q
  exact ⟨q0, q1, qP, va_K.moved (u := U) (U := U.calling g mk a) (Vm.Alike.refl U.vm) qK, qD⟩
section SWR
variable {p : Program} {l : Launch} {e : Env} {R : Room} {s : State} {m : MethodId} {args : Array Value} {below : List Frame} {meth : Method} {c : Code} {H : Heap} {locs : List Loc} {cells slots : Nat} {Q : State → Prop}
variable {cc : ByteArray} {pc : Nat} {ls : Array Slot} {rest : List Value} {D : va_G} {cl : List vw_C} {A : Nat → Prop} {a : Nat} {tys : List (ClassId × FieldType)} {ws : va_W} {H0 : Heap}
theorem sw_top {x y : Int32} (h : x = y) (k : W p l e R s m args below meth c H locs cells slots Q (F0 m pc ls (.int y :: rest))) : W p l e R s m args below meth c H locs cells slots Q (F0 m pc ls (.int x :: rest)) := by rw [h]; exact k
theorem sw_add (hx : p.tables.exec = Jvm.exec) (hb : c.code = cc) {a b : Nat} (hd : decode cc pc = .ok (.iadd, 1)) (k : W p l e R s m args below meth c H locs cells slots Q (F0 m (pc + 1) ls (.int (nI (a + b)) :: rest))) : W p l e R s m args below meth c H locs cells slots Q (F0 m pc ls (.int (nI b) :: .int (nI a) :: rest)) := lv_iadd hx hb hd (by rw [nI_add]; exact k)
theorem sw_mul (hx : p.tables.exec = Jvm.exec) (hb : c.code = cc) {a b : Nat} (hd : decode cc pc = .ok (.imul, 1)) (k : W p l e R s m args below meth c H locs cells slots Q (F0 m (pc + 1) ls (.int (nI (a * b)) :: rest))) : W p l e R s m args below meth c H locs cells slots Q (F0 m pc ls (.int (nI b) :: .int (nI a) :: rest)) := lv_imul hx hb hd (by rw [pk_mul]; exact k)
theorem sw_sub (hx : p.tables.exec = Jvm.exec) (hb : c.code = cc) {a b : Nat} (hd : decode cc pc = .ok (.isub, 1)) (h : b ≤ a) (k : W p l e R s m args below meth c H locs cells slots Q (F0 m (pc + 1) ls (.int (nI (a - b)) :: rest))) : W p l e R s m args below meth c H locs cells slots Q (F0 m pc ls (.int (nI b) :: .int (nI a) :: rest)) := lv_isub hx hb hd (by rw [pk_sub h]; exact k)
theorem sw_or (hx : p.tables.exec = Jvm.exec) (hb : c.code = cc) {a b : Nat} (hd : decode cc pc = .ok (.ior, 1)) (k : W p l e R s m args below meth c H locs cells slots Q (F0 m (pc + 1) ls (.int (nI (a ||| b)) :: rest))) : W p l e R s m args below meth c H locs cells slots Q (F0 m pc ls (.int (nI b) :: .int (nI a) :: rest)) := lv_ior hx hb hd (by rw [sw_or']; exact k)
theorem sw_and (hx : p.tables.exec = Jvm.exec) (hb : c.code = cc) {a b : Nat} (hd : decode cc pc = .ok (.iand, 1)) (k : W p l e R s m args below meth c H locs cells slots Q (F0 m (pc + 1) ls (.int (nI (a &&& b)) :: rest))) : W p l e R s m args below meth c H locs cells slots Q (F0 m pc ls (.int (nI b) :: .int (nI a) :: rest)) := lv_iand hx hb hd (by rw [sw_and']; exact k)
theorem sw_and1 (hx : p.tables.exec = Jvm.exec) (hb : c.code = cc) {a : Nat} (hd : decode cc pc = .ok (.iand, 1)) (k : W p l e R s m args below meth c H locs cells slots Q (F0 m (pc + 1) ls (.int (nI (a % 2)) :: rest))) : W p l e R s m args below meth c H locs cells slots Q (F0 m pc ls (.int (nI 1) :: .int (nI a) :: rest)) := lv_iand hx hb hd (by rw [sw_and', Nat.and_one_is_mod]; exact k)
theorem sw_shl (hx : p.tables.exec = Jvm.exec) (hb : c.code = cc) {a b : Nat} (hd : decode cc pc = .ok (.ishl, 1)) (h : b < 32) (h2 : a * 2 ^ b < 2 ^ 32) (k : W p l e R s m args below meth c H locs cells slots Q (F0 m (pc + 1) ls (.int (nI (a * 2 ^ b)) :: rest))) : W p l e R s m args below meth c H locs cells slots Q (F0 m pc ls (.int (nI b) :: .int (nI a) :: rest)) := lv_ishl hx hb hd (by rw [pk_shlN (nI b &&& 31) b (sw_sl b h) h2]; exact k)
theorem sw_shr (hx : p.tables.exec = Jvm.exec) (hb : c.code = cc) {a b : Nat} (hd : decode cc pc = .ok (.ishr, 1)) (h : b < 32) (h2 : a < 2 ^ 31) (k : W p l e R s m args below meth c H locs cells slots Q (F0 m (pc + 1) ls (.int (nI (a / 2 ^ b)) :: rest))) : W p l e R s m args below meth c H locs cells slots Q (F0 m pc ls (.int (nI b) :: .int (nI a) :: rest)) := lv_ishr hx hb hd (by rw [pk_shrN h2 (nI b &&& 31) b (sw_sl b h)]; exact k)
theorem sw_ceq (hx : p.tables.exec = Jvm.exec) (hb : c.code = cc) {a b : Nat} {off : Int} {tgt : Nat} (hd : decode cc pc = .ok (.if_icmp .eq off, 3)) (ht : (pc : Int) + off = (tgt : Int)) (ha : a < 2147483648) (hc : b < 2147483648) (kt : a = b → W p l e R s m args below meth c H locs cells slots Q (F0 m tgt ls (rest))) (kf : a ≠ b → W p l e R s m args below meth c H locs cells slots Q (F0 m (pc + 3) ls (rest))) : W p l e R s m args below meth c H locs cells slots Q (F0 m pc ls (.int (nI b) :: .int (nI a) :: rest)) := lv_icmp_eq hx hb hd ht (fun q => kt ((nI_eq ha hc).mp q)) (fun q => kf (fun z => q ((nI_eq ha hc).mpr z)))
theorem sw_deq (hx : p.tables.exec = Jvm.exec) (hb : c.code = cc) {x y : Int32} {a b : Int} {off : Int} {tgt : Nat} (hd : decode cc pc = .ok (.if_icmp .eq off, 3)) (ht : (pc : Int) + off = (tgt : Int)) (ha : x.toInt = a) (hc : y.toInt = b) (kt : a = b → W p l e R s m args below meth c H locs cells slots Q (F0 m tgt ls (rest))) (kf : a ≠ b → W p l e R s m args below meth c H locs cells slots Q (F0 m (pc + 3) ls (rest))) : W p l e R s m args below meth c H locs cells slots Q (F0 m pc ls (.int y :: .int x :: rest)) := lv_icmp_eq hx hb hd ht (fun q => kt (by rw [← ha, ← hc, q])) (fun q => kf (fun z => q ((Int32.toInt_inj (x := x) (y := y)).mp (by rw [ha, hc]; exact z))))
theorem sw_cne (hx : p.tables.exec = Jvm.exec) (hb : c.code = cc) {a b : Nat} {off : Int} {tgt : Nat} (hd : decode cc pc = .ok (.if_icmp .ne off, 3)) (ht : (pc : Int) + off = (tgt : Int)) (ha : a < 2147483648) (hc : b < 2147483648) (kt : a ≠ b → W p l e R s m args below meth c H locs cells slots Q (F0 m tgt ls (rest))) (kf : a = b → W p l e R s m args below meth c H locs cells slots Q (F0 m (pc + 3) ls (rest))) : W p l e R s m args below meth c H locs cells slots Q (F0 m pc ls (.int (nI b) :: .int (nI a) :: rest)) := lv_icmp_ne hx hb hd ht (fun q => kt (fun z => q ((nI_eq ha hc).mpr z))) (fun q => kf ((nI_eq ha hc).mp q))
theorem sw_dne (hx : p.tables.exec = Jvm.exec) (hb : c.code = cc) {x y : Int32} {a b : Int} {off : Int} {tgt : Nat} (hd : decode cc pc = .ok (.if_icmp .ne off, 3)) (ht : (pc : Int) + off = (tgt : Int)) (ha : x.toInt = a) (hc : y.toInt = b) (kt : a ≠ b → W p l e R s m args below meth c H locs cells slots Q (F0 m tgt ls (rest))) (kf : a = b → W p l e R s m args below meth c H locs cells slots Q (F0 m (pc + 3) ls (rest))) : W p l e R s m args below meth c H locs cells slots Q (F0 m pc ls (.int y :: .int x :: rest)) := lv_icmp_ne hx hb hd ht (fun q => kt (fun z => q ((Int32.toInt_inj (x := x) (y := y)).mp (by rw [ha, hc]; exact z)))) (fun q => kf (by rw [← ha, ← hc, q]))
theorem sw_clt (hx : p.tables.exec = Jvm.exec) (hb : c.code = cc) {a b : Nat} {off : Int} {tgt : Nat} (hd : decode cc pc = .ok (.if_icmp .lt off, 3)) (ht : (pc : Int) + off = (tgt : Int)) (ha : a < 2147483648) (hc : b < 2147483648) (kt : a < b → W p l e R s m args below meth c H locs cells slots Q (F0 m tgt ls (rest))) (kf : b ≤ a → W p l e R s m args below meth c H locs cells slots Q (F0 m (pc + 3) ls (rest))) : W p l e R s m args below meth c H locs cells slots Q (F0 m pc ls (.int (nI b) :: .int (nI a) :: rest)) := lv_icmp_lt hx hb hd ht (fun q => kt ((nI_ltI ha hc).mp q)) (fun q => kf (Nat.not_lt.mp (fun z => q ((nI_ltI ha hc).mpr z))))
theorem sw_dlt (hx : p.tables.exec = Jvm.exec) (hb : c.code = cc) {x y : Int32} {a b : Int} {off : Int} {tgt : Nat} (hd : decode cc pc = .ok (.if_icmp .lt off, 3)) (ht : (pc : Int) + off = (tgt : Int)) (ha : x.toInt = a) (hc : y.toInt = b) (kt : a < b → W p l e R s m args below meth c H locs cells slots Q (F0 m tgt ls (rest))) (kf : b ≤ a → W p l e R s m args below meth c H locs cells slots Q (F0 m (pc + 3) ls (rest))) : W p l e R s m args below meth c H locs cells slots Q (F0 m pc ls (.int y :: .int x :: rest)) := lv_icmp_lt hx hb hd ht (fun q => kt (by rw [← ha, ← hc]; exact (Int32.lt_iff_toInt_lt (x := x) (y := y)).mp q)) (fun q => kf (by rw [← ha, ← hc]; exact Int.not_lt.mp (fun z => q ((Int32.lt_iff_toInt_lt (x := x) (y := y)).mpr z))))
theorem sw_cge (hx : p.tables.exec = Jvm.exec) (hb : c.code = cc) {a b : Nat} {off : Int} {tgt : Nat} (hd : decode cc pc = .ok (.if_icmp .ge off, 3)) (ht : (pc : Int) + off = (tgt : Int)) (ha : a < 2147483648) (hc : b < 2147483648) (kt : b ≤ a → W p l e R s m args below meth c H locs cells slots Q (F0 m tgt ls (rest))) (kf : a < b → W p l e R s m args below meth c H locs cells slots Q (F0 m (pc + 3) ls (rest))) : W p l e R s m args below meth c H locs cells slots Q (F0 m pc ls (.int (nI b) :: .int (nI a) :: rest)) := lv_icmp_ge hx hb hd ht (fun q => kt ((nI_leI hc ha).mp q)) (fun q => kf (Nat.not_le.mp (fun z => q ((nI_leI hc ha).mpr z))))
theorem sw_dge (hx : p.tables.exec = Jvm.exec) (hb : c.code = cc) {x y : Int32} {a b : Int} {off : Int} {tgt : Nat} (hd : decode cc pc = .ok (.if_icmp .ge off, 3)) (ht : (pc : Int) + off = (tgt : Int)) (ha : x.toInt = a) (hc : y.toInt = b) (kt : b ≤ a → W p l e R s m args below meth c H locs cells slots Q (F0 m tgt ls (rest))) (kf : a < b → W p l e R s m args below meth c H locs cells slots Q (F0 m (pc + 3) ls (rest))) : W p l e R s m args below meth c H locs cells slots Q (F0 m pc ls (.int y :: .int x :: rest)) := lv_icmp_ge hx hb hd ht (fun q => kt (by rw [← ha, ← hc]; exact (Int32.le_iff_toInt_le (x := y) (y := x)).mp q)) (fun q => kf (by rw [← ha, ← hc]; exact Int.not_le.mp (fun z => q ((Int32.le_iff_toInt_le (x := y) (y := x)).mpr z))))
theorem sw_cgt (hx : p.tables.exec = Jvm.exec) (hb : c.code = cc) {a b : Nat} {off : Int} {tgt : Nat} (hd : decode cc pc = .ok (.if_icmp .gt off, 3)) (ht : (pc : Int) + off = (tgt : Int)) (ha : a < 2147483648) (hc : b < 2147483648) (kt : b < a → W p l e R s m args below meth c H locs cells slots Q (F0 m tgt ls (rest))) (kf : a ≤ b → W p l e R s m args below meth c H locs cells slots Q (F0 m (pc + 3) ls (rest))) : W p l e R s m args below meth c H locs cells slots Q (F0 m pc ls (.int (nI b) :: .int (nI a) :: rest)) := lv_icmp_gt hx hb hd ht (fun q => kt ((nI_ltI hc ha).mp q)) (fun q => kf (Nat.not_lt.mp (fun z => q ((nI_ltI hc ha).mpr z))))
theorem sw_dgt (hx : p.tables.exec = Jvm.exec) (hb : c.code = cc) {x y : Int32} {a b : Int} {off : Int} {tgt : Nat} (hd : decode cc pc = .ok (.if_icmp .gt off, 3)) (ht : (pc : Int) + off = (tgt : Int)) (ha : x.toInt = a) (hc : y.toInt = b) (kt : b < a → W p l e R s m args below meth c H locs cells slots Q (F0 m tgt ls (rest))) (kf : a ≤ b → W p l e R s m args below meth c H locs cells slots Q (F0 m (pc + 3) ls (rest))) : W p l e R s m args below meth c H locs cells slots Q (F0 m pc ls (.int y :: .int x :: rest)) := lv_icmp_gt hx hb hd ht (fun q => kt (by rw [← ha, ← hc]; exact (Int32.lt_iff_toInt_lt (x := y) (y := x)).mp q)) (fun q => kf (by rw [← ha, ← hc]; exact Int.not_lt.mp (fun z => q ((Int32.lt_iff_toInt_lt (x := y) (y := x)).mpr z))))
theorem sw_cle (hx : p.tables.exec = Jvm.exec) (hb : c.code = cc) {a b : Nat} {off : Int} {tgt : Nat} (hd : decode cc pc = .ok (.if_icmp .le off, 3)) (ht : (pc : Int) + off = (tgt : Int)) (ha : a < 2147483648) (hc : b < 2147483648) (kt : a ≤ b → W p l e R s m args below meth c H locs cells slots Q (F0 m tgt ls (rest))) (kf : b < a → W p l e R s m args below meth c H locs cells slots Q (F0 m (pc + 3) ls (rest))) : W p l e R s m args below meth c H locs cells slots Q (F0 m pc ls (.int (nI b) :: .int (nI a) :: rest)) := lv_icmp_le hx hb hd ht (fun q => kt ((nI_leI ha hc).mp q)) (fun q => kf (Nat.not_le.mp (fun z => q ((nI_leI ha hc).mpr z))))
theorem sw_dle (hx : p.tables.exec = Jvm.exec) (hb : c.code = cc) {x y : Int32} {a b : Int} {off : Int} {tgt : Nat} (hd : decode cc pc = .ok (.if_icmp .le off, 3)) (ht : (pc : Int) + off = (tgt : Int)) (ha : x.toInt = a) (hc : y.toInt = b) (kt : a ≤ b → W p l e R s m args below meth c H locs cells slots Q (F0 m tgt ls (rest))) (kf : b < a → W p l e R s m args below meth c H locs cells slots Q (F0 m (pc + 3) ls (rest))) : W p l e R s m args below meth c H locs cells slots Q (F0 m pc ls (.int y :: .int x :: rest)) := lv_icmp_le hx hb hd ht (fun q => kt (by rw [← ha, ← hc]; exact (Int32.le_iff_toInt_le (x := x) (y := y)).mp q)) (fun q => kf (by rw [← ha, ← hc]; exact Int.not_le.mp (fun z => q ((Int32.le_iff_toInt_le (x := x) (y := y)).mpr z))))
theorem sw_n0 {a : Nat} (ha : a < 2147483648) : nI a = 0 ↔ a = 0 := (show nI a = 0 ↔ nI a = nI 0 by rw [nI_0]).trans (nI_eq ha (by decide))
theorem sw_ifeq (hx : p.tables.exec = Jvm.exec) (hb : c.code = cc) {a : Nat} {off : Int} {tgt : Nat} (hd : decode cc pc = .ok (.ifCond .eq off, 3)) (ht : (pc : Int) + off = (tgt : Int)) (ha : a < 2147483648) (kt : a = 0 → W p l e R s m args below meth c H locs cells slots Q (F0 m tgt ls (rest))) (kf : a ≠ 0 → W p l e R s m args below meth c H locs cells slots Q (F0 m (pc + 3) ls (rest))) : W p l e R s m args below meth c H locs cells slots Q (F0 m pc ls (.int (nI a) :: rest)) := lv_if_eq hx hb hd ht (fun q => kt ((sw_n0 ha).mp q)) (fun q => kf (fun z => q ((sw_n0 ha).mpr z)))
theorem sw_ifne (hx : p.tables.exec = Jvm.exec) (hb : c.code = cc) {a : Nat} {off : Int} {tgt : Nat} (hd : decode cc pc = .ok (.ifCond .ne off, 3)) (ht : (pc : Int) + off = (tgt : Int)) (ha : a < 2147483648) (kt : a ≠ 0 → W p l e R s m args below meth c H locs cells slots Q (F0 m tgt ls (rest))) (kf : a = 0 → W p l e R s m args below meth c H locs cells slots Q (F0 m (pc + 3) ls (rest))) : W p l e R s m args below meth c H locs cells slots Q (F0 m pc ls (.int (nI a) :: rest)) := lv_if_ne hx hb hd ht (fun q => kt (fun z => q ((sw_n0 ha).mpr z))) (fun q => kf ((sw_n0 ha).mp q))
theorem sw_iflt (hx : p.tables.exec = Jvm.exec) (hb : c.code = cc) {a : Nat} {off : Int} {tgt : Nat} (hd : decode cc pc = .ok (.ifCond .lt off, 3)) (ht : (pc : Int) + off = (tgt : Int)) (ha : a < 2147483648) (kf : W p l e R s m args below meth c H locs cells slots Q (F0 m (pc + 3) ls (rest))) : W p l e R s m args below meth c H locs cells slots Q (F0 m pc ls (.int (nI a) :: rest)) := lv_if_lt hx hb hd ht (fun q => absurd q (nI_pos ha)) (fun _ => kf)
theorem sw_ifge (hx : p.tables.exec = Jvm.exec) (hb : c.code = cc) {a : Nat} {off : Int} {tgt : Nat} (hd : decode cc pc = .ok (.ifCond .ge off, 3)) (ht : (pc : Int) + off = (tgt : Int)) (ha : a < 2147483648) (kt : W p l e R s m args below meth c H locs cells slots Q (F0 m tgt ls (rest))) : W p l e R s m args below meth c H locs cells slots Q (F0 m pc ls (.int (nI a) :: rest)) := lv_if_ge hx hb hd ht (fun _ => kt) (fun q => absurd (nI_pos' ha) q)
theorem sw_zlt (hx : p.tables.exec = Jvm.exec) (hb : c.code = cc) {x : Int32} {a : Int} {off : Int} {tgt : Nat} (hd : decode cc pc = .ok (.ifCond .lt off, 3)) (ht : (pc : Int) + off = (tgt : Int)) (ha : x.toInt = a) (kt : a < 0 → W p l e R s m args below meth c H locs cells slots Q (F0 m tgt ls (rest))) (kf : 0 ≤ a → W p l e R s m args below meth c H locs cells slots Q (F0 m (pc + 3) ls (rest))) : W p l e R s m args below meth c H locs cells slots Q (F0 m pc ls (.int x :: rest)) := lv_if_lt hx hb hd ht (fun q => kt (by rw [← ha]; exact (Int32.lt_iff_toInt_lt (x := x) (y := 0)).mp q)) (fun q => kf (by rw [← ha]; exact Int.not_lt.mp (fun z => q ((Int32.lt_iff_toInt_lt (x := x) (y := 0)).mpr z))))
theorem sw_zge (hx : p.tables.exec = Jvm.exec) (hb : c.code = cc) {x : Int32} {a : Int} {off : Int} {tgt : Nat} (hd : decode cc pc = .ok (.ifCond .ge off, 3)) (ht : (pc : Int) + off = (tgt : Int)) (ha : x.toInt = a) (kt : 0 ≤ a → W p l e R s m args below meth c H locs cells slots Q (F0 m tgt ls (rest))) (kf : a < 0 → W p l e R s m args below meth c H locs cells slots Q (F0 m (pc + 3) ls (rest))) : W p l e R s m args below meth c H locs cells slots Q (F0 m pc ls (.int x :: rest)) := lv_if_ge hx hb hd ht (fun q => kt (by rw [← ha]; exact (Int32.le_iff_toInt_le (x := 0) (y := x)).mp q)) (fun q => kf (by rw [← ha]; exact Int.not_le.mp (fun z => q ((Int32.le_iff_toInt_le (x := 0) (y := x)).mpr z))))
theorem sw_bld (hx : p.tables.exec = Jvm.exec) (hb : c.code = cc) (hK : va_K D cl tys s) (hP : va_P D cl ws H) (q0 t0 : Nat) {cA : ClassId} {n : Nat} {f : Nat → Int32} (ha : ws[q0]? = some (a, .inl (cA, n, .inl f))) (ht : tys[t0]? = some (cA, .byte)) {j : Nat} (hj : j < n) (hn : n < 2147483648) {v : Int32} (hv : f j = v) (hd : decode cc pc = .ok (.baload, 1)) (kk : W p l e R s m args below meth c H locs cells slots Q (F0 m (pc + 1) ls (.int v :: rest))) : W p l e R s m args below meth c H locs cells slots Q (F0 m pc ls (.int (nI j) :: .ref a :: rest)) := va_bald hx hb hK hP q0 t0 ha ht (vp_in_nI hj hn) hd (by rw [nI_clamp (Nat.lt_trans hj hn), hv]; exact kk)
theorem sw_bst (hx : p.tables.exec = Jvm.exec) (hb : c.code = cc) (hK : va_K D cl tys s) (hP : va_P D cl ws H) (hD : va_D A ws) (hS : va_S A H0 H locs) (q0 t0 : Nat) {cA : ClassId} {n : Nat} {f f2 : Nat → Int32} (ha : ws[q0]? = some (a, .inl (cA, n, .inl f))) (ht : tys[t0]? = some (cA, .byte)) {j : Nat} {x v : Int32} (hj : j < n) (hn : n < 2147483648) (hv : vp_nar .byte x = v) (hf : upd f j v = f2) (hd : decode cc pc = .ok (.bastore, 1)) (kk : ∀ (H1 : Heap) (locs1 : List Loc), va_P D cl (ws.set q0 (a, .inl (cA, n, .inl f2))) H1 → va_D A (ws.set q0 (a, .inl (cA, n, .inl f2))) → va_S A H0 H1 locs1 → W p l e R s m args below meth c H1 locs1 cells slots Q (F0 m (pc + 1) ls (rest))) : W p l e R s m args below meth c H locs cells slots Q (F0 m pc ls (.int x :: .int (nI j) :: .ref a :: rest)) := va_bast hx hb hK hP hD hS q0 t0 ha ht (vp_in_nI hj hn) hd (by rw [nI_clamp (Nat.lt_trans hj hn), hv, hf]; exact kk)
theorem sw_ild (hx : p.tables.exec = Jvm.exec) (hb : c.code = cc) (hK : va_K D cl tys s) (hP : va_P D cl ws H) (q0 t0 : Nat) {cA : ClassId} {n : Nat} {f : Nat → Int32} (ha : ws[q0]? = some (a, .inl (cA, n, .inl f))) (ht : tys[t0]? = some (cA, .int)) {j : Nat} (hj : j < n) (hn : n < 2147483648) {v : Int32} (hv : f j = v) (hd : decode cc pc = .ok (.iaload, 1)) (kk : W p l e R s m args below meth c H locs cells slots Q (F0 m (pc + 1) ls (.int v :: rest))) : W p l e R s m args below meth c H locs cells slots Q (F0 m pc ls (.int (nI j) :: .ref a :: rest)) := va_iald hx hb hK hP q0 t0 ha ht (vp_in_nI hj hn) hd (by rw [nI_clamp (Nat.lt_trans hj hn), hv]; exact kk)
theorem sw_ist (hx : p.tables.exec = Jvm.exec) (hb : c.code = cc) (hK : va_K D cl tys s) (hP : va_P D cl ws H) (hD : va_D A ws) (hS : va_S A H0 H locs) (q0 t0 : Nat) {cA : ClassId} {n : Nat} {f f2 : Nat → Int32} (ha : ws[q0]? = some (a, .inl (cA, n, .inl f))) (ht : tys[t0]? = some (cA, .int)) {j : Nat} {x v : Int32} (hj : j < n) (hn : n < 2147483648) (hv : x = v) (hf : upd f j v = f2) (hd : decode cc pc = .ok (.iastore, 1)) (kk : ∀ (H1 : Heap) (locs1 : List Loc), va_P D cl (ws.set q0 (a, .inl (cA, n, .inl f2))) H1 → va_D A (ws.set q0 (a, .inl (cA, n, .inl f2))) → va_S A H0 H1 locs1 → W p l e R s m args below meth c H1 locs1 cells slots Q (F0 m (pc + 1) ls (rest))) : W p l e R s m args below meth c H locs cells slots Q (F0 m pc ls (.int x :: .int (nI j) :: .ref a :: rest)) := va_iast hx hb hK hP hD hS q0 t0 ha ht (vp_in_nI hj hn) hd (by rw [nI_clamp (Nat.lt_trans hj hn), hv, hf]; exact kk)
theorem sw_zld (hx : p.tables.exec = Jvm.exec) (hb : c.code = cc) (hK : va_K D cl tys s) (hP : va_P D cl ws H) (q0 t0 : Nat) {cA : ClassId} {n : Nat} {f : Nat → Int32} (ha : ws[q0]? = some (a, .inl (cA, n, .inl f))) (ht : tys[t0]? = some (cA, .boolean)) {j : Nat} (hj : j < n) (hn : n < 2147483648) {v : Int32} (hv : f j = v) (hd : decode cc pc = .ok (.baload, 1)) (kk : W p l e R s m args below meth c H locs cells slots Q (F0 m (pc + 1) ls (.int v :: rest))) : W p l e R s m args below meth c H locs cells slots Q (F0 m pc ls (.int (nI j) :: .ref a :: rest)) := va_zald hx hb hK hP q0 t0 ha ht (vp_in_nI hj hn) hd (by rw [nI_clamp (Nat.lt_trans hj hn), hv]; exact kk)
theorem sw_zst (hx : p.tables.exec = Jvm.exec) (hb : c.code = cc) (hK : va_K D cl tys s) (hP : va_P D cl ws H) (hD : va_D A ws) (hS : va_S A H0 H locs) (q0 t0 : Nat) {cA : ClassId} {n : Nat} {f f2 : Nat → Int32} (ha : ws[q0]? = some (a, .inl (cA, n, .inl f))) (ht : tys[t0]? = some (cA, .boolean)) {j : Nat} {x v : Int32} (hj : j < n) (hn : n < 2147483648) (hv : vp_nar .boolean x = v) (hf : upd f j v = f2) (hd : decode cc pc = .ok (.bastore, 1)) (kk : ∀ (H1 : Heap) (locs1 : List Loc), va_P D cl (ws.set q0 (a, .inl (cA, n, .inl f2))) H1 → va_D A (ws.set q0 (a, .inl (cA, n, .inl f2))) → va_S A H0 H1 locs1 → W p l e R s m args below meth c H1 locs1 cells slots Q (F0 m (pc + 1) ls (rest))) : W p l e R s m args below meth c H locs cells slots Q (F0 m pc ls (.int x :: .int (nI j) :: .ref a :: rest)) := va_zast hx hb hK hP hD hS q0 t0 ha ht (vp_in_nI hj hn) hd (by rw [nI_clamp (Nat.lt_trans hj hn), hv, hf]; exact kk)
variable {Ts : List Cond} {own C : String} {nL n index maxL : Nat} {y : MethodName} {bytes : ByteArray} {ret : Option FieldType} {wsy : List Cond} {rm : Room} {b : Nat} {As st0 : List Value}
theorem sw_cvR {post : Int32 → Prop} (S : CallFix p m c cc nL s args Ts own) (hM : Met l y wsy rm (sw_R D cl ws tys (.ref b :: As)) (vp_Si post) 0 0 (fun _ => False)) (cw : CallW R s args own C index y bytes maxL ret wsy rm 0 0 n) (hK : va_K D cl tys s) (hP : va_P D cl ws H) {q : vw_C} {ci q0 : Nat} {fs : List Value} (hc : cl[ci]? = some q) (hC : q.1 = C) (he : ws[q0]? = some (b, .inr (ci, fs)))
    (hn : As.length = n) (hsize : ls.size = nL) (hst : st0 = As.reverse ++ .ref b :: rest) (hW : (rest.map fun v => v.category).sum ≤ 8) (hd : decode cc pc = .ok (.invokevirtual index, 3)) (hf : cells ≤ R.cells ∧ slots ≤ R.slots)
    (kk : ∀ r : Int32, post r → W p l e R s m args below meth c H locs cells slots Q (F0 m (pc + 3) ls (.int r :: rest))) : W p l e R s m args below meth c H locs cells slots Q (F0 m pc ls st0) :=
  vp_callSi (W.runV S hM cw ⟨sw_R_blind, hC ▸ va_recv hK hP hc he, fun U hU hW => ⟨rfl, by rw [hU]; exact hP, va_K.moved hW.alike hK⟩⟩ rfl hn hsize hst (lv_room hW) hd hf) kk
theorem sw_csR {post : Int32 → Prop} (S : CallFix p m c cc nL s args Ts own) (hM : Met l y wsy rm (va_Pc As (fun _ => True)) (vp_Si post) 0 0 (fun _ => False)) (cw : CallB R s args own index y bytes maxL ret wsy rm 0 0 n ∧ (Cond.static y).before args s = true)
    (hn : As.length = n) (hsize : ls.size = nL) (hst : st0 = As.reverse ++ rest) (hW : (rest.map fun v => v.category).sum ≤ 8) (hd : decode cc pc = .ok (.invokestatic index, 3)) (hf : cells ≤ R.cells ∧ slots ≤ R.slots)
    (kk : ∀ r : Int32, post r → W p l e R s m args below meth c H locs cells slots Q (F0 m (pc + 3) ls (.int r :: rest))) : W p l e R s m args below meth c H locs cells slots Q (F0 m pc ls st0) :=
  vp_callSi (W.runS S hM cw ⟨fun _ _ _ _ q => ⟨q.1, trivial⟩, fun U hU hW => ⟨rfl, trivial⟩⟩ rfl hn hsize hst (lv_room hW) hd hf) kk
theorem sw_cvI {σ : Type} {post : Int32 → σ → Prop} {wn : σ → va_W} (S : CallFix p m c cc nL s args Ts own) (hM : ∀ sz, Met l y wsy rm (sw_M D cl ws tys sz (.ref b :: As)) (va_Qi post (sw_B D cl tys (va_A ws sz) wn) (va_A ws sz)) 0 0 (va_A ws sz)) (cw : CallW R s args own C index y bytes maxL ret wsy rm 0 0 n) (hK : va_K D cl tys s) (hP : va_P D cl ws H) (hD : va_D A ws) (hS : va_S A H0 H locs) (hA : ∀ q, H0.size ≤ q → A q) {q : vw_C} {ci q0 : Nat} {fs : List Value} (hc : cl[ci]? = some q) (hC : q.1 = C) (he : ws[q0]? = some (b, .inr (ci, fs)))
    (hn : As.length = n) (hsize : ls.size = nL) (hst : st0 = As.reverse ++ .ref b :: rest) (hW : (rest.map fun v => v.category).sum ≤ 8) (hd : decode cc pc = .ok (.invokevirtual index, 3)) (hf : cells ≤ R.cells ∧ slots ≤ R.slots)
    (kk : ∀ (r : Int32) (u : σ) (H1 : Heap) (locs1 : List Loc), post r u → va_P D cl (wn u) H1 → va_D A (wn u) → va_S A H0 H1 locs1 → W p l e R s m args below meth c H1 locs1 cells slots Q (F0 m (pc + 3) ls (.int r :: rest))) : W p l e R s m args below meth c H locs cells slots Q (F0 m pc ls st0) := by
  have hFc : ∀ q, va_A ws H.size q → A q := fun q h => by
    rcases h with ⟨k, x, h⟩ | h
    · exact hD.2 k (q, x) h
    · exact hA q (Nat.le_trans hS.1 h)
  refine va_calli (va_runV S (hM H.size) cw ⟨sw_M_blind, hC ▸ va_recv hK hP hc he, fun U hU hW => ⟨rfl, by rw [hU], by rw [hU]; exact hP, va_K.moved hW.alike hK, hD.weaken (fun _ _ _ _ => trivial)⟩⟩ rfl hn hsize hst (lv_room hW) hd hf) hS (fun q _ h => hFc q h) hFc (fun r u t H1 locs1 ht hvm hw hB hz hk hS1 => ?_)
  obtain ⟨hP1, -, hD1⟩ := hB
  rw [ht] at hP1
  exact kk r u H1 locs1 hw hP1 (hD1.weaken (fun k q _ h => hFc q.1 h)) hS1
theorem sw_cvV {σ : Type} {post : σ → Prop} {wn : σ → va_W} (S : CallFix p m c cc nL s args Ts own) (hM : ∀ sz, Met l y wsy rm (sw_M D cl ws tys sz (.ref b :: As)) (va_Qv post (sw_B D cl tys (va_A ws sz) wn) (va_A ws sz)) 0 0 (va_A ws sz)) (cw : CallW R s args own C index y bytes maxL ret wsy rm 0 0 n) (hK : va_K D cl tys s) (hP : va_P D cl ws H) (hD : va_D A ws) (hS : va_S A H0 H locs) (hA : ∀ q, H0.size ≤ q → A q) {q : vw_C} {ci q0 : Nat} {fs : List Value} (hc : cl[ci]? = some q) (hC : q.1 = C) (he : ws[q0]? = some (b, .inr (ci, fs)))
    (hn : As.length = n) (hsize : ls.size = nL) (hst : st0 = As.reverse ++ .ref b :: rest) (hW : (rest.map fun v => v.category).sum ≤ 8) (hd : decode cc pc = .ok (.invokevirtual index, 3)) (hf : cells ≤ R.cells ∧ slots ≤ R.slots)
    (kk : ∀ (u : σ) (H1 : Heap) (locs1 : List Loc), post u → va_P D cl (wn u) H1 → va_D A (wn u) → va_S A H0 H1 locs1 → W p l e R s m args below meth c H1 locs1 cells slots Q (F0 m (pc + 3) ls rest)) : W p l e R s m args below meth c H locs cells slots Q (F0 m pc ls st0) := by
  have hFc : ∀ q, va_A ws H.size q → A q := fun q h => by
    rcases h with ⟨k, x, h⟩ | h
    · exact hD.2 k (q, x) h
    · exact hA q (Nat.le_trans hS.1 h)
  refine va_callv (va_runV S (hM H.size) cw ⟨sw_M_blind, hC ▸ va_recv hK hP hc he, fun U hU hW => ⟨rfl, by rw [hU], by rw [hU]; exact hP, va_K.moved hW.alike hK, hD.weaken (fun _ _ _ _ => trivial)⟩⟩ rfl hn hsize hst (lv_room hW) hd hf) hS (fun q _ h => hFc q h) hFc (fun u t H1 locs1 ht hvm hw hB hz hk hS1 => ?_)
  obtain ⟨hP1, -, hD1⟩ := hB
  rw [ht] at hP1
  exact kk u H1 locs1 hw hP1 (hD1.weaken (fun k q _ h => hFc q.1 h)) hS1
end SWR
section SWM
variable {l : Launch} {y : MethodName} {cc : ByteArray} {nL : Nat} {rm : Room} {D : va_G} {cl : List vw_C} {ws : va_W} {tys : List (ClassId × FieldType)} {av : List Value}
/-- a contract out of a body's walk: reads, answers an int -/
theorem sw_metR {post : Int32 → Prop} (hy : plainName y.cls = true) (hlen : (lg_sl av).length ≤ nL)
    (body : ∀ (p : Program) (e : Env) (s : State) (m : MethodId) (below : List Frame) (meth : Method) (c : Code) (Q : State → Prop) (ls : Array Slot), CallFix p m c cc nL s av.toArray lw_all y.cls → va_K D cl tys s → va_P D cl ws s.heap → lv_has ls nL (lv_args 0 av) → (∀ (pc : Nat) (ls : Array Slot) (r : Int32), decode cc pc = .ok (.ireturn, 1) → post r → W p l e rm s m av.toArray below meth c s.heap [] 0 0 Q (F0 m pc ls [.int r])) → W p l e rm s m av.toArray below meth c s.heap [] 0 0 Q (F0 m 0 ls [])) :
    Met l y (ws_ y cc nL (some .int)) rm (sw_R D cl ws tys av) (vp_Si post) 0 0 (fun _ => False) := by
  refine Met.ofW (cc := cc) (maxL := nL) (ret := some .int) hy rfl ?_
  intro p e s m args below meth c s₁ B hml hv
  obtain ⟨rfl, hP, hK⟩ := hv
  have hts := atoms_spec (ws := ws_ y cc nL (some .int)) B.pre
  have hts : ∀ w ∈ lw_all, w.before _ s = true := fun w h => hts w (List.mem_cons_of_mem _ h)
  have hl := lv_entry av (n := nL) hlen
  rw [lg_entry_eq]
  generalize (lg_sl av ++ List.replicate (nL - (lg_sl av).length) Slot.unset).toArray = ls at hl ⊢
  have hlocks := B.notSynchronized
  exact body p e s m below meth c _ ls ⟨B.exec, B.bytes, hml, findClass_of_methodNamed B.named, hts⟩ hK hP hl (fun pc ls r hd hr => W.iret B.exec B.bytes B.returns (fun t ht _ => ⟨r, rfl, hr, ht⟩) (fun _ h => absurd h List.not_mem_nil) hd)
/-- reads, answers a truth value -/
theorem sw_metRz {P : Prop} (hy : plainName y.cls = true) (hlen : (lg_sl av).length ≤ nL)
    (body : ∀ (p : Program) (e : Env) (s : State) (m : MethodId) (below : List Frame) (meth : Method) (c : Code) (Q : State → Prop) (ls : Array Slot), CallFix p m c cc nL s av.toArray lw_all y.cls → va_K D cl tys s → va_P D cl ws s.heap → lv_has ls nL (lv_args 0 av) → (∀ (pc : Nat) (ls : Array Slot) (r : Int32), decode cc pc = .ok (.ireturn, 1) → sw_b P r → W p l e rm s m av.toArray below meth c s.heap [] 0 0 Q (F0 m pc ls [.int r])) → W p l e rm s m av.toArray below meth c s.heap [] 0 0 Q (F0 m 0 ls [])) :
    Met l y (ws_ y cc nL (some .boolean)) rm (sw_R D cl ws tys av) (vp_Si (sw_b P)) 0 0 (fun _ => False) := by
  refine Met.ofW (cc := cc) (maxL := nL) (ret := some .boolean) hy rfl ?_
  intro p e s m args below meth c s₁ B hml hv
  obtain ⟨rfl, hP, hK⟩ := hv
  have hts := atoms_spec (ws := ws_ y cc nL (some .boolean)) B.pre
  have hts : ∀ w ∈ lw_all, w.before _ s = true := fun w h => hts w (List.mem_cons_of_mem _ h)
  have hl := lv_entry av (n := nL) hlen
  rw [lg_entry_eq]
  generalize (lg_sl av ++ List.replicate (nL - (lg_sl av).length) Slot.unset).toArray = ls at hl ⊢
  have hlocks := B.notSynchronized
  exact body p e s m below meth c _ ls ⟨B.exec, B.bytes, hml, findClass_of_methodNamed B.named, hts⟩ hK hP hl (fun pc ls r hd hr => W.zret B.exec B.bytes B.returns (sw_b_nar hr) (fun t ht _ => ⟨r, rfl, hr, ht⟩) (fun _ h => absurd h List.not_mem_nil) hd)
/-- a static method that reads nothing, answers a truth value -/
theorem sw_metSz {P : Prop} (hy : plainName y.cls = true) (hlen : (lg_sl av).length ≤ nL)
    (body : ∀ (p : Program) (e : Env) (s : State) (m : MethodId) (below : List Frame) (meth : Method) (c : Code) (Q : State → Prop) (ls : Array Slot), CallFix p m c cc nL s av.toArray lw_all y.cls → lv_has ls nL (lv_args 0 av) → (∀ (pc : Nat) (ls : Array Slot) (r : Int32), decode cc pc = .ok (.ireturn, 1) → sw_b P r → W p l e rm s m av.toArray below meth c s.heap [] 0 0 Q (F0 m pc ls [.int r])) → W p l e rm s m av.toArray below meth c s.heap [] 0 0 Q (F0 m 0 ls [])) :
    Met l y (ws_ y cc nL (some .boolean)) rm (va_Pc av (fun _ => True)) (vp_Si (sw_b P)) 0 0 (fun _ => False) := by
  refine Met.ofW (cc := cc) (maxL := nL) (ret := some .boolean) hy rfl ?_
  intro p e s m args below meth c s₁ B hml hv
  obtain ⟨rfl, -⟩ := hv
  have hts := atoms_spec (ws := ws_ y cc nL (some .boolean)) B.pre
  have hts : ∀ w ∈ lw_all, w.before _ s = true := fun w h => hts w (List.mem_cons_of_mem _ h)
  have hl := lv_entry av (n := nL) hlen
  rw [lg_entry_eq]
  generalize (lg_sl av ++ List.replicate (nL - (lg_sl av).length) Slot.unset).toArray = ls at hl ⊢
  have hlocks := B.notSynchronized
  exact body p e s m below meth c _ ls ⟨B.exec, B.bytes, hml, findClass_of_methodNamed B.named, hts⟩ hl (fun pc ls r hd hr => W.zret B.exec B.bytes B.returns (sw_b_nar hr) (fun t ht _ => ⟨r, rfl, hr, ht⟩) (fun _ h => absurd h List.not_mem_nil) hd)

/-- a contract out of a body's walk: writes -/
theorem sw_metI {σ : Type} {wn : σ → va_W} {post : Int32 → σ → Prop} (hy : plainName y.cls = true) (hlen : (lg_sl av).length ≤ nL)
    (body : ∀ (p : Program) (e : Env) (s : State) (m : MethodId) (below : List Frame) (meth : Method) (c : Code) (Q : State → Prop) (ls : Array Slot) (A : Nat → Prop), CallFix p m c cc nL s av.toArray lw_all y.cls → va_K D cl tys s → va_P D cl ws s.heap → va_D A ws → (∀ q, s.heap.size ≤ q → A q) → lv_has ls nL (lv_args 0 av) → (∀ (pc : Nat) (ls : Array Slot) (r : Int32) (u : σ) (H1 : Heap) (locs1 : List Loc), decode cc pc = .ok (.ireturn, 1) → post r u → va_P D cl (wn u) H1 → va_D A (wn u) → va_S A s.heap H1 locs1 → W p l e rm s m av.toArray below meth c H1 locs1 0 0 Q (F0 m pc ls [.int r])) → W p l e rm s m av.toArray below meth c s.heap [] 0 0 Q (F0 m 0 ls [])) (sz : Nat) :
    Met l y (ws_ y cc nL (some .int)) rm (sw_M D cl ws tys sz av) (va_Qi post (sw_B D cl tys (va_A ws sz) wn) (va_A ws sz)) 0 0 (va_A ws sz) := by
  refine Met.ofW (cc := cc) (maxL := nL) (ret := some .int) hy rfl ?_
  intro p e s m args below meth c s₁ B hml hv
  obtain ⟨rfl, hsz, hP, hK, hD0⟩ := hv
  subst hsz
  have hts := atoms_spec (ws := ws_ y cc nL (some .int)) B.pre
  have hts : ∀ w ∈ lw_all, w.before _ s = true := fun w h => hts w (List.mem_cons_of_mem _ h)
  have hl := lv_entry av (n := nL) hlen
  rw [lg_entry_eq]
  generalize (lg_sl av ++ List.replicate (nL - (lg_sl av).length) Slot.unset).toArray = ls at hl ⊢
  have hlocks := B.notSynchronized
  exact body p e s m below meth c _ ls _ ⟨B.exec, B.bytes, hml, findClass_of_methodNamed B.named, hts⟩ hK hP (hD0.self (sz := s.heap.size)) (fun q h => Or.inr h) hl (fun pc ls r u H1 locs1 hd hr hP1 hD1 hS1 => W.iret B.exec B.bytes B.returns (fun t ht hW => ⟨⟨r, u, rfl, hr, by rw [ht]; exact hP1, va_K.moved hW.alike hK, hD1⟩, hS1.F ht⟩) hS1.2.2 hd)
/-- a contract out of a body's walk: writes -/
theorem sw_metZ {σ : Type} {wn : σ → va_W} {post : Int32 → σ → Prop} (hz : ∀ r u, post r u → narrow .boolean (.int r) = .int r) (hy : plainName y.cls = true) (hlen : (lg_sl av).length ≤ nL)
    (body : ∀ (p : Program) (e : Env) (s : State) (m : MethodId) (below : List Frame) (meth : Method) (c : Code) (Q : State → Prop) (ls : Array Slot) (A : Nat → Prop), CallFix p m c cc nL s av.toArray lw_all y.cls → va_K D cl tys s → va_P D cl ws s.heap → va_D A ws → (∀ q, s.heap.size ≤ q → A q) → lv_has ls nL (lv_args 0 av) → (∀ (pc : Nat) (ls : Array Slot) (r : Int32) (u : σ) (H1 : Heap) (locs1 : List Loc), decode cc pc = .ok (.ireturn, 1) → post r u → va_P D cl (wn u) H1 → va_D A (wn u) → va_S A s.heap H1 locs1 → W p l e rm s m av.toArray below meth c H1 locs1 0 0 Q (F0 m pc ls [.int r])) → W p l e rm s m av.toArray below meth c s.heap [] 0 0 Q (F0 m 0 ls [])) (sz : Nat) :
    Met l y (ws_ y cc nL (some .boolean)) rm (sw_M D cl ws tys sz av) (va_Qi post (sw_B D cl tys (va_A ws sz) wn) (va_A ws sz)) 0 0 (va_A ws sz) := by
  refine Met.ofW (cc := cc) (maxL := nL) (ret := some .boolean) hy rfl ?_
  intro p e s m args below meth c s₁ B hml hv
  obtain ⟨rfl, hsz, hP, hK, hD0⟩ := hv
  subst hsz
  have hts := atoms_spec (ws := ws_ y cc nL (some .boolean)) B.pre
  have hts : ∀ w ∈ lw_all, w.before _ s = true := fun w h => hts w (List.mem_cons_of_mem _ h)
  have hl := lv_entry av (n := nL) hlen
  rw [lg_entry_eq]
  generalize (lg_sl av ++ List.replicate (nL - (lg_sl av).length) Slot.unset).toArray = ls at hl ⊢
  have hlocks := B.notSynchronized
  exact body p e s m below meth c _ ls _ ⟨B.exec, B.bytes, hml, findClass_of_methodNamed B.named, hts⟩ hK hP (hD0.self (sz := s.heap.size)) (fun q h => Or.inr h) hl (fun pc ls r u H1 locs1 hd hr hP1 hD1 hS1 => W.zret B.exec B.bytes B.returns (hz r u hr) (fun t ht hW => ⟨⟨r, u, rfl, hr, by rw [ht]; exact hP1, va_K.moved hW.alike hK, hD1⟩, hS1.F ht⟩) hS1.2.2 hd)
/-- a contract out of a body's walk: writes -/
theorem sw_metV {σ : Type} {wn : σ → va_W} {post : σ → Prop} (hy : plainName y.cls = true) (hlen : (lg_sl av).length ≤ nL)
    (body : ∀ (p : Program) (e : Env) (s : State) (m : MethodId) (below : List Frame) (meth : Method) (c : Code) (Q : State → Prop) (ls : Array Slot) (A : Nat → Prop), CallFix p m c cc nL s av.toArray lw_all y.cls → va_K D cl tys s → va_P D cl ws s.heap → va_D A ws → (∀ q, s.heap.size ≤ q → A q) → lv_has ls nL (lv_args 0 av) → (∀ (pc : Nat) (ls : Array Slot) (u : σ) (H1 : Heap) (locs1 : List Loc), decode cc pc = .ok (.return_, 1) → post u → va_P D cl (wn u) H1 → va_D A (wn u) → va_S A s.heap H1 locs1 → W p l e rm s m av.toArray below meth c H1 locs1 0 0 Q (F0 m pc ls [])) → W p l e rm s m av.toArray below meth c s.heap [] 0 0 Q (F0 m 0 ls [])) (sz : Nat) :
    Met l y (ws_ y cc nL (none)) rm (sw_M D cl ws tys sz av) (va_Qv post (sw_B D cl tys (va_A ws sz) wn) (va_A ws sz)) 0 0 (va_A ws sz) := by
  refine Met.ofW (cc := cc) (maxL := nL) (ret := none) hy rfl ?_
  intro p e s m args below meth c s₁ B hml hv
  obtain ⟨rfl, hsz, hP, hK, hD0⟩ := hv
  subst hsz
  have hts := atoms_spec (ws := ws_ y cc nL (none)) B.pre
  have hts : ∀ w ∈ lw_all, w.before _ s = true := fun w h => hts w (List.mem_cons_of_mem _ h)
  have hl := lv_entry av (n := nL) hlen
  rw [lg_entry_eq]
  generalize (lg_sl av ++ List.replicate (nL - (lg_sl av).length) Slot.unset).toArray = ls at hl ⊢
  have hlocks := B.notSynchronized
  exact body p e s m below meth c _ ls _ ⟨B.exec, B.bytes, hml, findClass_of_methodNamed B.named, hts⟩ hK hP (hD0.self (sz := s.heap.size)) (fun q h => Or.inr h) hl (fun pc ls u H1 locs1 hd hr hP1 hD1 hS1 => W.vret B.exec B.bytes B.returns (fun t ht hW => ⟨⟨u, rfl, hr, by rw [ht]; exact hP1, va_K.moved hW.alike hK, hD1⟩, hS1.F ht⟩) hS1.2.2 hd)
end SWM
end
section
/-! the plain law: what fits, the places, the beginnings. St: sets, Ct: counts, T: stream, Sz: sizes; place i: item i % 6 of pattern i / 6 -/
def sw_has (St : Nat → Nat) (i s : Nat) : Prop := St i / 2 ^ s % 2 = 1
def sw_emp (Ct : Nat → Nat) (i : Nat) : Prop := Ct i = 1 ∨ Ct i = 2
def sw_rep (Ct : Nat → Nat) (i : Nat) : Prop := Ct i = 2 ∨ Ct i = 3
def sw_alw (c n : Nat) : Prop := (c = 0 ∧ n = 1) ∨ (c = 1 ∧ n ≤ 1) ∨ c = 2 ∨ (c ≠ 0 ∧ c ≠ 1 ∧ 1 ≤ n)
def sw_run (St T : Nat → Nat) (i r q : Nat) : Prop := ∀ t, r ≤ t → t < q → sw_has St i (T t)
/-- the row from b up to q (not included) fits the first k items from place i0 on -/
def sw_F (St Ct T : Nat → Nat) (i0 : Nat) : Nat → Nat → Nat → Prop
  | 0, b, q => q = b
  | k + 1, b, q => ∃ r, b ≤ r ∧ r ≤ q ∧ sw_F St Ct T i0 k b r ∧ sw_run St T (i0 + k) r q ∧ sw_alw (Ct (i0 + k)) (q - r)
/-- .. the first k + 1 items, its last symbol at item k -/
def sw_G (St Ct T : Nat → Nat) (i0 k b q : Nat) : Prop := ∃ r, b ≤ r ∧ r < q ∧ sw_F St Ct T i0 k b r ∧ sw_run St T (i0 + k) r q ∧ (q = r + 1 ∨ sw_rep Ct (i0 + k))
theorem sw_F_le {St Ct T : Nat → Nat} {i0 : Nat} : ∀ {k b q : Nat}, sw_F St Ct T i0 k b q → b ≤ q
  | 0, b, q, h => by have h : q = b := h; omega
  | k + 1, b, q, h => by obtain ⟨r, h1, h2, -⟩ := h; omega
theorem sw_F_succ {St Ct T : Nat → Nat} {i0 k b q : Nat} (hc : Ct (i0 + k) ≤ 3) : sw_F St Ct T i0 (k + 1) b q ↔ (sw_emp Ct (i0 + k) ∧ sw_F St Ct T i0 k b q) ∨ sw_G St Ct T i0 k b q := by
  constructor
  · rintro ⟨r, h1, h2, hF, hr, ha⟩
    by_cases e : r = q
    · subst e
      refine Or.inl ⟨?_, hF⟩
      unfold sw_alw at ha
      unfold sw_emp
      omega
    · refine Or.inr ⟨r, h1, by omega, hF, hr, ?_⟩
      unfold sw_alw at ha
      unfold sw_rep
      omega
  · rintro (⟨he, hF⟩ | ⟨r, h1, h2, hF, hr, ha⟩)
    · refine ⟨q, sw_F_le hF, Nat.le_refl _, hF, fun t h1 h2 => absurd h1 (by omega), ?_⟩
      unfold sw_emp at he
      unfold sw_alw
      omega
    · refine ⟨r, h1, by omega, hF, hr, ?_⟩
      unfold sw_rep at ha
      unfold sw_alw
      omega
theorem sw_G_lt {St Ct T : Nat → Nat} {i0 k b q : Nat} (h : sw_G St Ct T i0 k b q) : b < q := by
  obtain ⟨r, h1, h2, -⟩ := h
  omega
theorem sw_G_step {St Ct T : Nat → Nat} {i0 k b t : Nat} : sw_G St Ct T i0 k b (t + 1) ↔ sw_has St (i0 + k) (T t) ∧ (sw_F St Ct T i0 k b t ∨ (sw_rep Ct (i0 + k) ∧ sw_G St Ct T i0 k b t)) := by
  constructor
  · rintro ⟨r, h1, h2, hF, hr, ha⟩
    refine ⟨hr t (by omega) (by omega), ?_⟩
    by_cases e : r = t
    · subst e
      exact Or.inl hF
    · have hrep : sw_rep Ct (i0 + k) := by
        rcases ha with ha | ha
        · omega
        · exact ha
      exact Or.inr ⟨hrep, r, h1, by omega, hF, fun x hx1 hx2 => hr x hx1 (by omega), Or.inr hrep⟩
  · rintro ⟨hh, hF | ⟨hrep, r, h1, h2, hF, hr, ha⟩⟩
    · refine ⟨t, sw_F_le hF, by omega, hF, fun x hx1 hx2 => ?_, Or.inl rfl⟩
      obtain rfl : x = t := by omega
      exact hh
    · refine ⟨r, h1, by omega, hF, fun x hx1 hx2 => ?_, Or.inr hrep⟩
      by_cases e : x = t
      · subst e
        exact hh
      · exact hr x hx1 (by omega)
theorem sw_F_via {St Ct T : Nat → Nat} {i0 b q : Nat} (hc : ∀ i, Ct i ≤ 3) : ∀ k, sw_F St Ct T i0 k b q ↔ (q = b ∧ ∀ j, j < k → sw_emp Ct (i0 + j)) ∨ ∃ j, j < k ∧ sw_G St Ct T i0 j b q ∧ ∀ x, j < x → x < k → sw_emp Ct (i0 + x)
  | 0 => by
    constructor
    · intro h
      exact Or.inl ⟨h, fun j h => absurd h (Nat.not_lt_zero _)⟩
    · rintro (⟨h, -⟩ | ⟨j, h, -⟩)
      · exact h
      · exact absurd h (Nat.not_lt_zero _)
  | k + 1 => by
    rw [sw_F_succ (hc _), sw_F_via hc k]
    constructor
    · rintro (⟨he, ⟨h1, h2⟩ | ⟨j, h1, h2, h3⟩⟩ | h)
      · refine Or.inl ⟨h1, fun j hj => ?_⟩
        by_cases e : j = k
        · rw [e]; exact he
        · exact h2 j (by omega)
      · refine Or.inr ⟨j, by omega, h2, fun x hx1 hx2 => ?_⟩
        by_cases e : x = k
        · rw [e]; exact he
        · exact h3 x hx1 (by omega)
      · exact Or.inr ⟨k, by omega, h, fun x hx1 hx2 => absurd hx1 (by omega)⟩
    · rintro (⟨h1, h2⟩ | ⟨j, h1, h2, h3⟩)
      · exact Or.inl ⟨h2 k (by omega), Or.inl ⟨h1, fun j hj => h2 j (by omega)⟩⟩
      · by_cases e : j = k
        · subst e
          exact Or.inr h2
        · exact Or.inl ⟨h3 k (by omega) (by omega), Or.inr ⟨j, by omega, h2, fun x hx1 hx2 => h3 x hx1 (by omega)⟩⟩
theorem sw_F_congr {St Ct T T' : Nat → Nat} {i0 b : Nat} : ∀ (k q : Nat), (∀ t, t < q → T t = T' t) → (sw_F St Ct T i0 k b q → sw_F St Ct T' i0 k b q)
  | 0, q, _, h => h
  | k + 1, q, hT, ⟨r, h1, h2, hF, hr, ha⟩ => ⟨r, h1, h2, sw_F_congr k r (fun t ht => hT t (by omega)) hF, fun t ht1 ht2 => by rw [← hT t ht2]; exact hr t ht1 ht2, ha⟩
/-- the place i is active behind q symbols, from b on -/
def sw_P (St Ct T : Nat → Nat) (i b q : Nat) : Prop := sw_G St Ct T (i / 6 * 6) (i % 6) b q
def sw_open (Ct : Nat → Nat) (j i : Nat) : Prop := ∀ x, j ≤ x → x < i → sw_emp Ct x
theorem sw_P_lt {St Ct T : Nat → Nat} {i b q : Nat} (h : sw_P St Ct T i b q) : b < q := sw_G_lt h
theorem sw_P_congr {St Ct T T' : Nat → Nat} {i b q : Nat} (hT : ∀ t, t < q → T t = T' t) (h : sw_P St Ct T i b q) : sw_P St Ct T' i b q := by
  obtain ⟨r, h1, h2, hF, hr, ha⟩ := h
  exact ⟨r, h1, h2, sw_F_congr _ _ (fun t ht => hT t (by omega)) hF, fun t ht1 ht2 => by rw [← hT t ht2]; exact hr t ht1 ht2, ha⟩
theorem sw_P_of {St Ct T : Nat → Nat} {p k b q : Nat} (hk : k < 6) : sw_P St Ct T (p * 6 + k) b q ↔ sw_G St Ct T (p * 6) k b q := by
  unfold sw_P
  rw [show (p * 6 + k) / 6 * 6 = p * 6 by omega, show (p * 6 + k) % 6 = k by omega]
theorem sw_P_step {St Ct T : Nat → Nat} (hc : ∀ i, Ct i ≤ 3) {i b t : Nat} : sw_P St Ct T i b (t + 1) ↔ sw_has St i (T t) ∧ ((t = b ∧ sw_open Ct (i / 6 * 6) i) ∨ (∃ j, i / 6 * 6 ≤ j ∧ j < i ∧ sw_P St Ct T j b t ∧ sw_open Ct (j + 1) i) ∨ (sw_rep Ct i ∧ sw_P St Ct T i b t)) := by
  have ei : i / 6 * 6 + i % 6 = i := by omega
  unfold sw_P
  rw [sw_G_step, sw_F_via hc, ei]
  constructor
  · rintro ⟨h0, (⟨h1, h2⟩ | ⟨j, h1, h2, h3⟩) | h⟩
    · refine ⟨h0, Or.inl ⟨h1, fun x hx1 hx2 => ?_⟩⟩
      have := h2 (x - i / 6 * 6) (by omega)
      rw [show i / 6 * 6 + (x - i / 6 * 6) = x by omega] at this
      exact this
    · refine ⟨h0, Or.inr (Or.inl ⟨i / 6 * 6 + j, by omega, by omega, ?_, fun x hx1 hx2 => ?_⟩)⟩
      · rw [show (i / 6 * 6 + j) / 6 * 6 = i / 6 * 6 by omega, show (i / 6 * 6 + j) % 6 = j by omega]
        exact h2
      · have := h3 (x - i / 6 * 6) (by omega) (by omega)
        rw [show i / 6 * 6 + (x - i / 6 * 6) = x by omega] at this
        exact this
    · exact ⟨h0, Or.inr (Or.inr h)⟩
  · rintro ⟨h0, ⟨h1, h2⟩ | ⟨j, h1, h2, h3, h4⟩ | h⟩
    · exact ⟨h0, Or.inl (Or.inl ⟨h1, fun j hj => h2 _ (by omega) (by omega)⟩)⟩
    · refine ⟨h0, Or.inl (Or.inr ⟨j - i / 6 * 6, by omega, ?_, fun x hx1 hx2 => h4 _ (by omega) (by omega)⟩)⟩
      rw [show j / 6 * 6 = i / 6 * 6 by omega, show j % 6 = j - i / 6 * 6 by omega] at h3
      exact h3
    · exact ⟨h0, Or.inr h⟩
/-- the whole pattern p -/
def sw_E (Sz St Ct T : Nat → Nat) (p b q : Nat) : Prop := sw_F St Ct T (p * 6) (Sz p) b q
theorem sw_E_congr {Sz St Ct T T' : Nat → Nat} {p b q : Nat} (hT : ∀ t, t < q → T t = T' t) (h : sw_E Sz St Ct T p b q) : sw_E Sz St Ct T' p b q := sw_F_congr _ _ hT h
theorem sw_E_via {Sz St Ct T : Nat → Nat} (hc : ∀ i, Ct i ≤ 3) (hs : ∀ j, Sz j ≤ 6) {p b q : Nat} (hbq : b < q) : sw_E Sz St Ct T p b q ↔ ∃ i, p * 6 ≤ i ∧ i < p * 6 + Sz p ∧ sw_P St Ct T i b q ∧ sw_open Ct (i + 1) (p * 6 + Sz p) := by
  have hp := hs p
  unfold sw_E
  rw [sw_F_via hc]
  constructor
  · rintro (⟨h1, -⟩ | ⟨j, h1, h2, h3⟩)
    · omega
    · refine ⟨p * 6 + j, by omega, by omega, (sw_P_of (by omega)).mpr h2, fun x hx1 hx2 => ?_⟩
      have := h3 (x - p * 6) (by omega) (by omega)
      rw [show p * 6 + (x - p * 6) = x by omega] at this
      exact this
  · rintro ⟨i, h1, h2, h3, h4⟩
    refine Or.inr ⟨i - p * 6, by omega, ?_, fun x hx1 hx2 => h4 _ (by omega) (by omega)⟩
    rw [show i = p * 6 + (i - p * 6) by omega] at h3
    exact (sw_P_of (by omega)).mp h3
theorem sw_E_nil {Sz St Ct T : Nat → Nat} (hc : ∀ i, Ct i ≤ 3) {p b : Nat} : sw_E Sz St Ct T p b b ↔ sw_open Ct (p * 6) (p * 6 + Sz p) := by
  unfold sw_E
  rw [sw_F_via hc]
  constructor
  · rintro (⟨-, h1⟩ | ⟨j, -, h2, -⟩)
    · intro x hx1 hx2
      have := h1 (x - p * 6) (by omega)
      rw [show p * 6 + (x - p * 6) = x by omega] at this
      exact this
    · exact absurd (sw_G_lt h2) (by omega)
  · intro h
    exact Or.inl ⟨rfl, fun j hj => h _ (by omega) (by omega)⟩
/-! least and greatest -/
def sw_lo (P : Nat → Prop) (z : Int) : Prop := (z = -1 ∧ ∀ b, ¬ P b) ∨ ∃ b : Nat, z = (b : Int) ∧ P b ∧ ∀ c, P c → b ≤ c
def sw_hi (P : Nat → Prop) (z : Int) : Prop := (z = -1 ∧ ∀ b, ¬ P b) ∨ ∃ b : Nat, z = (b : Int) ∧ P b ∧ ∀ c, P c → c ≤ b
def sw_lN (P : Nat → Prop) (e : Nat) : Prop := (e = 60 ∧ ∀ b, ¬ P b) ∨ (e < 60 ∧ P e ∧ ∀ c, P c → e ≤ c)
theorem sw_lo_uniq {P : Nat → Prop} {z z' : Int} (h : sw_lo P z) (h' : sw_lo P z') : z = z' := by
  rcases h with ⟨e, h⟩ | ⟨b, e, h1, h2⟩
  · rcases h' with ⟨e', h'⟩ | ⟨b', e', h1', h2'⟩
    · omega
    · exact absurd h1' (h b')
  · rcases h' with ⟨e', h'⟩ | ⟨b', e', h1', h2'⟩
    · exact absurd h1 (h' b)
    · have := h2 b' h1'
      have := h2' b h1
      omega
theorem sw_hi_uniq {P : Nat → Prop} {z z' : Int} (h : sw_hi P z) (h' : sw_hi P z') : z = z' := by
  rcases h with ⟨e, h⟩ | ⟨b, e, h1, h2⟩
  · rcases h' with ⟨e', h'⟩ | ⟨b', e', h1', h2'⟩
    · omega
    · exact absurd h1' (h b')
  · rcases h' with ⟨e', h'⟩ | ⟨b', e', h1', h2'⟩
    · exact absurd h1 (h' b)
    · have := h2 b' h1'
      have := h2' b h1
      omega
theorem sw_lo_iff {P P' : Nat → Prop} (h : ∀ b, P b ↔ P' b) {z : Int} (hz : sw_lo P z) : sw_lo P' z := by
  rcases hz with ⟨e, q⟩ | ⟨b, e, h1, h2⟩
  · exact Or.inl ⟨e, fun b hb => q b ((h b).mpr hb)⟩
  · exact Or.inr ⟨b, e, (h b).mp h1, fun c hc => h2 c ((h c).mpr hc)⟩
theorem sw_hi_iff {P P' : Nat → Prop} (h : ∀ b, P b ↔ P' b) {z : Int} (hz : sw_hi P z) : sw_hi P' z := by
  rcases hz with ⟨e, q⟩ | ⟨b, e, h1, h2⟩
  · exact Or.inl ⟨e, fun b hb => q b ((h b).mpr hb)⟩
  · exact Or.inr ⟨b, e, (h b).mp h1, fun c hc => h2 c ((h c).mpr hc)⟩
theorem sw_lN_iff {P P' : Nat → Prop} (h : ∀ b, P b ↔ P' b) {e : Nat} (hz : sw_lN P e) : sw_lN P' e := by
  rcases hz with ⟨e, q⟩ | ⟨e, h1, h2⟩
  · exact Or.inl ⟨e, fun b hb => q b ((h b).mpr hb)⟩
  · exact Or.inr ⟨e, (h _).mp h1, fun c hc => h2 c ((h c).mpr hc)⟩
theorem sw_lN_or {P P' : Nat → Prop} {e e' : Nat} (h : sw_lN P e) (h' : sw_lN P' e') : sw_lN (fun b => P b ∨ P' b) (if e' < e then e' else e) := by
  by_cases hl : e' < e
  · rw [if_pos hl]
    rcases h' with ⟨e1, q⟩ | ⟨e1, h1, h2⟩
    · rcases h with ⟨e2, q2⟩ | ⟨e2, q2, q3⟩ <;> omega
    · refine Or.inr ⟨e1, Or.inr h1, fun c hc => ?_⟩
      rcases hc with hc | hc
      · rcases h with ⟨e2, q2⟩ | ⟨e2, q2, q3⟩
        · exact absurd hc (q2 c)
        · have := q3 c hc
          omega
      · exact h2 c hc
  · rw [if_neg hl]
    rcases h with ⟨e1, q⟩ | ⟨e1, h1, h2⟩
    · rcases h' with ⟨e2, q2⟩ | ⟨e2, q2, q3⟩
      · refine Or.inl ⟨e1, fun b hb => ?_⟩
        rcases hb with hb | hb
        · exact q b hb
        · exact q2 b hb
      · omega
    · refine Or.inr ⟨e1, Or.inl h1, fun c hc => ?_⟩
      rcases hc with hc | hc
      · exact h2 c hc
      · rcases h' with ⟨e2, q2⟩ | ⟨e2, q2, q3⟩
        · exact absurd hc (q2 c)
        · have := q3 c hc
          omega
theorem sw_hi_or {P P' : Nat → Prop} {z z' : Int} (h : sw_hi P z) (h' : sw_hi P' z') : sw_hi (fun b => P b ∨ P' b) (if z < z' then z' else z) := by
  by_cases hl : z < z'
  · rw [if_pos hl]
    rcases h' with ⟨e1, q⟩ | ⟨b, e1, h1, h2⟩
    · rcases h with ⟨e2, q2⟩ | ⟨b2, e2, q2, q3⟩ <;> omega
    · refine Or.inr ⟨b, e1, Or.inr h1, fun c hc => ?_⟩
      rcases hc with hc | hc
      · rcases h with ⟨e2, q2⟩ | ⟨b2, e2, q2, q3⟩
        · exact absurd hc (q2 c)
        · have := q3 c hc
          omega
      · exact h2 c hc
  · rw [if_neg hl]
    rcases h with ⟨e1, q⟩ | ⟨b, e1, h1, h2⟩
    · rcases h' with ⟨e2, q2⟩ | ⟨b2, e2, q2, q3⟩
      · refine Or.inl ⟨e1, fun b hb => ?_⟩
        rcases hb with hb | hb
        · exact q b hb
        · exact q2 b hb
      · omega
    · refine Or.inr ⟨b, e1, Or.inl h1, fun c hc => ?_⟩
      rcases hc with hc | hc
      · exact h2 c hc
      · rcases h' with ⟨e2, q2⟩ | ⟨b2, e2, q2, q3⟩
        · exact absurd hc (q2 c)
        · have := q3 c hc
          omega
theorem sw_lN_le {P : Nat → Prop} {e : Nat} (h : sw_lN P e) : e ≤ 60 := by
  rcases h with ⟨e, -⟩ | ⟨e, -⟩ <;> omega
/-! places -/
def sw_ok (Sz : Nat → Nat) (i : Nat) : Prop := i < 24 ∧ i % 6 < Sz (i / 6)
def sw_fst (Sz Ct : Nat → Nat) (i : Nat) : Prop := sw_ok Sz i ∧ sw_open Ct (i / 6 * 6) i
def sw_lst (Sz Ct : Nat → Nat) (i : Nat) : Prop := sw_ok Sz i ∧ sw_open Ct (i + 1) (i / 6 * 6 + Sz (i / 6))
def sw_fol (Sz Ct : Nat → Nat) (j i : Nat) : Prop := sw_ok Sz i ∧ i / 6 = j / 6 ∧ ((j < i ∧ sw_open Ct (j + 1) i) ∨ (i = j ∧ sw_rep Ct j))
def sw_Lk (Sz Ct : Nat → Nat) (fp : Nat) (fo : Nat → Nat) (lp : Nat) : Prop := fp < 2 ^ 24 ∧ lp < 2 ^ 24 ∧ (∀ i, fp.testBit i = true ↔ sw_fst Sz Ct i) ∧ (∀ i, lp.testBit i = true ↔ sw_lst Sz Ct i) ∧ ∀ j, sw_ok Sz j → ∀ i, (fo j).testBit i = true ↔ sw_fol Sz Ct j i
/-- the active places behind t symbols -/
def sw_Ac (Sz St Ct T : Nat → Nat) (t ac : Nat) (ea : Nat → Nat) (la : Nat → Int) : Prop := ac < 2 ^ 24 ∧ ∀ i, i < 24 → (ac.testBit i = true ↔ sw_ok Sz i ∧ ∃ b, sw_P St Ct T i b t) ∧ (ac.testBit i = true → sw_lN (fun b => sw_P St Ct T i b t) (ea i) ∧ sw_hi (fun b => sw_P St Ct T i b t) (la i))
/-- a match of p that begins at b ends at place q of the stream -/
def sw_Eb (Sz St Ct T : Nat → Nat) (p q b : Nat) : Prop := b ≤ q ∧ sw_E Sz St Ct T p b (q + 1)
/-- the noted matches -/
def sw_Rs (Sz St Ct T : Nat → Nat) (t : Nat) (eA lA : Nat → Int) : Prop := ∀ q p, q < t → p < 4 → sw_lo (sw_Eb Sz St Ct T p q) (eA (q * 4 + p)) ∧ sw_hi (sw_Eb Sz St Ct T p q) (lA (q * 4 + p))
/-- bounds of patterns and stream -/
def sw_Ok (Sz St Ct T : Nat → Nat) (L : Nat) : Prop := (∀ j, Sz j ≤ 6) ∧ (∀ i, St i < 16) ∧ (∀ i, Ct i ≤ 3) ∧ (∀ t, T t < 4) ∧ L ≤ 60
/-- what is kept beside them -/
def sw_Ca (Sz St Ct T : Nat → Nat) (L lk fp : Nat) (fo : Nat → Nat) (lp dn ac : Nat) (ea : Nat → Nat) (la eA lA : Nat → Int) : Prop := (lk = 0 ∨ (lk = 1 ∧ sw_Lk Sz Ct fp fo lp)) ∧ dn ≤ L ∧ sw_Ac Sz St Ct T dn ac ea la ∧ sw_Rs Sz St Ct T dn eA lA
theorem sw_Eb_congr {Sz St Ct T T' : Nat → Nat} {p q b : Nat} (hT : ∀ t, t < q + 1 → T t = T' t) : sw_Eb Sz St Ct T p q b ↔ sw_Eb Sz St Ct T' p q b := ⟨fun h => ⟨h.1, sw_E_congr hT h.2⟩, fun h => ⟨h.1, sw_E_congr (fun t ht => (hT t ht).symm) h.2⟩⟩
theorem sw_P_congr' {St Ct T T' : Nat → Nat} {i b q : Nat} (hT : ∀ t, t < q → T t = T' t) : sw_P St Ct T i b q ↔ sw_P St Ct T' i b q := ⟨sw_P_congr hT, sw_P_congr (fun t ht => (hT t ht).symm)⟩
theorem sw_Ac_congr {Sz St Ct T T' : Nat → Nat} {t ac : Nat} {ea : Nat → Nat} {la : Nat → Int} (hT : ∀ x, x < t → T x = T' x) (h : sw_Ac Sz St Ct T t ac ea la) : sw_Ac Sz St Ct T' t ac ea la := by
  refine ⟨h.1, fun i hi => ?_⟩
  obtain ⟨h1, h2⟩ := h.2 i hi
  refine ⟨?_, fun hb => ⟨sw_lN_iff (fun b => sw_P_congr' hT) (h2 hb).1, sw_hi_iff (fun b => sw_P_congr' hT) (h2 hb).2⟩⟩
  rw [h1]
  constructor
  · rintro ⟨k, b, hb⟩
    exact ⟨k, b, (sw_P_congr' hT).mp hb⟩
  · rintro ⟨k, b, hb⟩
    exact ⟨k, b, (sw_P_congr' hT).mpr hb⟩
theorem sw_Rs_congr {Sz St Ct T T' : Nat → Nat} {t : Nat} {eA lA : Nat → Int} (hT : ∀ x, x < t → T x = T' x) (h : sw_Rs Sz St Ct T t eA lA) : sw_Rs Sz St Ct T' t eA lA := fun q p hq hp => ⟨sw_lo_iff (fun b => sw_Eb_congr (fun x hx => hT x (by omega))) (h q p hq hp).1, sw_hi_iff (fun b => sw_Eb_congr (fun x hx => hT x (by omega))) (h q p hq hp).2⟩
theorem sw_Ac_0 {Sz St Ct T : Nat → Nat} {ea : Nat → Nat} {la : Nat → Int} : sw_Ac Sz St Ct T 0 0 ea la := by
  refine ⟨by decide, fun i hi => ⟨?_, fun hb => ?_⟩⟩
  · rw [Nat.zero_testBit]
    constructor
    · intro h
      cases h
    · rintro ⟨-, b, hb⟩
      exact absurd (sw_P_lt hb) (Nat.not_lt_zero _)
  · rw [Nat.zero_testBit] at hb
    cases hb
theorem sw_Rs_0 {Sz St Ct T : Nat → Nat} {eA lA : Nat → Int} : sw_Rs Sz St Ct T 0 eA lA := fun q p hq => absurd hq (Nat.not_lt_zero _)
/-- patterns changed, or the stream is begun anew -/
theorem sw_Ca_0 {Sz St Ct T : Nat → Nat} {L lk fp : Nat} {fo : Nat → Nat} {lp : Nat} {ea : Nat → Nat} {la eA lA : Nat → Int} (h : lk = 0 ∨ (lk = 1 ∧ sw_Lk Sz Ct fp fo lp)) : sw_Ca Sz St Ct T L lk fp fo lp 0 0 ea la eA lA := ⟨h, Nat.zero_le _, sw_Ac_0, sw_Rs_0⟩
end
section
/-! the worlds: the object of StreamWatcher with its 11 arrays, that of the reference with its 6 -/
abbrev vwCl : List vw_C := [(RX0, TX0, 17), (RX1, TX1, 7)]
abbrev wX (o : Nat) (ad : Nat → Nat) (kc : Nat → ClassId) (Sz St Ct T : Nat → Nat) (L lk fp : Nat) (fo : Nat → Nat) (lp dn ac : Nat) (ea : Nat → Nat) (la : Nat → Int) (ne : Nat → Nat) (nl eA lA : Nat → Int) : va_W :=
  [(o, .inr (0, [.ref (ad 0), .ref (ad 1), .ref (ad 2), .ref (ad 3), .int (nI L), .int (nI lk), .int (nI fp), .ref (ad 4), .int (nI lp), .int (nI dn), .int (nI ac), .ref (ad 5), .ref (ad 6), .ref (ad 7), .ref (ad 8), .ref (ad 9), .ref (ad 10)])),
   (ad 0, .inl (kc 0, 4, .inl (nF Sz))), (ad 1, .inl (kc 1, 24, .inl (nF St))), (ad 2, .inl (kc 2, 24, .inl (nF Ct))), (ad 3, .inl (kc 3, 60, .inl (nF T))), (ad 4, .inl (kc 4, 24, .inl (nF fo))),
   (ad 5, .inl (kc 5, 24, .inl (nF ea))), (ad 6, .inl (kc 6, 24, .inl (zF la))), (ad 7, .inl (kc 7, 24, .inl (nF ne))), (ad 8, .inl (kc 8, 24, .inl (zF nl))), (ad 9, .inl (kc 9, 240, .inl (zF eA))), (ad 10, .inl (kc 10, 240, .inl (zF lA)))]
abbrev tyX (kc : Nat → ClassId) : List (ClassId × FieldType) := [(kc 0, .byte), (kc 1, .byte), (kc 2, .byte), (kc 3, .byte), (kc 4, .int), (kc 5, .byte), (kc 6, .byte), (kc 7, .byte), (kc 8, .byte), (kc 9, .byte), (kc 10, .byte)]
abbrev wM (o : Nat) (ad : Nat → Nat) (kc : Nat → ClassId) (Sz St Ct : Nat → Nat) (L : Nat) (T fi mo : Nat → Nat) : va_W :=
  [(o, .inr (1, [.ref (ad 0), .ref (ad 1), .ref (ad 2), .int (nI L), .ref (ad 3), .ref (ad 4), .ref (ad 5)])),
   (ad 0, .inl (kc 0, 4, .inl (nF Sz))), (ad 1, .inl (kc 1, 24, .inl (nF St))), (ad 2, .inl (kc 2, 24, .inl (nF Ct))), (ad 3, .inl (kc 3, 61, .inl (nF T))), (ad 4, .inl (kc 4, 62, .inl (nF fi))), (ad 5, .inl (kc 5, 62, .inl (nF mo)))]
abbrev tyM (kc : Nat → ClassId) : List (ClassId × FieldType) := [(kc 0, .int), (kc 1, .int), (kc 2, .int), (kc 3, .int), (kc 4, .boolean), (kc 5, .boolean)]
/-! bits of a number -/
theorem sw_sh {x k : Nat} (hx : x ≤ 1) (hk : k < 24) : x * 2 ^ k < 2 ^ 32 := Nat.lt_of_le_of_lt (Nat.mul_le_mul_right (2 ^ k) hx) (by rw [Nat.one_mul]; exact Nat.pow_lt_pow_right (by decide) (by omega))
theorem sw_tb (x i : Nat) : x.testBit i = true ↔ x / 2 ^ i % 2 ≠ 0 := by
  rw [Nat.testBit_eq_decide_div_mod_eq, decide_eq_true_iff]
  omega
theorem sw_bit_pow (k j : Nat) : (1 * 2 ^ k).testBit j = true ↔ j = k := by
  rw [Nat.one_mul, Nat.testBit_two_pow, decide_eq_true_iff]
  exact eq_comm
theorem sw_bit_or (x k j : Nat) : (x ||| 1 * 2 ^ k).testBit j = true ↔ x.testBit j = true ∨ j = k := by
  rw [Nat.testBit_or, Bool.or_eq_true, sw_bit_pow]
theorem sw_bit_orm (x b k j : Nat) (hb : b ≤ 1) : (x ||| b * 2 ^ k).testBit j = true ↔ x.testBit j = true ∨ (j = k ∧ b = 1) := by
  rcases (show b = 0 ∨ b = 1 by omega) with rfl | rfl
  · rw [Nat.zero_mul, Nat.or_zero]
    constructor
    · exact Or.inl
    · rintro (h | ⟨-, h⟩)
      · exact h
      · cases h
  · rw [sw_bit_or]
    constructor
    · rintro (h | h)
      · exact Or.inl h
      · exact Or.inr ⟨h, rfl⟩
    · rintro (h | ⟨h, -⟩)
      · exact Or.inl h
      · exact Or.inr h
theorem sw_lt_orm {x b k n : Nat} (hx : x < 2 ^ n) (hb : b ≤ 1) (hk : k < n) : x ||| b * 2 ^ k < 2 ^ n := by
  refine Nat.or_lt_two_pow hx ?_
  exact Nat.lt_of_le_of_lt (Nat.mul_le_mul_right (2 ^ k) hb) (by rw [Nat.one_mul]; exact Nat.pow_lt_pow_right (by decide) hk)
theorem sw_bits_ext {x y : Nat} (h : ∀ i, x.testBit i = true ↔ y.testBit i = true) : x = y := by
  refine Nat.eq_of_testBit_eq fun i => ?_
  have := h i
  cases hx : x.testBit i <;> cases hy : y.testBit i
  · rfl
  · rw [hx, hy] at this; exact absurd (this.mpr rfl) (by decide)
  · rw [hx, hy] at this; exact absurd (this.mp rfl) (by decide)
  · rfl
/-! openFrom -/
def sw_opI (Sz Ct : Nat → Nat) (pn kn i x : Nat) : Prop := x < 2 ^ 24 ∧ ∀ j, x.testBit j = true ↔ (pn * 6 + kn ≤ j ∧ j < pn * 6 + i ∧ j < pn * 6 + Sz pn ∧ sw_open Ct (pn * 6 + kn) j)
def sw_op (Sz Ct : Nat → Nat) (pn kn x : Nat) : Prop := x < 2 ^ 24 ∧ ∀ j, x.testBit j = true ↔ (pn * 6 + kn ≤ j ∧ j < pn * 6 + Sz pn ∧ sw_open Ct (pn * 6 + kn) j)
theorem sw_opI_0 {Sz Ct : Nat → Nat} {pn kn : Nat} : sw_opI Sz Ct pn kn kn 0 := by
  refine ⟨by decide, fun j => ?_⟩
  rw [Nat.zero_testBit]
  constructor
  · intro h; cases h
  · rintro ⟨h1, h2, -⟩; omega
theorem sw_opI_s {Sz Ct : Nat → Nat} {pn kn i x : Nat} (hp : pn < 4) (hs : Sz pn ≤ 6) (hk : kn ≤ i) (hi : i < Sz pn) (ho : sw_open Ct (pn * 6 + kn) (pn * 6 + i)) (h : sw_opI Sz Ct pn kn i x) : sw_opI Sz Ct pn kn (i + 1) (x ||| 1 * 2 ^ (pn * 6 + i)) := by
  refine ⟨sw_lt_orm h.1 (by decide) (by omega), fun j => ?_⟩
  rw [sw_bit_or, h.2]
  constructor
  · rintro (⟨h1, h2, h3, h4⟩ | rfl)
    · exact ⟨h1, by omega, h3, h4⟩
    · exact ⟨by omega, by omega, by omega, ho⟩
  · rintro ⟨h1, h2, h3, h4⟩
    by_cases e : j = pn * 6 + i
    · exact Or.inr e
    · exact Or.inl ⟨h1, by omega, h3, h4⟩
theorem sw_opI_e {Sz Ct : Nat → Nat} {pn kn i x : Nat} (hk : kn ≤ i) (he : Sz pn ≤ i ∨ ¬ sw_open Ct (pn * 6 + kn) (pn * 6 + i)) (h : sw_opI Sz Ct pn kn i x) : sw_op Sz Ct pn kn x := by
  refine ⟨h.1, fun j => ?_⟩
  rw [h.2]
  constructor
  · rintro ⟨h1, h2, h3, h4⟩
    exact ⟨h1, h3, h4⟩
  · rintro ⟨h1, h3, h4⟩
    refine ⟨h1, ?_, h3, h4⟩
    rcases he with he | he
    · omega
    · apply Classical.byContradiction
      intro hn
      exact he (fun y hy1 hy2 => h4 y hy1 (by omega))
theorem sw_open_s {Ct : Nat → Nat} {a i : Nat} (ha : a ≤ i) : sw_open Ct a (i + 1) ↔ sw_open Ct a i ∧ sw_emp Ct i := by
  constructor
  · intro h
    exact ⟨fun x h1 h2 => h x h1 (by omega), h i ha (by omega)⟩
  · rintro ⟨h1, h2⟩ x hx1 hx2
    by_cases e : x = i
    · rw [e]; exact h2
    · exact h1 x hx1 (by omega)
theorem sw_open_0 {Ct : Nat → Nat} {a : Nat} : sw_open Ct a a := fun x h1 h2 => absurd h1 (by omega)
/-! placesFor -/
def sw_pfI (Sz St : Nat → Nat) (sn n x : Nat) : Prop := x < 2 ^ 24 ∧ ∀ j, x.testBit j = true ↔ (j < n ∧ sw_ok Sz j ∧ sw_has St j sn)
theorem sw_pfI_0 {Sz St : Nat → Nat} {sn : Nat} : sw_pfI Sz St sn (0 * 6) 0 := by
  refine ⟨by decide, fun j => ?_⟩
  rw [Nat.zero_testBit]
  constructor
  · intro h; cases h
  · rintro ⟨h1, -⟩; omega
theorem sw_pfI_s {Sz St : Nat → Nat} {sn pn kn x : Nat} (hp : pn < 4) (hs : Sz pn ≤ 6) (hk : kn < Sz pn) (h : sw_pfI Sz St sn (pn * 6 + kn) x) : sw_pfI Sz St sn (pn * 6 + (kn + 1)) (x ||| (St (pn * 6 + kn) / 2 ^ sn % 2) * 2 ^ (pn * 6 + kn)) := by
  refine ⟨sw_lt_orm h.1 (by omega) (by omega), fun j => ?_⟩
  rw [sw_bit_orm _ _ _ _ (by omega), h.2]
  constructor
  · rintro (⟨h1, h2⟩ | ⟨rfl, h1⟩)
    · exact ⟨by omega, h2⟩
    · refine ⟨by omega, ⟨by omega, ?_⟩, h1⟩
      rw [show (pn * 6 + kn) % 6 = kn by omega, show (pn * 6 + kn) / 6 = pn by omega]
      exact hk
  · rintro ⟨h1, h2, h3⟩
    by_cases e : j = pn * 6 + kn
    · subst e
      exact Or.inr ⟨rfl, h3⟩
    · exact Or.inl ⟨by omega, h2, h3⟩
theorem sw_pfI_e {Sz St : Nat → Nat} {sn pn kn x : Nat} (hs : Sz pn ≤ 6) (hk : kn ≤ Sz pn) (hk2 : Sz pn ≤ kn) (h : sw_pfI Sz St sn (pn * 6 + kn) x) : sw_pfI Sz St sn ((pn + 1) * 6) x := by
  refine ⟨h.1, fun j => ?_⟩
  rw [h.2]
  constructor
  · rintro ⟨h1, h2⟩
    exact ⟨by omega, h2⟩
  · rintro ⟨h1, ⟨h2, h3⟩, h4⟩
    refine ⟨?_, ⟨h2, h3⟩, h4⟩
    by_cases e : j / 6 = pn
    · rw [e] at h3; omega
    · omega
/-! onward -/
def sw_onI (fp ac : Nat) (fo : Nat → Nat) (n x : Nat) : Prop := ∀ j, x.testBit j = true ↔ (fp.testBit j = true ∨ ∃ i, i < n ∧ ac.testBit i = true ∧ (fo i).testBit j = true)
def sw_on (Sz St : Nat → Nat) (fp ac : Nat) (fo : Nat → Nat) (sn x : Nat) : Prop := x < 2 ^ 24 ∧ ∀ j, x.testBit j = true ↔ (fp.testBit j = true ∨ ∃ i, i < 24 ∧ ac.testBit i = true ∧ (fo i).testBit j = true) ∧ sw_ok Sz j ∧ sw_has St j sn
theorem sw_onI_0 {fp ac : Nat} {fo : Nat → Nat} : sw_onI fp ac fo 0 fp := fun j => by
  constructor
  · exact Or.inl
  · rintro (h | ⟨i, h, -⟩)
    · exact h
    · exact absurd h (Nat.not_lt_zero _)
theorem sw_onI_s1 {fp ac i x : Nat} {fo : Nat → Nat} (hb : ac / 2 ^ i % 2 ≠ 0) (h : sw_onI fp ac fo i x) : sw_onI fp ac fo (i + 1) (x ||| fo i) := fun j => by
  rw [Nat.testBit_or, Bool.or_eq_true, h j]
  constructor
  · rintro ((h1 | ⟨y, h1, h2⟩) | h1)
    · exact Or.inl h1
    · exact Or.inr ⟨y, by omega, h2⟩
    · exact Or.inr ⟨i, by omega, (sw_tb _ _).mpr hb, h1⟩
  · rintro (h1 | ⟨y, h1, h2, h3⟩)
    · exact Or.inl (Or.inl h1)
    · by_cases e : y = i
      · subst e
        exact Or.inr h3
      · exact Or.inl (Or.inr ⟨y, by omega, h2, h3⟩)
theorem sw_onI_s0 {fp ac i x : Nat} {fo : Nat → Nat} (hb : ac / 2 ^ i % 2 = 0) (h : sw_onI fp ac fo i x) : sw_onI fp ac fo (i + 1) x := fun j => by
  rw [h j]
  constructor
  · rintro (h1 | ⟨y, h1, h2⟩)
    · exact Or.inl h1
    · exact Or.inr ⟨y, by omega, h2⟩
  · rintro (h1 | ⟨y, h1, h2, h3⟩)
    · exact Or.inl h1
    · by_cases e : y = i
      · subst e
        exact absurd hb ((sw_tb _ _).mp h2)
      · exact Or.inr ⟨y, by omega, h2, h3⟩
theorem sw_onI_e {Sz St : Nat → Nat} {fp ac x y sn n : Nat} {fo : Nat → Nat} (h : sw_onI fp ac fo n x) (hn : n = 24) (hp : sw_pfI Sz St sn (4 * 6) y) : sw_on Sz St fp ac fo sn (x &&& y) := by
  subst hn
  refine ⟨Nat.and_lt_two_pow _ hp.1, fun j => ?_⟩
  rw [Nat.testBit_and, Bool.and_eq_true, h j, hp.2]
  constructor
  · rintro ⟨h1, h2, h3⟩
    exact ⟨h1, h3⟩
  · rintro ⟨h1, h2, h3⟩
    exact ⟨h1, by have := h2.1; omega, h2, h3⟩
/-! sets of answers -/
def sw_set (n : Nat) (P : Nat → Prop) (x : Nat) : Prop := ∀ j, x.testBit j = true ↔ j < n ∧ P j
theorem sw_set_0 {P : Nat → Prop} : sw_set 0 P 0 := fun j => by
  rw [Nat.zero_testBit]
  constructor
  · intro h; cases h
  · rintro ⟨h, -⟩; exact absurd h (Nat.not_lt_zero _)
theorem sw_set_1 {P : Nat → Prop} {n x : Nat} (hp : P n) (h : sw_set n P x) : sw_set (n + 1) P (x ||| 1 * 2 ^ n) := fun j => by
  rw [sw_bit_or, h j]
  constructor
  · rintro (⟨h1, h2⟩ | rfl)
    · exact ⟨by omega, h2⟩
    · exact ⟨by omega, hp⟩
  · rintro ⟨h1, h2⟩
    by_cases e : j = n
    · exact Or.inr e
    · exact Or.inl ⟨by omega, h2⟩
theorem sw_set_n {P : Nat → Prop} {n x : Nat} (hp : ¬ P n) (h : sw_set n P x) : sw_set (n + 1) P x := fun j => by
  rw [h j]
  constructor
  · rintro ⟨h1, h2⟩
    exact ⟨by omega, h2⟩
  · rintro ⟨h1, h2⟩
    by_cases e : j = n
    · rw [e] at h2; exact absurd h2 hp
    · exact ⟨by omega, h2⟩
theorem sw_set_n' {P : Nat → Prop} {n x : Nat} (hp : ¬ P n) (h : sw_set n P x) : sw_set (n + 1) P (x ||| 0) := by
  rw [Nat.or_zero]
  exact sw_set_n hp h
theorem sw_set_uniq {P P' : Nat → Prop} {n x y : Nat} (hP : ∀ j, j < n → (P j ↔ P' j)) (h : sw_set n P x) (h' : sw_set n P' y) : x = y := sw_bits_ext fun i => by
  rw [h i, h' i]
  constructor
  · rintro ⟨h1, h2⟩
    exact ⟨h1, (hP i h1).mp h2⟩
  · rintro ⟨h1, h2⟩
    exact ⟨h1, (hP i h1).mpr h2⟩
end
section
/-! link -/
def sw_lkP (Sz Ct : Nat → Nat) (n fp : Nat) : Prop := fp < 2 ^ 24 ∧ ∀ i, fp.testBit i = true ↔ i < n ∧ sw_fst Sz Ct i
def sw_lkL (Sz Ct : Nat → Nat) (n lp : Nat) : Prop := lp < 2 ^ 24 ∧ ∀ i, lp.testBit i = true ↔ i < n ∧ sw_lst Sz Ct i
def sw_lkF (Sz Ct : Nat → Nat) (n : Nat) (fo : Nat → Nat) : Prop := ∀ j, j < n → sw_ok Sz j → ∀ i, (fo j).testBit i = true ↔ sw_fol Sz Ct j i
theorem sw_lkP_0 {Sz Ct : Nat → Nat} : sw_lkP Sz Ct (0 * 6) 0 := by
  refine ⟨by decide, fun j => ?_⟩
  rw [Nat.zero_testBit]
  constructor
  · intro h; cases h
  · rintro ⟨h1, -⟩; omega
theorem sw_lkL_0 {Sz Ct : Nat → Nat} : sw_lkL Sz Ct (0 * 6) 0 := by
  refine ⟨by decide, fun j => ?_⟩
  rw [Nat.zero_testBit]
  constructor
  · intro h; cases h
  · rintro ⟨h1, -⟩; omega
theorem sw_lkF_0 {Sz Ct : Nat → Nat} {fo : Nat → Nat} : sw_lkF Sz Ct (0 * 6) fo := fun j hj => absurd hj (by omega)
theorem sw_ok_of {Sz : Nat → Nat} {pn kn : Nat} (hp : pn < 4) (hs : Sz pn ≤ 6) (hk : kn < Sz pn) : sw_ok Sz (pn * 6 + kn) := by
  refine ⟨by omega, ?_⟩
  rw [show (pn * 6 + kn) % 6 = kn by omega, show (pn * 6 + kn) / 6 = pn by omega]
  exact hk
theorem sw_ok_in {Sz : Nat → Nat} {pn i : Nat} (h : sw_ok Sz i) (hi : i / 6 = pn) : i < pn * 6 + Sz pn := by
  have := h.2
  rw [hi] at this
  omega
theorem sw_ok_range {Sz : Nat → Nat} {pn i : Nat} (hp : pn < 4) (hs : Sz pn ≤ 6) (h1 : pn * 6 ≤ i) (h2 : i < pn * 6 + Sz pn) : sw_ok Sz i ∧ i / 6 = pn := by
  have e : i = pn * 6 + (i - pn * 6) := by omega
  refine ⟨?_, by omega⟩
  rw [e]
  exact sw_ok_of hp hs (by omega)
theorem sw_lkP_s {Sz Ct : Nat → Nat} {pn fp x : Nat} (hp : pn < 4) (hs : Sz pn ≤ 6) (hx : sw_op Sz Ct pn 0 x) (h : sw_lkP Sz Ct (pn * 6) fp) : sw_lkP Sz Ct ((pn + 1) * 6) (fp ||| x) := by
  refine ⟨Nat.or_lt_two_pow h.1 hx.1, fun i => ?_⟩
  rw [Nat.testBit_or, Bool.or_eq_true, h.2, hx.2]
  constructor
  · rintro (⟨h1, h2⟩ | ⟨h1, h2, h3⟩)
    · exact ⟨by omega, h2⟩
    · obtain ⟨q1, q2⟩ := sw_ok_range hp hs (by omega) h2
      refine ⟨by omega, q1, ?_⟩
      rw [show i / 6 * 6 = pn * 6 + 0 by omega]
      exact h3
  · rintro ⟨h1, h2, h3⟩
    by_cases e : i < pn * 6
    · exact Or.inl ⟨e, h2, h3⟩
    · have q := sw_ok_in (pn := pn) h2 (by omega)
      refine Or.inr ⟨by omega, q, ?_⟩
      rw [show pn * 6 + 0 = i / 6 * 6 by omega]
      exact h3
theorem sw_lkF_s {Sz Ct : Nat → Nat} {pn kn v x : Nat} {fo : Nat → Nat} (hp : pn < 4) (hs : Sz pn ≤ 6) (hk : kn < Sz pn) (hx : sw_op Sz Ct pn (kn + 1) x) (hv : ∀ i, v.testBit i = true ↔ x.testBit i = true ∨ (i = pn * 6 + kn ∧ sw_rep Ct (pn * 6 + kn))) (h : sw_lkF Sz Ct (pn * 6 + kn) fo) : sw_lkF Sz Ct (pn * 6 + (kn + 1)) (va_up fo (pn * 6 + kn) v) := by
  intro j hj hok i
  by_cases e : j = pn * 6 + kn
  · subst e
    rw [sw_us, hv, hx.2]
    unfold sw_fol
    rw [show (pn * 6 + kn) / 6 = pn by omega]
    constructor
    · rintro (⟨h1, h2, h3⟩ | ⟨rfl, h1⟩)
      · obtain ⟨q1, q2⟩ := sw_ok_range hp hs (by omega) h2
        exact ⟨q1, q2, Or.inl ⟨by omega, h3⟩⟩
      · exact ⟨hok, by omega, Or.inr ⟨rfl, h1⟩⟩
    · rintro ⟨h1, h2, ⟨h3, h4⟩ | ⟨h3, h4⟩⟩
      · exact Or.inl ⟨by omega, sw_ok_in h1 h2, h4⟩
      · exact Or.inr ⟨h3, h4⟩
  · rw [sw_un e]
    exact h j (by omega) hok i
theorem sw_lkF_s1 {Sz Ct : Nat → Nat} {pn kn x : Nat} {fo : Nat → Nat} (hp : pn < 4) (hs : Sz pn ≤ 6) (hk : kn < Sz pn) (hx : sw_op Sz Ct pn (kn + 1) x) (hr : sw_rep Ct (pn * 6 + kn)) (h : sw_lkF Sz Ct (pn * 6 + kn) fo) : sw_lkF Sz Ct (pn * 6 + (kn + 1)) (va_up fo (pn * 6 + kn) (x ||| 1 * 2 ^ (pn * 6 + kn))) :=
  sw_lkF_s hp hs hk hx (fun i => by
    rw [sw_bit_or]
    constructor
    · rintro (q | q)
      · exact Or.inl q
      · exact Or.inr ⟨q, hr⟩
    · rintro (q | ⟨q, -⟩)
      · exact Or.inl q
      · exact Or.inr q) h
theorem sw_lkF_s0 {Sz Ct : Nat → Nat} {pn kn x : Nat} {fo : Nat → Nat} (hp : pn < 4) (hs : Sz pn ≤ 6) (hk : kn < Sz pn) (hx : sw_op Sz Ct pn (kn + 1) x) (hr : ¬ sw_rep Ct (pn * 6 + kn)) (h : sw_lkF Sz Ct (pn * 6 + kn) fo) : sw_lkF Sz Ct (pn * 6 + (kn + 1)) (va_up fo (pn * 6 + kn) x) :=
  sw_lkF_s hp hs hk hx (fun i => by
    constructor
    · exact Or.inl
    · rintro (q | ⟨-, q⟩)
      · exact q
      · exact absurd q hr) h
theorem sw_lkL_s1 {Sz Ct : Nat → Nat} {pn kn lp : Nat} (hp : pn < 4) (hs : Sz pn ≤ 6) (hk : kn < Sz pn) (ho : sw_open Ct (pn * 6 + (kn + 1)) (pn * 6 + Sz pn)) (h : sw_lkL Sz Ct (pn * 6 + kn) lp) : sw_lkL Sz Ct (pn * 6 + (kn + 1)) (lp ||| 1 * 2 ^ (pn * 6 + kn)) := by
  refine ⟨sw_lt_orm h.1 (by decide) (by omega), fun i => ?_⟩
  rw [sw_bit_or, h.2]
  constructor
  · rintro (⟨h1, h2⟩ | rfl)
    · exact ⟨by omega, h2⟩
    · refine ⟨by omega, sw_ok_of hp hs hk, ?_⟩
      rw [show (pn * 6 + kn) / 6 = pn by omega]
      exact ho
  · rintro ⟨h1, h2⟩
    by_cases e : i = pn * 6 + kn
    · exact Or.inr e
    · exact Or.inl ⟨by omega, h2⟩
theorem sw_lkL_s0 {Sz Ct : Nat → Nat} {pn kn lp : Nat} (hp : pn < 4) (hs : Sz pn ≤ 6) (hk : kn < Sz pn) (ho : ¬ sw_open Ct (pn * 6 + (kn + 1)) (pn * 6 + Sz pn)) (h : sw_lkL Sz Ct (pn * 6 + kn) lp) : sw_lkL Sz Ct (pn * 6 + (kn + 1)) lp := by
  refine ⟨h.1, fun i => ?_⟩
  rw [h.2]
  constructor
  · rintro ⟨h1, h2⟩
    exact ⟨by omega, h2⟩
  · rintro ⟨h1, h2⟩
    by_cases e : i = pn * 6 + kn
    · subst e
      have q := h2.2
      rw [show (pn * 6 + kn) / 6 = pn by omega] at q
      exact absurd q ho
    · exact ⟨by omega, h2⟩
theorem sw_lkF_e {Sz Ct : Nat → Nat} {pn kn : Nat} {fo : Nat → Nat} (hk : Sz pn ≤ kn) (h : sw_lkF Sz Ct (pn * 6 + kn) fo) : sw_lkF Sz Ct ((pn + 1) * 6) fo := fun j hj hok => by
  refine h j ?_ hok
  by_cases e : j / 6 = pn
  · have := sw_ok_in hok e
    omega
  · omega
theorem sw_lkL_e {Sz Ct : Nat → Nat} {pn kn lp : Nat} (hs : Sz pn ≤ 6) (hk : Sz pn ≤ kn) (hk2 : kn ≤ Sz pn) (h : sw_lkL Sz Ct (pn * 6 + kn) lp) : sw_lkL Sz Ct ((pn + 1) * 6) lp := by
  refine ⟨h.1, fun i => ?_⟩
  rw [h.2]
  constructor
  · rintro ⟨h1, h2⟩
    exact ⟨by omega, h2⟩
  · rintro ⟨h1, h2⟩
    refine ⟨?_, h2⟩
    by_cases e : i / 6 = pn
    · have := sw_ok_in h2.1 e
      omega
    · omega
theorem sw_Lk_of {Sz Ct : Nat → Nat} {fp : Nat} {fo : Nat → Nat} {lp : Nat} (h1 : sw_lkP Sz Ct (4 * 6) fp) (h2 : sw_lkF Sz Ct (4 * 6) fo) (h3 : sw_lkL Sz Ct (4 * 6) lp) : sw_Lk Sz Ct fp fo lp := by
  refine ⟨h1.1, h3.1, fun i => ?_, fun i => ?_, fun j hj => h2 j (by have := hj.1; omega) hj⟩
  · rw [h1.2]
    constructor
    · exact fun q => q.2
    · exact fun q => ⟨by have := q.1.1; omega, q⟩
  · rw [h3.2]
    constructor
    · exact fun q => q.2
    · exact fun q => ⟨by have := q.1.1; omega, q⟩
/-! advance -/
def sw_src (St Ct T : Nat → Nat) (fp ac : Nat) (fo : Nat → Nat) (x tn n j b : Nat) : Prop := x.testBit j = true ∧ ((b = tn ∧ fp.testBit j = true) ∨ ∃ y, y < n ∧ ac.testBit y = true ∧ (fo y).testBit j = true ∧ sw_P St Ct T y b tn)
def sw_aI (S : Nat → Nat → Prop) (n : Nat) (ne : Nat → Nat) (nl : Nat → Int) : Prop := ∀ j, j < n → sw_lN (S j) (ne j) ∧ sw_hi (S j) (nl j)
theorem sw_aI_0 {S : Nat → Nat → Prop} {ne : Nat → Nat} {nl : Nat → Int} : sw_aI S 0 ne nl := fun j hj => absurd hj (Nat.not_lt_zero _)
theorem sw_aI_put {S : Nat → Nat → Prop} {i e : Nat} {z : Int} {ne : Nat → Nat} {nl : Nat → Int} (he : sw_lN (S i) e) (hz : sw_hi (S i) z) (h : sw_aI S i ne nl) : sw_aI S (i + 1) (va_up ne i e) (va_up nl i z) := fun j hj => by
  by_cases q : j = i
  · subst q
    rw [sw_us, sw_us]
    exact ⟨he, hz⟩
  · rw [sw_un q, sw_un q]
    exact h j (by omega)
theorem sw_src0_1 {St Ct T : Nat → Nat} {fp ac x tn i : Nat} {fo : Nat → Nat} (ht : tn < 60) (hb : (x &&& fp) / 2 ^ i % 2 ≠ 0) : sw_lN (sw_src St Ct T fp ac fo x tn 0 i) tn ∧ sw_hi (sw_src St Ct T fp ac fo x tn 0 i) ((tn : Nat) : Int) := by
  have hb2 := (sw_tb _ _).mpr hb
  rw [Nat.testBit_and, Bool.and_eq_true] at hb2
  have q : ∀ c, sw_src St Ct T fp ac fo x tn 0 i c → c = tn := by
    rintro c ⟨-, ⟨h, -⟩ | ⟨y, h, -⟩⟩
    · exact h
    · exact absurd h (Nat.not_lt_zero _)
  have q1 : sw_src St Ct T fp ac fo x tn 0 i tn := ⟨hb2.1, Or.inl ⟨rfl, hb2.2⟩⟩
  exact ⟨Or.inr ⟨ht, q1, fun c hc => by rw [q c hc]; exact Nat.le_refl _⟩, Or.inr ⟨tn, rfl, q1, fun c hc => by rw [q c hc]; exact Nat.le_refl _⟩⟩
theorem sw_src0_0 {St Ct T : Nat → Nat} {fp ac x tn i : Nat} {fo : Nat → Nat} (hb : (x &&& fp) / 2 ^ i % 2 = 0) : sw_lN (sw_src St Ct T fp ac fo x tn 0 i) 60 ∧ sw_hi (sw_src St Ct T fp ac fo x tn 0 i) (-1) := by
  have q : ∀ c, ¬ sw_src St Ct T fp ac fo x tn 0 i c := by
    rintro c ⟨h0, ⟨-, h⟩ | ⟨y, h, -⟩⟩
    · exact (sw_tb _ _).mp (by rw [Nat.testBit_and, Bool.and_eq_true]; exact ⟨h0, h⟩) hb
    · exact absurd h (Nat.not_lt_zero _)
  exact ⟨Or.inl ⟨rfl, q⟩, Or.inl ⟨rfl, q⟩⟩
theorem sw_src_le {St Ct T : Nat → Nat} {fp ac x tn n j b : Nat} {fo : Nat → Nat} (h : sw_src St Ct T fp ac fo x tn n j b) : b ≤ tn := by
  obtain ⟨-, ⟨h, -⟩ | ⟨y, -, -, -, h⟩⟩ := h
  · omega
  · have := sw_P_lt h
    omega
theorem sw_hi_bd {P : Nat → Prop} {z : Int} {n : Nat} (h : sw_hi P z) (hP : ∀ b, P b → b ≤ n) : -1 ≤ z ∧ z ≤ (n : Int) := by
  rcases h with ⟨e, -⟩ | ⟨b, e, h1, -⟩
  · omega
  · have := hP b h1
    omega
theorem sw_lo_bd {P : Nat → Prop} {z : Int} {n : Nat} (h : sw_lo P z) (hP : ∀ b, P b → b ≤ n) : -1 ≤ z ∧ z ≤ (n : Int) := by
  rcases h with ⟨e, -⟩ | ⟨b, e, h1, -⟩
  · omega
  · have := hP b h1
    omega
/-- what pass does -/
def sw_pass (ea : Nat → Nat) (la : Nat → Int) (fn tx i : Nat) (ne : Nat → Nat) (nl : Nat → Int) (ne' : Nat → Nat) (nl' : Nat → Int) : Prop := ∀ j, ne' j = (if j < i ∧ tx.testBit j = true then (if ea fn < ne j then ea fn else ne j) else ne j) ∧ nl' j = (if j < i ∧ tx.testBit j = true then (if nl j < la fn then la fn else nl j) else nl j)
theorem sw_pass_0 {ea : Nat → Nat} {la : Nat → Int} {fn tx : Nat} {ne : Nat → Nat} {nl : Nat → Int} : sw_pass ea la fn tx 0 ne nl ne nl := fun j => by
  rw [if_neg (fun q => absurd q.1 (Nat.not_lt_zero _)), if_neg (fun q => absurd q.1 (Nat.not_lt_zero _))]
  exact ⟨rfl, rfl⟩
theorem sw_pass_at {ea : Nat → Nat} {la : Nat → Int} {fn tx i : Nat} {ne ne' : Nat → Nat} {nl nl' : Nat → Int} (h : sw_pass ea la fn tx i ne nl ne' nl') : ne' i = ne i ∧ nl' i = nl i := by
  obtain ⟨h1, h2⟩ := h i
  rw [if_neg (fun q => absurd q.1 (Nat.lt_irrefl _))] at h1 h2
  exact ⟨h1, h2⟩
theorem sw_pass_s0 {ea : Nat → Nat} {la : Nat → Int} {fn tx i : Nat} {ne ne' : Nat → Nat} {nl nl' : Nat → Int} (hb : tx / 2 ^ i % 2 = 0) (h : sw_pass ea la fn tx i ne nl ne' nl') : sw_pass ea la fn tx (i + 1) ne nl ne' nl' := fun j => by
  have e : (j < i + 1 ∧ tx.testBit j = true) ↔ (j < i ∧ tx.testBit j = true) := by
    constructor
    · rintro ⟨h1, h2⟩
      refine ⟨?_, h2⟩
      by_cases q : j = i
      · subst q
        exact absurd hb ((sw_tb _ _).mp h2)
      · omega
    · rintro ⟨h1, h2⟩
      exact ⟨by omega, h2⟩
  simp only [e]
  exact h j
theorem sw_pass_s1 {ea : Nat → Nat} {la : Nat → Int} {fn tx i e2 : Nat} {z2 : Int} {ne ne' ne2 : Nat → Nat} {nl nl' nl2 : Nat → Int} (hb : tx / 2 ^ i % 2 ≠ 0) (h : sw_pass ea la fn tx i ne nl ne' nl') (hn : ∀ j, j ≠ i → ne2 j = ne' j ∧ nl2 j = nl' j) (he : ne2 i = if ea fn < ne i then ea fn else ne i) (hz : nl2 i = if nl i < la fn then la fn else nl i) : sw_pass ea la fn tx (i + 1) ne nl ne2 nl2 := fun j => by
  by_cases q : j = i
  · subst q
    have c : j < j + 1 ∧ tx.testBit j = true := ⟨by omega, (sw_tb _ _).mpr hb⟩
    rw [if_pos c, if_pos c]
    exact ⟨he, hz⟩
  · have e : (j < i + 1 ∧ tx.testBit j = true) ↔ (j < i ∧ tx.testBit j = true) := by
      constructor
      · rintro ⟨h1, h2⟩
        exact ⟨by omega, h2⟩
      · rintro ⟨h1, h2⟩
        exact ⟨by omega, h2⟩
    simp only [e]
    rw [(hn j q).1, (hn j q).2]
    exact h j
theorem sw_src_s0 {St Ct T : Nat → Nat} {fp ac x tn n j b : Nat} {fo : Nat → Nat} (hb : ac / 2 ^ n % 2 = 0) : sw_src St Ct T fp ac fo x tn n j b ↔ sw_src St Ct T fp ac fo x tn (n + 1) j b := by
  constructor
  · rintro ⟨h0, h | ⟨y, h1, h2⟩⟩
    · exact ⟨h0, Or.inl h⟩
    · exact ⟨h0, Or.inr ⟨y, by omega, h2⟩⟩
  · rintro ⟨h0, h | ⟨y, h1, h2, h3⟩⟩
    · exact ⟨h0, Or.inl h⟩
    · refine ⟨h0, Or.inr ⟨y, ?_, h2, h3⟩⟩
      by_cases q : y = n
      · subst q
        exact absurd hb ((sw_tb _ _).mp h2)
      · omega
theorem sw_aI_s0 {St Ct T : Nat → Nat} {fp ac x tn n : Nat} {fo ne : Nat → Nat} {nl : Nat → Int} (hb : ac / 2 ^ n % 2 = 0) (h : sw_aI (sw_src St Ct T fp ac fo x tn n) 24 ne nl) : sw_aI (sw_src St Ct T fp ac fo x tn (n + 1)) 24 ne nl := fun j hj => ⟨sw_lN_iff (fun b => sw_src_s0 hb) (h j hj).1, sw_hi_iff (fun b => sw_src_s0 hb) (h j hj).2⟩
theorem sw_aI_s1 {Sz St Ct T : Nat → Nat} {fp ac x tn n : Nat} {fo ea ne ne' : Nat → Nat} {la nl nl' : Nat → Int} (hn : n < 24) (hb : ac / 2 ^ n % 2 ≠ 0) (hA : sw_Ac Sz St Ct T tn ac ea la) (hp : sw_pass ea la n (x &&& fo n) 24 ne nl ne' nl') (h : sw_aI (sw_src St Ct T fp ac fo x tn n) 24 ne nl) : sw_aI (sw_src St Ct T fp ac fo x tn (n + 1)) 24 ne' nl' := fun j hj => by
  have hb2 := (sw_tb _ _).mpr hb
  obtain ⟨hp1, hp2⟩ := hp j
  obtain ⟨hl, hh⟩ := (hA.2 n hn).2 hb2
  by_cases c : (x &&& fo n).testBit j = true
  · rw [if_pos ⟨hj, c⟩] at hp1 hp2
    rw [hp1, hp2]
    rw [Nat.testBit_and, Bool.and_eq_true] at c
    have e : ∀ b, (sw_src St Ct T fp ac fo x tn n j b ∨ sw_P St Ct T n b tn) ↔ sw_src St Ct T fp ac fo x tn (n + 1) j b := by
      intro b
      constructor
      · rintro (⟨h0, h | ⟨y, h1, h2⟩⟩ | h)
        · exact ⟨h0, Or.inl h⟩
        · exact ⟨h0, Or.inr ⟨y, by omega, h2⟩⟩
        · exact ⟨c.1, Or.inr ⟨n, by omega, hb2, c.2, h⟩⟩
      · rintro ⟨h0, h | ⟨y, h1, h2, h3, h4⟩⟩
        · exact Or.inl ⟨h0, Or.inl h⟩
        · by_cases q : y = n
          · subst q
            exact Or.inr h4
          · exact Or.inl ⟨h0, Or.inr ⟨y, by omega, h2, h3, h4⟩⟩
    exact ⟨sw_lN_iff e (sw_lN_or (h j hj).1 hl), sw_hi_iff e (sw_hi_or (h j hj).2 hh)⟩
  · rw [if_neg (fun q => c q.2)] at hp1 hp2
    rw [hp1, hp2]
    have e : ∀ b, sw_src St Ct T fp ac fo x tn n j b ↔ sw_src St Ct T fp ac fo x tn (n + 1) j b := by
      intro b
      constructor
      · rintro ⟨h0, h | ⟨y, h1, h2⟩⟩
        · exact ⟨h0, Or.inl h⟩
        · exact ⟨h0, Or.inr ⟨y, by omega, h2⟩⟩
      · rintro ⟨h0, h | ⟨y, h1, h2, h3, h4⟩⟩
        · exact ⟨h0, Or.inl h⟩
        · by_cases q : y = n
          · subst q
            exact absurd (by rw [Nat.testBit_and, Bool.and_eq_true]; exact ⟨h0, h3⟩) c
          · exact ⟨h0, Or.inr ⟨y, by omega, h2, h3, h4⟩⟩
    exact ⟨sw_lN_iff e (h j hj).1, sw_hi_iff e (h j hj).2⟩
/-- the sources are the beginnings of the place behind one more symbol -/
theorem sw_src_all {Sz St Ct T : Nat → Nat} {fp ac lp x tn j b : Nat} {fo ea : Nat → Nat} {la : Nat → Int} (hc : ∀ i, Ct i ≤ 3) (hL : sw_Lk Sz Ct fp fo lp) (hA : sw_Ac Sz St Ct T tn ac ea la) (hx : sw_on Sz St fp ac fo (T tn) x) : sw_src St Ct T fp ac fo x tn 24 j b ↔ sw_ok Sz j ∧ sw_P St Ct T j b (tn + 1) := by
  obtain ⟨-, -, hfp, -, hfo⟩ := hL
  constructor
  · rintro ⟨h0, h⟩
    obtain ⟨-, hok, hhas⟩ := (hx.2 j).mp h0
    refine ⟨hok, (sw_P_step hc).mpr ⟨hhas, ?_⟩⟩
    rcases h with ⟨rfl, h⟩ | ⟨y, h1, h2, h3, h4⟩
    · exact Or.inl ⟨rfl, ((hfp j).mp h).2⟩
    · have hoky := (((hA.2 y h1).1).mp h2).1
      obtain ⟨-, q1, ⟨q2, q3⟩ | ⟨q2, q3⟩⟩ := (hfo y hoky j).mp h3
      · exact Or.inr (Or.inl ⟨y, by omega, q2, h4, q3⟩)
      · subst q2
        exact Or.inr (Or.inr ⟨q3, h4⟩)
  · rintro ⟨hok, h⟩
    obtain ⟨hhas, h⟩ := (sw_P_step hc).mp h
    have key : (b = tn ∧ fp.testBit j = true) ∨ ∃ y, y < 24 ∧ ac.testBit y = true ∧ (fo y).testBit j = true ∧ sw_P St Ct T y b tn := by
      rcases h with ⟨h1, h2⟩ | ⟨y, h1, h2, h3, h4⟩ | ⟨h1, h2⟩
      · exact Or.inl ⟨h1.symm, (hfp j).mpr ⟨hok, h2⟩⟩
      · have hoky : sw_ok Sz y := by
          have q := hok.2
          have q1 := hok.1
          refine ⟨by omega, ?_⟩
          rw [show y / 6 = j / 6 by omega]
          omega
        refine Or.inr ⟨y, hoky.1, ((hA.2 y hoky.1).1).mpr ⟨hoky, b, h3⟩, (hfo y hoky j).mpr ⟨hok, by omega, Or.inl ⟨h2, h4⟩⟩, h3⟩
      · exact Or.inr ⟨j, hok.1, ((hA.2 j hok.1).1).mpr ⟨hok, b, h2⟩, (hfo j hok j).mpr ⟨hok, rfl, Or.inr ⟨rfl, h1⟩⟩, h2⟩
    refine ⟨(hx.2 j).mpr ⟨?_, hok, hhas⟩, key⟩
    rcases key with ⟨-, q⟩ | ⟨y, q1, q2, q3, -⟩
    · exact Or.inl q
    · exact Or.inr ⟨y, q1, q2, q3⟩
theorem sw_on_ex {Sz St Ct T : Nat → Nat} {fp ac lp x tn j : Nat} {fo ea : Nat → Nat} {la : Nat → Int} (hc : ∀ i, Ct i ≤ 3) (hL : sw_Lk Sz Ct fp fo lp) (hA : sw_Ac Sz St Ct T tn ac ea la) (hx : sw_on Sz St fp ac fo (T tn) x) : x.testBit j = true ↔ sw_ok Sz j ∧ ∃ b, sw_P St Ct T j b (tn + 1) := by
  constructor
  · intro h
    have key : ∃ b, sw_src St Ct T fp ac fo x tn 24 j b := by
      obtain ⟨q | ⟨y, q1, q2, q3⟩, -⟩ := (hx.2 j).mp h
      · exact ⟨tn, h, Or.inl ⟨rfl, q⟩⟩
      · obtain ⟨-, b, hb⟩ := ((hA.2 y q1).1).mp q2
        exact ⟨b, h, Or.inr ⟨y, q1, q2, q3, hb⟩⟩
    obtain ⟨b, hb⟩ := key
    have := (sw_src_all hc hL hA hx).mp hb
    exact ⟨this.1, b, this.2⟩
  · rintro ⟨h1, b, h2⟩
    exact ((sw_src_all hc hL hA hx).mpr ⟨h1, h2⟩).1
theorem sw_Ac_s {Sz St Ct T : Nat → Nat} {fp ac lp x tn : Nat} {fo ea ne ea' : Nat → Nat} {la nl la' : Nat → Int} (hc : ∀ i, Ct i ≤ 3) (hL : sw_Lk Sz Ct fp fo lp) (hA : sw_Ac Sz St Ct T tn ac ea la) (hx : sw_on Sz St fp ac fo (T tn) x) (h : sw_aI (sw_src St Ct T fp ac fo x tn 24) 24 ne nl) (hcp : ∀ j, j < 24 → ea' j = ne j ∧ la' j = nl j) : sw_Ac Sz St Ct T (tn + 1) x ea' la' := by
  refine ⟨hx.1, fun i hi => ⟨sw_on_ex hc hL hA hx, fun hb => ?_⟩⟩
  have hok := ((sw_on_ex hc hL hA hx).mp hb).1
  rw [(hcp i hi).1, (hcp i hi).2]
  have e : ∀ b, sw_src St Ct T fp ac fo x tn 24 i b ↔ sw_P St Ct T i b (tn + 1) := fun b => (sw_src_all hc hL hA hx).trans ⟨fun q => q.2, fun q => ⟨hok, q⟩⟩
  exact ⟨sw_lN_iff e (h i hi).1, sw_hi_iff e (h i hi).2⟩
/-! note -/
def sw_nQ (St Ct T : Nat → Nat) (ac lp tn pn kn b : Nat) : Prop := ∃ i, pn * 6 ≤ i ∧ i < pn * 6 + kn ∧ ac.testBit i = true ∧ lp.testBit i = true ∧ sw_P St Ct T i b tn
def sw_RsI (Sz St Ct T : Nat → Nat) (tn pn : Nat) (eA lA : Nat → Int) : Prop := ∀ q p, p < 4 → (q < tn ∨ (q = tn ∧ p < pn)) → sw_lo (sw_Eb Sz St Ct T p q) (eA (q * 4 + p)) ∧ sw_hi (sw_Eb Sz St Ct T p q) (lA (q * 4 + p))
theorem sw_nQ_0 {St Ct T : Nat → Nat} {ac lp tn pn : Nat} : sw_lN (sw_nQ St Ct T ac lp tn pn 0) 60 ∧ sw_hi (sw_nQ St Ct T ac lp tn pn 0) (-1) := by
  have q : ∀ b, ¬ sw_nQ St Ct T ac lp tn pn 0 b := by
    rintro b ⟨i, h1, h2, -⟩
    omega
  exact ⟨Or.inl ⟨rfl, q⟩, Or.inl ⟨rfl, q⟩⟩
theorem sw_nQ_s0 {St Ct T : Nat → Nat} {ac lp tn pn kn : Nat} (hb : (ac &&& lp) / 2 ^ (pn * 6 + kn) % 2 = 0) (b : Nat) : sw_nQ St Ct T ac lp tn pn kn b ↔ sw_nQ St Ct T ac lp tn pn (kn + 1) b := by
  constructor
  · rintro ⟨i, h1, h2, h3⟩
    exact ⟨i, h1, by omega, h3⟩
  · rintro ⟨i, h1, h2, h3, h4, h5⟩
    refine ⟨i, h1, ?_, h3, h4, h5⟩
    by_cases q : i = pn * 6 + kn
    · subst q
      exact absurd hb ((sw_tb _ _).mp (by rw [Nat.testBit_and, Bool.and_eq_true]; exact ⟨h3, h4⟩))
    · omega
theorem sw_nQ_s1 {St Ct T : Nat → Nat} {ac lp tn pn kn : Nat} (hb : (ac &&& lp) / 2 ^ (pn * 6 + kn) % 2 ≠ 0) (b : Nat) : (sw_nQ St Ct T ac lp tn pn kn b ∨ sw_P St Ct T (pn * 6 + kn) b tn) ↔ sw_nQ St Ct T ac lp tn pn (kn + 1) b := by
  have hb2 := (sw_tb _ _).mpr hb
  rw [Nat.testBit_and, Bool.and_eq_true] at hb2
  constructor
  · rintro (⟨i, h1, h2, h3⟩ | h)
    · exact ⟨i, h1, by omega, h3⟩
    · exact ⟨pn * 6 + kn, by omega, by omega, hb2.1, hb2.2, h⟩
  · rintro ⟨i, h1, h2, h3, h4, h5⟩
    by_cases q : i = pn * 6 + kn
    · subst q
      exact Or.inr h5
    · exact Or.inl ⟨i, h1, by omega, h3, h4, h5⟩
theorem sw_nQ_e {Sz St Ct T : Nat → Nat} {fp ac lp tn pn kn : Nat} {fo ea : Nat → Nat} {la : Nat → Int} (hc : ∀ i, Ct i ≤ 3) (hs : ∀ j, Sz j ≤ 6) (hp : pn < 4) (hk : kn = Sz pn) (hL : sw_Lk Sz Ct fp fo lp) (hA : sw_Ac Sz St Ct T (tn + 1) ac ea la) (b : Nat) : sw_nQ St Ct T ac lp (tn + 1) pn kn b ↔ sw_Eb Sz St Ct T pn tn b := by
  subst hk
  obtain ⟨-, -, -, hlp, -⟩ := hL
  constructor
  · rintro ⟨i, h1, h2, h3, h4, h5⟩
    obtain ⟨q1, q2⟩ := sw_ok_range hp (hs pn) h1 h2
    have hbt := sw_P_lt h5
    refine ⟨by omega, (sw_E_via hc hs hbt).mpr ⟨i, h1, h2, h5, ?_⟩⟩
    have := ((hlp i).mp h4).2
    rw [q2] at this
    exact this
  · rintro ⟨h0, h⟩
    obtain ⟨i, h1, h2, h3, h4⟩ := (sw_E_via hc hs (by omega)).mp h
    obtain ⟨q1, q2⟩ := sw_ok_range hp (hs pn) h1 h2
    refine ⟨i, h1, h2, ((hA.2 i q1.1).1).mpr ⟨q1, b, h3⟩, (hlp i).mpr ⟨q1, ?_⟩, h3⟩
    rw [q2]
    exact h4
theorem sw_lo_of {P : Nat → Prop} {e : Nat} {z : Int} (he : sw_lN P e) (hz : sw_hi P z) (h : 0 ≤ z) : sw_lo P ((e : Nat) : Int) := by
  rcases he with ⟨-, q⟩ | ⟨q0, q1, q2⟩
  · rcases hz with ⟨e1, -⟩ | ⟨b, -, h1, -⟩
    · omega
    · exact absurd h1 (q b)
  · exact Or.inr ⟨e, rfl, q1, q2⟩
theorem sw_lo_m1 {P : Nat → Prop} {z : Int} (hz : sw_hi P z) (h : z < 0) : sw_lo P (-1) := by
  rcases hz with ⟨-, q⟩ | ⟨b, e, -⟩
  · exact Or.inl ⟨rfl, q⟩
  · omega
theorem sw_RsI_s {Sz St Ct T : Nat → Nat} {tn pn : Nat} {eA lA : Nat → Int} {z1 z2 : Int} (hp : pn < 4) (h1 : sw_lo (sw_Eb Sz St Ct T pn tn) z1) (h2 : sw_hi (sw_Eb Sz St Ct T pn tn) z2) (h : sw_RsI Sz St Ct T tn pn eA lA) : sw_RsI Sz St Ct T tn (pn + 1) (va_up eA (tn * 4 + pn) z1) (va_up lA (tn * 4 + pn) z2) := by
  intro q p hp4 hq
  by_cases e : q * 4 + p = tn * 4 + pn
  · obtain ⟨rfl, rfl⟩ : q = tn ∧ p = pn := by omega
    rw [sw_us, sw_us]
    exact ⟨h1, h2⟩
  · rw [sw_un e, sw_un e]
    exact h q p hp4 (by omega)
theorem sw_Rs_of {Sz St Ct T : Nat → Nat} {tn : Nat} {eA lA : Nat → Int} (h : sw_RsI Sz St Ct T tn 4 eA lA) : sw_Rs Sz St Ct T (tn + 1) eA lA := fun q p hq hp => h q p hp (by omega)
theorem sw_RsI_of {Sz St Ct T : Nat → Nat} {tn : Nat} {eA lA : Nat → Int} (h : sw_Rs Sz St Ct T tn eA lA) : sw_RsI Sz St Ct T tn 0 eA lA := fun q p hp hq => h q p (by omega) hp
theorem sw_hi_ge {P : Nat → Prop} {z : Int} (h : sw_hi P z) : 0 ≤ z ↔ ∃ b, P b := by
  rcases h with ⟨e, q⟩ | ⟨b, e, h1, -⟩
  · constructor
    · intro; omega
    · rintro ⟨b, hb⟩
      exact absurd hb (q b)
  · constructor
    · intro
      exact ⟨b, h1⟩
    · intro; omega
/-! item and drop -/
def sw_itm (zp zs zc : Int) (Sz St Ct : Nat → Nat) (r : Int32) (Sz' St' Ct' : Nat → Nat) : Prop :=
  (¬ (0 ≤ zp ∧ zp < 4 ∧ 1 ≤ zs ∧ zs ≤ 15 ∧ 0 ≤ zc ∧ zc ≤ 3) ∧ r = zI (-1) ∧ Sz' = Sz ∧ St' = St ∧ Ct' = Ct) ∨
  ∃ pn sn cn : Nat, zp = pn ∧ zs = sn ∧ zc = cn ∧ pn < 4 ∧ 1 ≤ sn ∧ sn ≤ 15 ∧ cn ≤ 3 ∧
    ((6 ≤ Sz pn ∧ r = zI (-2) ∧ Sz' = Sz ∧ St' = St ∧ Ct' = Ct) ∨ (Sz pn < 6 ∧ r = nI (Sz pn + 1) ∧ Sz' = va_up Sz pn (Sz pn + 1) ∧ St' = va_up St (pn * 6 + Sz pn) sn ∧ Ct' = va_up Ct (pn * 6 + Sz pn) cn))
def sw_drp (zp : Int) (Sz : Nat → Nat) (r : Int32) (Sz' : Nat → Nat) : Prop :=
  (¬ (0 ≤ zp ∧ zp < 4) ∧ r = zI (-1) ∧ Sz' = Sz) ∨
  ∃ pn : Nat, zp = pn ∧ pn < 4 ∧ ((Sz pn = 0 ∧ r = zI (-1) ∧ Sz' = Sz) ∨ (Sz pn ≠ 0 ∧ r = nI (Sz pn - 1) ∧ Sz' = va_up Sz pn (Sz pn - 1)))
theorem sw_itm_uniq {zp zs zc : Int} {Sz St Ct A1 B1 C1 A2 B2 C2 : Nat → Nat} {r1 r2 : Int32} (h1 : sw_itm zp zs zc Sz St Ct r1 A1 B1 C1) (h2 : sw_itm zp zs zc Sz St Ct r2 A2 B2 C2) : r1 = r2 ∧ A1 = A2 ∧ B1 = B2 ∧ C1 = C2 := by
  rcases h1 with ⟨n1, e1, e2, e3, e4⟩ | ⟨p1, s1, c1, a1, a2, a3, b1, b2, b3, b4, h1⟩
  · rcases h2 with ⟨n2, f1, f2, f3, f4⟩ | ⟨p2, s2, c2, a1, a2, a3, b1, b2, b3, b4, h2⟩
    · exact ⟨e1.trans f1.symm, e2.trans f2.symm, e3.trans f3.symm, e4.trans f4.symm⟩
    · exact absurd (by omega) n1
  · rcases h2 with ⟨n2, f1, f2, f3, f4⟩ | ⟨p2, s2, c2, d1, d2, d3, -, -, -, -, h2⟩
    · exact absurd (by omega) n2
    · obtain rfl : p1 = p2 := by omega
      obtain rfl : s1 = s2 := by omega
      obtain rfl : c1 = c2 := by omega
      rcases h1 with ⟨q, e1, e2, e3, e4⟩ | ⟨q, e1, e2, e3, e4⟩ <;> rcases h2 with ⟨q', f1, f2, f3, f4⟩ | ⟨q', f1, f2, f3, f4⟩
      · exact ⟨e1.trans f1.symm, e2.trans f2.symm, e3.trans f3.symm, e4.trans f4.symm⟩
      · omega
      · omega
      · exact ⟨e1.trans f1.symm, e2.trans f2.symm, e3.trans f3.symm, e4.trans f4.symm⟩
theorem sw_drp_uniq {zp : Int} {Sz A1 A2 : Nat → Nat} {r1 r2 : Int32} (h1 : sw_drp zp Sz r1 A1) (h2 : sw_drp zp Sz r2 A2) : r1 = r2 ∧ A1 = A2 := by
  rcases h1 with ⟨n1, e1, e2⟩ | ⟨p1, a1, b1, h1⟩
  · rcases h2 with ⟨n2, f1, f2⟩ | ⟨p2, a1, b1, h2⟩
    · exact ⟨e1.trans f1.symm, e2.trans f2.symm⟩
    · exact absurd (by omega) n1
  · rcases h2 with ⟨n2, f1, f2⟩ | ⟨p2, d1, -, h2⟩
    · exact absurd (by omega) n2
    · obtain rfl : p1 = p2 := by omega
      rcases h1 with ⟨q, e1, e2⟩ | ⟨q, e1, e2⟩ <;> rcases h2 with ⟨q', f1, f2⟩ | ⟨q', f1, f2⟩
      · exact ⟨e1.trans f1.symm, e2.trans f2.symm⟩
      · omega
      · omega
      · exact ⟨e1.trans f1.symm, e2.trans f2.symm⟩
theorem sw_up_le {f : Nat → Nat} {k v n : Nat} (h : ∀ j, f j ≤ n) (hv : v ≤ n) (j : Nat) : va_up f k v j ≤ n := by
  by_cases e : j = k
  · rw [e, sw_us]; exact hv
  · rw [sw_un e]; exact h j
theorem sw_up_lt {f : Nat → Nat} {k v n : Nat} (h : ∀ j, f j < n) (hv : v < n) (j : Nat) : va_up f k v j < n := by
  by_cases e : j = k
  · rw [e, sw_us]; exact hv
  · rw [sw_un e]; exact h j
theorem sw_Ok_itm {zp zs zc : Int} {Sz St Ct T A B C : Nat → Nat} {L : Nat} {r : Int32} (hO : sw_Ok Sz St Ct T L) (h : sw_itm zp zs zc Sz St Ct r A B C) : sw_Ok A B C T L := by
  obtain ⟨o1, o2, o3, o4, o5⟩ := hO
  rcases h with ⟨-, -, rfl, rfl, rfl⟩ | ⟨pn, sn, cn, -, -, -, a1, a2, a3, a4, ⟨-, -, rfl, rfl, rfl⟩ | ⟨q, -, rfl, rfl, rfl⟩⟩
  · exact ⟨o1, o2, o3, o4, o5⟩
  · exact ⟨o1, o2, o3, o4, o5⟩
  · exact ⟨sw_up_le o1 (by omega), sw_up_lt o2 (by omega), sw_up_le o3 a4, o4, o5⟩
theorem sw_Ok_drp {zp : Int} {Sz St Ct T A : Nat → Nat} {L : Nat} {r : Int32} (hO : sw_Ok Sz St Ct T L) (h : sw_drp zp Sz r A) : sw_Ok A St Ct T L := by
  obtain ⟨o1, o2, o3, o4, o5⟩ := hO
  rcases h with ⟨-, -, rfl⟩ | ⟨pn, -, a1, ⟨-, -, rfl⟩ | ⟨q, -, rfl⟩⟩
  · exact ⟨o1, o2, o3, o4, o5⟩
  · exact ⟨o1, o2, o3, o4, o5⟩
  · exact ⟨sw_up_le o1 (by have := o1 pn; omega), o2, o3, o4, o5⟩
end
section
section SWB
variable {p : Program} {l : Launch} {e : Env} {R : Room} {s : State} {m : MethodId} {args : Array Value} {below : List Frame} {meth : Method} {c : Code} {H : Heap} {locs : List Loc} {Q : State → Prop} {ls : Array Slot} {A : Nat → Prop} {H0 : Heap}
set_option maxHeartbeats 4000000 in
set_option maxRecDepth 100000 in
theorem bX0_isPattern {zp : Int} (S : CallFix p m c cX0_isPattern 1 s args lw_all RX0) (hRf : 0 ≤ R.frames) (hRl : 0 ≤ R.locals) (hlzp : -2147483648 ≤ zp) (huzp : zp < 2147483648) (ret : ∀ (pc : Nat) (ls : Array Slot) (r : Int32), decode cX0_isPattern pc = .ok (.ireturn, 1) → (sw_b (0 ≤ zp ∧ zp < 4) r) → W p l e R s m args below meth c H locs 0 0 Q (F0 m pc ls [.int r])) (hl : lv_has ls 1 [(0, .int (zI (zp)))]) : W p l e R s m args below meth c H locs 0 0 Q (F0 m 0 ls []) := by
  have hx := S.1
  have hb := S.2.1
  have hown := S.2.2.2.1
  have hts := S.2.2.2.2
  refine lv_iload_n hx hb dX0_isPattern_0 rfl (lv_at hl 0 rfl) ?_
  refine sw_zlt (tgt := 13) hx hb dX0_isPattern_1 (by decide) (zI_toInt (z := zp) (by omega) (by omega)) (fun h1 => ?_) (fun h1 => ?_)
  · refine lv_iconst (v := nI (0)) hx hb dX0_isPattern_13 (by decide) ?_
    exact ret _ _ _ dX0_isPattern_14 (Or.inr ⟨rfl, by omega⟩)
  · refine lv_iload_n hx hb dX0_isPattern_4 rfl (lv_at hl 0 rfl) ?_
    refine lv_iconst (v := nI (4)) hx hb dX0_isPattern_5 (by decide) ?_
    refine sw_dge (tgt := 13) hx hb dX0_isPattern_6 (by decide) (zI_toInt (z := zp) (by omega) (by omega)) (nI_toInt (show (4) < 2 ^ 31 by omega)) (fun h6 => ?_) (fun h6 => ?_)
    · refine lv_iconst (v := nI (0)) hx hb dX0_isPattern_13 (by decide) ?_
      exact ret _ _ _ dX0_isPattern_14 (Or.inr ⟨rfl, by omega⟩)
    · refine lv_iconst (v := nI (1)) hx hb dX0_isPattern_9 (by decide) ?_
      refine lv_goto (tgt := 14) hx hb dX0_isPattern_10 (by decide) ?_
      exact ret _ _ _ dX0_isPattern_14 (Or.inl ⟨rfl, by omega⟩)
set_option maxRecDepth 100000 in
theorem mX0_isPattern (l : Launch) {zp : Int} (hlzp : -2147483648 ≤ zp) (huzp : zp < 2147483648) : Met l yX0_isPattern (ws_ yX0_isPattern cX0_isPattern 1 (some .boolean)) ({ frames := 0, cells := 0, slots := 0, locals := 0 }) (va_Pc [.int (zI (zp))] (fun _ => True)) (vp_Si (sw_b (0 ≤ zp ∧ zp < 4))) 0 0 (fun _ => False) := sw_metSz (by decide) (Nat.le_of_ble_eq_true rfl) (fun p e s m below meth c Q ls S hl ret => bX0_isPattern S (Nat.le_refl _) (Nat.le_refl _) hlzp huzp ret hl)
set_option maxHeartbeats 4000000 in
set_option maxRecDepth 100000 in
theorem bX0_isPlace {D : va_G} {o : Nat} {ad : Nat → Nat} {kc : Nat → ClassId} {Sz : Nat → Nat} {St : Nat → Nat} {Ct : Nat → Nat} {T : Nat → Nat} {L : Nat} {lk : Nat} {fp : Nat} {fo : Nat → Nat} {lp : Nat} {dn : Nat} {ac : Nat} {ea : Nat → Nat} {la : Nat → Int} {ne : Nat → Nat} {nl : Nat → Int} {eA : Nat → Int} {lA : Nat → Int} {zt : Int} (S : CallFix p m c cX0_isPlace 2 s args lw_all RX0) (hRf : 0 ≤ R.frames) (hRl : 0 ≤ R.locals) (hK : va_K D vwCl (tyX kc) s) (hP : va_P D vwCl (wX o ad kc Sz St Ct T L lk fp fo lp dn ac ea la ne nl eA lA) H) (hlzt : -2147483648 ≤ zt) (huzt : zt < 2147483648) (hL : L ≤ 60) (ret : ∀ (pc : Nat) (ls : Array Slot) (r : Int32), decode cX0_isPlace pc = .ok (.ireturn, 1) → (sw_b (0 ≤ zt ∧ zt < (L : Int)) r) → W p l e R s m args below meth c H locs 0 0 Q (F0 m pc ls [.int r])) (hl : lv_has ls 2 [(0, .ref (o)), (1, .int (zI (zt)))]) : W p l e R s m args below meth c H locs 0 0 Q (F0 m 0 ls []) := by
  have hx := S.1
  have hb := S.2.1
  have hown := S.2.2.2.1
  have hts := S.2.2.2.2
  refine lv_iload_n hx hb dX0_isPlace_0 rfl (lv_at hl 1 rfl) ?_
  refine sw_zlt (tgt := 16) hx hb dX0_isPlace_1 (by decide) (zI_toInt (z := zt) (by omega) (by omega)) (fun h1 => ?_) (fun h1 => ?_)
  · refine lv_iconst (v := nI (0)) hx hb dX0_isPlace_16 (by decide) ?_
    exact ret _ _ _ dX0_isPlace_17 (Or.inr ⟨rfl, by omega⟩)
  · refine lv_iload_n hx hb dX0_isPlace_4 rfl (lv_at hl 1 rfl) ?_
    refine lv_aload_n hx hb dX0_isPlace_5 rfl (lv_at hl 0 rfl) ?_
    refine va_get (D := D) (ci := 0) (v := .int (nI (L))) (C := RX0) (T := TX0) (N := 17) hx hb hts in_X0 hown hK hP 0 rfl rfl 4 (by decide) (hts _ q34) (fun _ h9 => h9) rfl dX0_isPlace_6 ?_
    refine sw_dge (tgt := 16) hx hb dX0_isPlace_9 (by decide) (zI_toInt (z := zt) (by omega) (by omega)) (nI_toInt (show (L) < 2 ^ 31 by omega)) (fun h9 => ?_) (fun h9 => ?_)
    · refine lv_iconst (v := nI (0)) hx hb dX0_isPlace_16 (by decide) ?_
      exact ret _ _ _ dX0_isPlace_17 (Or.inr ⟨rfl, by omega⟩)
    · refine lv_iconst (v := nI (1)) hx hb dX0_isPlace_12 (by decide) ?_
      refine lv_goto (tgt := 17) hx hb dX0_isPlace_13 (by decide) ?_
      exact ret _ _ _ dX0_isPlace_17 (Or.inl ⟨rfl, by omega⟩)
set_option maxRecDepth 100000 in
theorem mX0_isPlace (l : Launch) {D : va_G} {o : Nat} {ad : Nat → Nat} {kc : Nat → ClassId} {Sz : Nat → Nat} {St : Nat → Nat} {Ct : Nat → Nat} {T : Nat → Nat} {L : Nat} {lk : Nat} {fp : Nat} {fo : Nat → Nat} {lp : Nat} {dn : Nat} {ac : Nat} {ea : Nat → Nat} {la : Nat → Int} {ne : Nat → Nat} {nl : Nat → Int} {eA : Nat → Int} {lA : Nat → Int} {zt : Int} (hlzt : -2147483648 ≤ zt) (huzt : zt < 2147483648) (hL : L ≤ 60) : Met l yX0_isPlace (ws_ yX0_isPlace cX0_isPlace 2 (some .boolean)) ({ frames := 0, cells := 0, slots := 0, locals := 0 }) (sw_R D vwCl (wX o ad kc Sz St Ct T L lk fp fo lp dn ac ea la ne nl eA lA) (tyX kc) [.ref o, .int (zI (zt))]) (vp_Si (sw_b (0 ≤ zt ∧ zt < (L : Int)))) 0 0 (fun _ => False) := sw_metRz (by decide) (Nat.le_of_ble_eq_true rfl) (fun p e s m below meth c Q ls S hK hP hl ret => bX0_isPlace S (Nat.le_refl _) (Nat.le_refl _) hK hP hlzt huzt hL ret hl)
set_option maxHeartbeats 4000000 in
set_option maxRecDepth 100000 in
theorem bX0_canBeEmpty {D : va_G} {o : Nat} {ad : Nat → Nat} {kc : Nat → ClassId} {Sz : Nat → Nat} {St : Nat → Nat} {Ct : Nat → Nat} {T : Nat → Nat} {L : Nat} {lk : Nat} {fp : Nat} {fo : Nat → Nat} {lp : Nat} {dn : Nat} {ac : Nat} {ea : Nat → Nat} {la : Nat → Int} {ne : Nat → Nat} {nl : Nat → Int} {eA : Nat → Int} {lA : Nat → Int} {ix : Nat} (S : CallFix p m c cX0_canBeEmpty 2 s args lw_all RX0) (hRf : 0 ≤ R.frames) (hRl : 0 ≤ R.locals) (hK : va_K D vwCl (tyX kc) s) (hP : va_P D vwCl (wX o ad kc Sz St Ct T L lk fp fo lp dn ac ea la ne nl eA lA) H) (hi : ix < 24) (hc : ∀ i, Ct i ≤ 3) (ret : ∀ (pc : Nat) (ls : Array Slot) (r : Int32), decode cX0_canBeEmpty pc = .ok (.ireturn, 1) → (sw_b (sw_emp Ct ix) r) → W p l e R s m args below meth c H locs 0 0 Q (F0 m pc ls [.int r])) (hl : lv_has ls 2 [(0, .ref (o)), (1, .int (nI (ix)))]) : W p l e R s m args below meth c H locs 0 0 Q (F0 m 0 ls []) := by
  have hx := S.1
  have hb := S.2.1
  have hown := S.2.2.2.1
  have hts := S.2.2.2.2
  have hci := hc ix
  refine lv_aload_n hx hb dX0_canBeEmpty_0 rfl (lv_at hl 0 rfl) ?_
  refine va_get (D := D) (ci := 0) (v := .ref (ad 2)) (C := RX0) (T := TX0) (N := 17) hx hb hts in_X0 hown hK hP 0 rfl rfl 2 (by decide) (hts _ q32) (fun _ h9 => h9) rfl dX0_canBeEmpty_1 ?_
  refine lv_iload_n hx hb dX0_canBeEmpty_4 rfl (lv_at hl 1 rfl) ?_
  refine sw_bld hx hb hK hP 3 2 rfl rfl (by omega) (by decide) (v := nI (Ct ix)) rfl dX0_canBeEmpty_5 ?_
  refine lv_iconst (v := nI (1)) hx hb dX0_canBeEmpty_6 (by decide) ?_
  refine sw_ceq (tgt := 20) hx hb dX0_canBeEmpty_7 (by decide) (by omega) (by omega) (fun h7 => ?_) (fun h7 => ?_)
  · refine lv_iconst (v := nI (1)) hx hb dX0_canBeEmpty_20 (by decide) ?_
    refine lv_goto (tgt := 25) hx hb dX0_canBeEmpty_21 (by decide) ?_
    exact ret _ _ _ dX0_canBeEmpty_25 (Or.inl ⟨rfl, by unfold sw_emp; omega⟩)
  · refine lv_aload_n hx hb dX0_canBeEmpty_10 rfl (lv_at hl 0 rfl) ?_
    refine va_get (D := D) (ci := 0) (v := .ref (ad 2)) (C := RX0) (T := TX0) (N := 17) hx hb hts in_X0 hown hK hP 0 rfl rfl 2 (by decide) (hts _ q32) (fun _ h9 => h9) rfl dX0_canBeEmpty_11 ?_
    refine lv_iload_n hx hb dX0_canBeEmpty_14 rfl (lv_at hl 1 rfl) ?_
    refine sw_bld hx hb hK hP 3 2 rfl rfl (by omega) (by decide) (v := nI (Ct ix)) rfl dX0_canBeEmpty_15 ?_
    refine lv_iconst (v := nI (2)) hx hb dX0_canBeEmpty_16 (by decide) ?_
    refine sw_cne (tgt := 24) hx hb dX0_canBeEmpty_17 (by decide) (by omega) (by omega) (fun h17 => ?_) (fun h17 => ?_)
    · refine lv_iconst (v := nI (0)) hx hb dX0_canBeEmpty_24 (by decide) ?_
      exact ret _ _ _ dX0_canBeEmpty_25 (Or.inr ⟨rfl, by unfold sw_emp; omega⟩)
    · refine lv_iconst (v := nI (1)) hx hb dX0_canBeEmpty_20 (by decide) ?_
      refine lv_goto (tgt := 25) hx hb dX0_canBeEmpty_21 (by decide) ?_
      exact ret _ _ _ dX0_canBeEmpty_25 (Or.inl ⟨rfl, by unfold sw_emp; omega⟩)
set_option maxRecDepth 100000 in
theorem mX0_canBeEmpty (l : Launch) {D : va_G} {o : Nat} {ad : Nat → Nat} {kc : Nat → ClassId} {Sz : Nat → Nat} {St : Nat → Nat} {Ct : Nat → Nat} {T : Nat → Nat} {L : Nat} {lk : Nat} {fp : Nat} {fo : Nat → Nat} {lp : Nat} {dn : Nat} {ac : Nat} {ea : Nat → Nat} {la : Nat → Int} {ne : Nat → Nat} {nl : Nat → Int} {eA : Nat → Int} {lA : Nat → Int} {ix : Nat} (hi : ix < 24) (hc : ∀ i, Ct i ≤ 3) : Met l yX0_canBeEmpty (ws_ yX0_canBeEmpty cX0_canBeEmpty 2 (some .boolean)) ({ frames := 0, cells := 0, slots := 0, locals := 0 }) (sw_R D vwCl (wX o ad kc Sz St Ct T L lk fp fo lp dn ac ea la ne nl eA lA) (tyX kc) [.ref o, .int (nI (ix))]) (vp_Si (sw_b (sw_emp Ct ix))) 0 0 (fun _ => False) := sw_metRz (by decide) (Nat.le_of_ble_eq_true rfl) (fun p e s m below meth c Q ls S hK hP hl ret => bX0_canBeEmpty S (Nat.le_refl _) (Nat.le_refl _) hK hP hi hc ret hl)
set_option maxHeartbeats 4000000 in
set_option maxRecDepth 100000 in
theorem bX0_repeats {D : va_G} {o : Nat} {ad : Nat → Nat} {kc : Nat → ClassId} {Sz : Nat → Nat} {St : Nat → Nat} {Ct : Nat → Nat} {T : Nat → Nat} {L : Nat} {lk : Nat} {fp : Nat} {fo : Nat → Nat} {lp : Nat} {dn : Nat} {ac : Nat} {ea : Nat → Nat} {la : Nat → Int} {ne : Nat → Nat} {nl : Nat → Int} {eA : Nat → Int} {lA : Nat → Int} {ix : Nat} (S : CallFix p m c cX0_repeats 2 s args lw_all RX0) (hRf : 0 ≤ R.frames) (hRl : 0 ≤ R.locals) (hK : va_K D vwCl (tyX kc) s) (hP : va_P D vwCl (wX o ad kc Sz St Ct T L lk fp fo lp dn ac ea la ne nl eA lA) H) (hi : ix < 24) (hc : ∀ i, Ct i ≤ 3) (ret : ∀ (pc : Nat) (ls : Array Slot) (r : Int32), decode cX0_repeats pc = .ok (.ireturn, 1) → (sw_b (sw_rep Ct ix) r) → W p l e R s m args below meth c H locs 0 0 Q (F0 m pc ls [.int r])) (hl : lv_has ls 2 [(0, .ref (o)), (1, .int (nI (ix)))]) : W p l e R s m args below meth c H locs 0 0 Q (F0 m 0 ls []) := by
  have hx := S.1
  have hb := S.2.1
  have hown := S.2.2.2.1
  have hts := S.2.2.2.2
  have hci := hc ix
  refine lv_aload_n hx hb dX0_repeats_0 rfl (lv_at hl 0 rfl) ?_
  refine va_get (D := D) (ci := 0) (v := .ref (ad 2)) (C := RX0) (T := TX0) (N := 17) hx hb hts in_X0 hown hK hP 0 rfl rfl 2 (by decide) (hts _ q32) (fun _ h9 => h9) rfl dX0_repeats_1 ?_
  refine lv_iload_n hx hb dX0_repeats_4 rfl (lv_at hl 1 rfl) ?_
  refine sw_bld hx hb hK hP 3 2 rfl rfl (by omega) (by decide) (v := nI (Ct ix)) rfl dX0_repeats_5 ?_
  refine lv_iconst (v := nI (2)) hx hb dX0_repeats_6 (by decide) ?_
  refine sw_ceq (tgt := 20) hx hb dX0_repeats_7 (by decide) (by omega) (by omega) (fun h7 => ?_) (fun h7 => ?_)
  · refine lv_iconst (v := nI (1)) hx hb dX0_repeats_20 (by decide) ?_
    refine lv_goto (tgt := 25) hx hb dX0_repeats_21 (by decide) ?_
    exact ret _ _ _ dX0_repeats_25 (Or.inl ⟨rfl, by unfold sw_rep; omega⟩)
  · refine lv_aload_n hx hb dX0_repeats_10 rfl (lv_at hl 0 rfl) ?_
    refine va_get (D := D) (ci := 0) (v := .ref (ad 2)) (C := RX0) (T := TX0) (N := 17) hx hb hts in_X0 hown hK hP 0 rfl rfl 2 (by decide) (hts _ q32) (fun _ h9 => h9) rfl dX0_repeats_11 ?_
    refine lv_iload_n hx hb dX0_repeats_14 rfl (lv_at hl 1 rfl) ?_
    refine sw_bld hx hb hK hP 3 2 rfl rfl (by omega) (by decide) (v := nI (Ct ix)) rfl dX0_repeats_15 ?_
    refine lv_iconst (v := nI (3)) hx hb dX0_repeats_16 (by decide) ?_
    refine sw_cne (tgt := 24) hx hb dX0_repeats_17 (by decide) (by omega) (by omega) (fun h17 => ?_) (fun h17 => ?_)
    · refine lv_iconst (v := nI (0)) hx hb dX0_repeats_24 (by decide) ?_
      exact ret _ _ _ dX0_repeats_25 (Or.inr ⟨rfl, by unfold sw_rep; omega⟩)
    · refine lv_iconst (v := nI (1)) hx hb dX0_repeats_20 (by decide) ?_
      refine lv_goto (tgt := 25) hx hb dX0_repeats_21 (by decide) ?_
      exact ret _ _ _ dX0_repeats_25 (Or.inl ⟨rfl, by unfold sw_rep; omega⟩)
set_option maxRecDepth 100000 in
theorem mX0_repeats (l : Launch) {D : va_G} {o : Nat} {ad : Nat → Nat} {kc : Nat → ClassId} {Sz : Nat → Nat} {St : Nat → Nat} {Ct : Nat → Nat} {T : Nat → Nat} {L : Nat} {lk : Nat} {fp : Nat} {fo : Nat → Nat} {lp : Nat} {dn : Nat} {ac : Nat} {ea : Nat → Nat} {la : Nat → Int} {ne : Nat → Nat} {nl : Nat → Int} {eA : Nat → Int} {lA : Nat → Int} {ix : Nat} (hi : ix < 24) (hc : ∀ i, Ct i ≤ 3) : Met l yX0_repeats (ws_ yX0_repeats cX0_repeats 2 (some .boolean)) ({ frames := 0, cells := 0, slots := 0, locals := 0 }) (sw_R D vwCl (wX o ad kc Sz St Ct T L lk fp fo lp dn ac ea la ne nl eA lA) (tyX kc) [.ref o, .int (nI (ix))]) (vp_Si (sw_b (sw_rep Ct ix))) 0 0 (fun _ => False) := sw_metRz (by decide) (Nat.le_of_ble_eq_true rfl) (fun p e s m below meth c Q ls S hK hP hl ret => bX0_repeats S (Nat.le_refl _) (Nat.le_refl _) hK hP hi hc ret hl)
set_option maxHeartbeats 4000000 in
set_option maxRecDepth 100000 in
theorem bX0_taken {D : va_G} {o : Nat} {ad : Nat → Nat} {kc : Nat → ClassId} {Sz : Nat → Nat} {St : Nat → Nat} {Ct : Nat → Nat} {T : Nat → Nat} {L : Nat} {lk : Nat} {fp : Nat} {fo : Nat → Nat} {lp : Nat} {dn : Nat} {ac : Nat} {ea : Nat → Nat} {la : Nat → Int} {ne : Nat → Nat} {nl : Nat → Int} {eA : Nat → Int} {lA : Nat → Int} (S : CallFix p m c cX0_taken 1 s args lw_all RX0) (hRf : 0 ≤ R.frames) (hRl : 0 ≤ R.locals) (hK : va_K D vwCl (tyX kc) s) (hP : va_P D vwCl (wX o ad kc Sz St Ct T L lk fp fo lp dn ac ea la ne nl eA lA) H) (ret : ∀ (pc : Nat) (ls : Array Slot) (r : Int32), decode cX0_taken pc = .ok (.ireturn, 1) → (r = nI L) → W p l e R s m args below meth c H locs 0 0 Q (F0 m pc ls [.int r])) (hl : lv_has ls 1 [(0, .ref (o))]) : W p l e R s m args below meth c H locs 0 0 Q (F0 m 0 ls []) := by
  have hx := S.1
  have hb := S.2.1
  have hown := S.2.2.2.1
  have hts := S.2.2.2.2
  refine lv_aload_n hx hb dX0_taken_0 rfl (lv_at hl 0 rfl) ?_
  refine va_get (D := D) (ci := 0) (v := .int (nI (L))) (C := RX0) (T := TX0) (N := 17) hx hb hts in_X0 hown hK hP 0 rfl rfl 4 (by decide) (hts _ q34) (fun _ h9 => h9) rfl dX0_taken_1 ?_
  exact ret _ _ _ dX0_taken_4 (rfl)
set_option maxRecDepth 100000 in
theorem mX0_taken (l : Launch) {D : va_G} {o : Nat} {ad : Nat → Nat} {kc : Nat → ClassId} {Sz : Nat → Nat} {St : Nat → Nat} {Ct : Nat → Nat} {T : Nat → Nat} {L : Nat} {lk : Nat} {fp : Nat} {fo : Nat → Nat} {lp : Nat} {dn : Nat} {ac : Nat} {ea : Nat → Nat} {la : Nat → Int} {ne : Nat → Nat} {nl : Nat → Int} {eA : Nat → Int} {lA : Nat → Int}  : Met l yX0_taken (ws_ yX0_taken cX0_taken 1 (some .int)) ({ frames := 0, cells := 0, slots := 0, locals := 0 }) (sw_R D vwCl (wX o ad kc Sz St Ct T L lk fp fo lp dn ac ea la ne nl eA lA) (tyX kc) [.ref o]) (vp_Si (fun r => r = nI L)) 0 0 (fun _ => False) := sw_metR (by decide) (Nat.le_of_ble_eq_true rfl) (fun p e s m below meth c Q ls S hK hP hl ret => bX0_taken S (Nat.le_refl _) (Nat.le_refl _) hK hP  ret hl)
set_option maxHeartbeats 4000000 in
set_option maxRecDepth 100000 in
theorem bX0_items {D : va_G} {o : Nat} {ad : Nat → Nat} {kc : Nat → ClassId} {Sz : Nat → Nat} {St : Nat → Nat} {Ct : Nat → Nat} {T : Nat → Nat} {L : Nat} {lk : Nat} {fp : Nat} {fo : Nat → Nat} {lp : Nat} {dn : Nat} {ac : Nat} {ea : Nat → Nat} {la : Nat → Int} {ne : Nat → Nat} {nl : Nat → Int} {eA : Nat → Int} {lA : Nat → Int} {zp : Int} (S : CallFix p m c cX0_items 2 s args lw_all RX0) (hRf : 1 ≤ R.frames) (hRl : 20 ≤ R.locals) (hK : va_K D vwCl (tyX kc) s) (hP : va_P D vwCl (wX o ad kc Sz St Ct T L lk fp fo lp dn ac ea la ne nl eA lA) H) (hlzp : -2147483648 ≤ zp) (huzp : zp < 2147483648) (ret : ∀ (pc : Nat) (ls : Array Slot) (r : Int32), decode cX0_items pc = .ok (.ireturn, 1) → ((∃ pn : Nat, zp = pn ∧ pn < 4 ∧ r = nI (Sz pn)) ∨ (¬ (0 ≤ zp ∧ zp < 4) ∧ r = zI (-1))) → W p l e R s m args below meth c H locs 0 0 Q (F0 m pc ls [.int r])) (hl : lv_has ls 2 [(0, .ref (o)), (1, .int (zI (zp)))]) : W p l e R s m args below meth c H locs 0 0 Q (F0 m 0 ls []) := by
  have hx := S.1
  have hb := S.2.1
  have hown := S.2.2.2.1
  have hts := S.2.2.2.2
  refine lv_iload_n hx hb dX0_items_0 rfl (lv_at hl 1 rfl) ?_
  refine sw_csR (As := [.int (zI (zp))]) (rest := []) S (mX0_isPattern l hlzp huzp) (va_cwS 1 hts (lw_S q88 q89 q20 q90) rfl rfl rfl (by decide +kernel) ⟨Nat.le_trans (Nat.le_of_ble_eq_true rfl) hRf, Nat.le_trans (Nat.le_of_ble_eq_true rfl) hRl⟩) rfl hl.1 rfl (Nat.le_of_ble_eq_true rfl) dX0_items_1 ⟨Nat.zero_le _, Nat.zero_le _⟩ (fun r hr => ?_)
  rcases hr with ⟨rfl, hr1⟩ | ⟨rfl, hr1⟩
  · obtain ⟨pn, rfl⟩ := Int.eq_ofNat_of_zero_le hr1.1
    have hl : lv_has ls 2 [(0, .ref (o)), (1, .int (nI (pn)))] := by rw [show zI ((pn : Int)) = nI (pn) from zI_n pn] at hl; exact hl
    refine sw_ifeq (tgt := 16) hx hb dX0_items_4 (by decide) (by decide) (fun q => absurd q (by decide)) (fun _ => ?_)
    refine lv_aload_n hx hb dX0_items_7 rfl (lv_at hl 0 rfl) ?_
    refine va_get (D := D) (ci := 0) (v := .ref (ad 0)) (C := RX0) (T := TX0) (N := 17) hx hb hts in_X0 hown hK hP 0 rfl rfl 0 (by decide) (hts _ q30) (fun _ h9 => h9) rfl dX0_items_8 ?_
    refine lv_iload_n hx hb dX0_items_11 rfl (lv_at hl 1 rfl) ?_
    refine sw_bld hx hb hK hP 1 0 rfl rfl (by omega) (by decide) (v := nI (Sz pn)) rfl dX0_items_12 ?_
    refine lv_goto (tgt := 17) hx hb dX0_items_13 (by decide) ?_
    exact ret _ _ _ dX0_items_17 (Or.inl ⟨pn, rfl, by omega, rfl⟩)
  · refine sw_ifeq (tgt := 16) hx hb dX0_items_4 (by decide) (by decide) (fun _ => ?_) (fun q => absurd rfl q)
    refine lv_iconst (v := zI (-1)) hx hb dX0_items_16 (by decide) ?_
    exact ret _ _ _ dX0_items_17 (Or.inr ⟨hr1, rfl⟩)
set_option maxRecDepth 100000 in
theorem mX0_items (l : Launch) {D : va_G} {o : Nat} {ad : Nat → Nat} {kc : Nat → ClassId} {Sz : Nat → Nat} {St : Nat → Nat} {Ct : Nat → Nat} {T : Nat → Nat} {L : Nat} {lk : Nat} {fp : Nat} {fo : Nat → Nat} {lp : Nat} {dn : Nat} {ac : Nat} {ea : Nat → Nat} {la : Nat → Int} {ne : Nat → Nat} {nl : Nat → Int} {eA : Nat → Int} {lA : Nat → Int} {zp : Int} (hlzp : -2147483648 ≤ zp) (huzp : zp < 2147483648) : Met l yX0_items (ws_ yX0_items cX0_items 2 (some .int)) ({ frames := 1, cells := 0, slots := 0, locals := 20 }) (sw_R D vwCl (wX o ad kc Sz St Ct T L lk fp fo lp dn ac ea la ne nl eA lA) (tyX kc) [.ref o, .int (zI (zp))]) (vp_Si (fun r => (∃ pn : Nat, zp = pn ∧ pn < 4 ∧ r = nI (Sz pn)) ∨ (¬ (0 ≤ zp ∧ zp < 4) ∧ r = zI (-1)))) 0 0 (fun _ => False) := sw_metR (by decide) (Nat.le_of_ble_eq_true rfl) (fun p e s m below meth c Q ls S hK hP hl ret => bX0_items S (Nat.le_refl _) (Nat.le_refl _) hK hP hlzp huzp ret hl)
set_option maxHeartbeats 4000000 in
set_option maxRecDepth 100000 in
theorem bX0_openFrom {D : va_G} {o : Nat} {ad : Nat → Nat} {kc : Nat → ClassId} {Sz : Nat → Nat} {St : Nat → Nat} {Ct : Nat → Nat} {T : Nat → Nat} {L : Nat} {lk : Nat} {fp : Nat} {fo : Nat → Nat} {lp : Nat} {dn : Nat} {ac : Nat} {ea : Nat → Nat} {la : Nat → Int} {ne : Nat → Nat} {nl : Nat → Int} {eA : Nat → Int} {lA : Nat → Int} {pn : Nat} {kn : Nat} (S : CallFix p m c cX0_openFrom 6 s args lw_all RX0) (hRf : 1 ≤ R.frames) (hRl : 21 ≤ R.locals) (hK : va_K D vwCl (tyX kc) s) (hP : va_P D vwCl (wX o ad kc Sz St Ct T L lk fp fo lp dn ac ea la ne nl eA lA) H) (hp : pn < 4) (hkn : kn ≤ 6) (hs : ∀ j, Sz j ≤ 6) (hc : ∀ i, Ct i ≤ 3) (ret : ∀ (pc : Nat) (ls : Array Slot) (r : Int32), decode cX0_openFrom pc = .ok (.ireturn, 1) → (∃ x, r = nI x ∧ sw_op Sz Ct pn kn x) → W p l e R s m args below meth c H locs 0 0 Q (F0 m pc ls [.int r])) (hl : lv_has ls 6 [(0, .ref (o)), (1, .int (nI (pn))), (2, .int (nI (kn)))]) : W p l e R s m args below meth c H locs 0 0 Q (F0 m 0 ls []) := by
  have hx := S.1
  have hb := S.2.1
  have hown := S.2.2.2.1
  have hts := S.2.2.2.2
  have hsp := hs pn
  refine lv_iconst (v := nI (0)) hx hb dX0_openFrom_0 (by decide) ?_
  refine lv_istore_n (lv' := [(3, .int (nI (0))), (0, .ref (o)), (1, .int (nI (pn))), (2, .int (nI (kn)))]) hx hb dX0_openFrom_1 rfl hl (by decide) rfl (fun ls hl => ?_)
  refine lv_iconst (v := nI (1)) hx hb dX0_openFrom_2 (by decide) ?_
  refine lv_istore (lv' := [(4, .int (nI (1))), (3, .int (nI (0))), (0, .ref (o)), (1, .int (nI (pn))), (2, .int (nI (kn)))]) hx hb dX0_openFrom_3 hl (by decide) rfl (fun ls hl => ?_)
  refine lv_iload_n hx hb dX0_openFrom_5 rfl (lv_at hl 4 rfl) ?_
  refine lv_istore (lv' := [(5, .int (nI (kn))), (4, .int (nI (1))), (3, .int (nI (0))), (0, .ref (o)), (1, .int (nI (pn))), (2, .int (nI (kn)))]) hx hb dX0_openFrom_6 hl (by decide) rfl (fun ls hl => ?_)
  have L8 : ∀ (n : Nat) (x : Nat) (op : Nat) (i : Nat), (kn ≤ i) → (i ≤ 7) → (sw_t (sw_open Ct (pn * 6 + kn) (pn * 6 + i)) op) → (sw_opI Sz Ct pn kn i x) → Sz pn - i < n → ∀ (ls : Array Slot), lv_has ls 6 [(0, .ref (o)), (1, .int (nI (pn))), (2, .int (nI (kn))), (3, .int (nI (x))), (4, .int (nI (op))), (5, .int (nI (i)))] → W p l e R s m args below meth c H locs 0 0 Q (F0 m 8 ls []) := by
    intro n
    induction n with
    | zero => intro x op i _ _ _ _ hm; exact absurd hm (Nat.not_lt_zero _)
    | succ n ihL8 =>
      intro x op i hki hi7 ho hI hmL8 ls hl
      refine lv_iload hx hb dX0_openFrom_8 (lv_at hl 5 rfl) ?_
      refine lv_aload_n hx hb dX0_openFrom_10 rfl (lv_at hl 0 rfl) ?_
      refine va_get (D := D) (ci := 0) (v := .ref (ad 0)) (C := RX0) (T := TX0) (N := 17) hx hb hts in_X0 hown hK hP 0 rfl rfl 0 (by decide) (hts _ q30) (fun _ h9 => h9) rfl dX0_openFrom_11 ?_
      refine lv_iload_n hx hb dX0_openFrom_14 rfl (lv_at hl 1 rfl) ?_
      refine sw_bld hx hb hK hP 1 0 rfl rfl (by omega) (by decide) (v := nI (Sz pn)) rfl dX0_openFrom_15 ?_
      refine sw_cge (tgt := 55) hx hb dX0_openFrom_16 (by decide) (by omega) (by omega) (fun h16 => ?_) (fun h16 => ?_)
      · have hend := sw_opI_e hki (Or.inl h16) hI
        refine lv_iload_n hx hb dX0_openFrom_55 rfl (lv_at hl 3 rfl) ?_
        exact ret _ _ _ dX0_openFrom_56 (⟨x, rfl, by first | exact hend | exact sw_opI_e hki (Or.inr hOn) hI⟩)
      · have hop1 := sw_t_lt ho
        refine lv_iload hx hb dX0_openFrom_19 (lv_at hl 4 rfl) ?_
        refine sw_ifeq (tgt := 55) hx hb dX0_openFrom_21 (by decide) (by omega) (fun h21 => ?_) (fun h21 => ?_)
        · have hOn : ¬ sw_open Ct (pn * 6 + kn) (pn * 6 + i) := by rcases ho with ⟨q, -⟩ | ⟨-, q⟩; omega; exact q
          refine lv_iload_n hx hb dX0_openFrom_55 rfl (lv_at hl 3 rfl) ?_
          exact ret _ _ _ dX0_openFrom_56 (⟨x, rfl, by first | exact hend | exact sw_opI_e hki (Or.inr hOn) hI⟩)
        · have hOp : sw_open Ct (pn * 6 + kn) (pn * 6 + i) := by rcases ho with ⟨-, q⟩ | ⟨q, -⟩; exact q; omega
          have hI' := sw_opI_s hp hsp hki h16 hOp hI
          refine lv_iload_n hx hb dX0_openFrom_24 rfl (lv_at hl 3 rfl) ?_
          refine lv_iconst (v := nI (1)) hx hb dX0_openFrom_25 (by decide) ?_
          refine lv_iload_n hx hb dX0_openFrom_26 rfl (lv_at hl 1 rfl) ?_
          refine lv_bipush (v := nI (6)) hx hb dX0_openFrom_27 (by decide) ?_
          refine sw_mul hx hb dX0_openFrom_29 ?_
          refine lv_iload hx hb dX0_openFrom_30 (lv_at hl 5 rfl) ?_
          refine sw_add hx hb dX0_openFrom_32 ?_
          refine sw_shl hx hb dX0_openFrom_33 (by omega) (sw_sh (by omega) (by omega)) ?_
          refine sw_or hx hb dX0_openFrom_34 ?_
          refine lv_istore_n (lv' := [(3, .int (nI (x ||| (1 * 2 ^ ((pn * 6) + i))))), (0, .ref (o)), (1, .int (nI (pn))), (2, .int (nI (kn))), (4, .int (nI (op))), (5, .int (nI (i)))]) hx hb dX0_openFrom_35 rfl hl (by decide) rfl (fun ls hl => ?_)
          refine lv_aload_n hx hb dX0_openFrom_36 rfl (lv_at hl 1 rfl) ?_
          refine lv_iload_n hx hb dX0_openFrom_37 rfl (lv_at hl 2 rfl) ?_
          refine lv_bipush (v := nI (6)) hx hb dX0_openFrom_38 (by decide) ?_
          refine sw_mul hx hb dX0_openFrom_40 ?_
          refine lv_iload hx hb dX0_openFrom_41 (lv_at hl 5 rfl) ?_
          refine sw_add hx hb dX0_openFrom_43 ?_
          refine sw_cvR (As := [.int (nI ((pn * 6) + i))]) (rest := []) (C := RX0) (ci := 0) (q0 := 0) S (mX0_canBeEmpty l (by omega) hc) (cwV 1 hts (lw_V q131 q133 qs6 q20 q134) rfl rfl rfl (by decide +kernel) ⟨Nat.le_trans (Nat.le_of_ble_eq_true rfl) hRf, Nat.le_trans (Nat.le_of_ble_eq_true rfl) hRl⟩) hK hP rfl rfl rfl rfl hl.1 rfl (Nat.le_of_ble_eq_true rfl) dX0_openFrom_44 ⟨Nat.zero_le _, Nat.zero_le _⟩ (fun r hr => ?_)
          rcases hr with ⟨rfl, hr44⟩ | ⟨rfl, hr44⟩
          · have ho' : sw_t (sw_open Ct (pn * 6 + kn) (pn * 6 + (i + 1))) 1 := Or.inl ⟨rfl, (sw_open_s (i := pn * 6 + i) (by omega)).mpr ⟨hOp, hr44⟩⟩
            refine lv_istore (lv' := [(4, .int (nI (1))), (3, .int (nI (x ||| (1 * 2 ^ ((pn * 6) + i))))), (0, .ref (o)), (1, .int (nI (pn))), (2, .int (nI (kn))), (5, .int (nI (i)))]) hx hb dX0_openFrom_47 hl (by decide) rfl (fun ls hl => ?_)
            refine lv_iinc (k := 5) (v := nI (i + 1)) (lv' := [(5, .int (nI (i + 1))), (4, .int (nI (1))), (3, .int (nI (x ||| (1 * 2 ^ ((pn * 6) + i))))), (0, .ref (o)), (1, .int (nI (pn))), (2, .int (nI (kn)))]) hx hb dX0_openFrom_49 hl rfl (nI_add _ 1) (by decide) rfl (fun ls hl => ?_)
            refine lv_goto (tgt := 8) hx hb dX0_openFrom_52 (by decide) ?_
            exact ihL8 (x ||| (1 * 2 ^ ((pn * 6) + i))) (1) (i + 1) (by omega) (by omega) ho' hI' (by omega) _ (lv_sub hl [3, 4, 5, 2, 1, 0] rfl)
          · have ho' : sw_t (sw_open Ct (pn * 6 + kn) (pn * 6 + (i + 1))) 0 := Or.inr ⟨rfl, fun q => hr44 ((sw_open_s (i := pn * 6 + i) (by omega)).mp q).2⟩
            refine lv_istore (lv' := [(4, .int (nI (0))), (3, .int (nI (x ||| (1 * 2 ^ ((pn * 6) + i))))), (0, .ref (o)), (1, .int (nI (pn))), (2, .int (nI (kn))), (5, .int (nI (i)))]) hx hb dX0_openFrom_47 hl (by decide) rfl (fun ls hl => ?_)
            refine lv_iinc (k := 5) (v := nI (i + 1)) (lv' := [(5, .int (nI (i + 1))), (4, .int (nI (0))), (3, .int (nI (x ||| (1 * 2 ^ ((pn * 6) + i))))), (0, .ref (o)), (1, .int (nI (pn))), (2, .int (nI (kn)))]) hx hb dX0_openFrom_49 hl rfl (nI_add _ 1) (by decide) rfl (fun ls hl => ?_)
            refine lv_goto (tgt := 8) hx hb dX0_openFrom_52 (by decide) ?_
            exact ihL8 (x ||| (1 * 2 ^ ((pn * 6) + i))) (0) (i + 1) (by omega) (by omega) ho' hI' (by omega) _ (lv_sub hl [3, 4, 5, 2, 1, 0] rfl)
  exact L8 (Sz pn - (kn) + 1) (0) (1) (kn) (by omega) (by omega) (Or.inl ⟨rfl, sw_open_0⟩) sw_opI_0 (Nat.lt_succ_self _) _ (lv_sub hl [3, 4, 5, 2, 1, 0] rfl)
set_option maxRecDepth 100000 in
theorem mX0_openFrom (l : Launch) {D : va_G} {o : Nat} {ad : Nat → Nat} {kc : Nat → ClassId} {Sz : Nat → Nat} {St : Nat → Nat} {Ct : Nat → Nat} {T : Nat → Nat} {L : Nat} {lk : Nat} {fp : Nat} {fo : Nat → Nat} {lp : Nat} {dn : Nat} {ac : Nat} {ea : Nat → Nat} {la : Nat → Int} {ne : Nat → Nat} {nl : Nat → Int} {eA : Nat → Int} {lA : Nat → Int} {pn : Nat} {kn : Nat} (hp : pn < 4) (hkn : kn ≤ 6) (hs : ∀ j, Sz j ≤ 6) (hc : ∀ i, Ct i ≤ 3) : Met l yX0_openFrom (ws_ yX0_openFrom cX0_openFrom 6 (some .int)) ({ frames := 1, cells := 0, slots := 0, locals := 21 }) (sw_R D vwCl (wX o ad kc Sz St Ct T L lk fp fo lp dn ac ea la ne nl eA lA) (tyX kc) [.ref o, .int (nI (pn)), .int (nI (kn))]) (vp_Si (fun r => ∃ x, r = nI x ∧ sw_op Sz Ct pn kn x)) 0 0 (fun _ => False) := sw_metR (by decide) (Nat.le_of_ble_eq_true rfl) (fun p e s m below meth c Q ls S hK hP hl ret => bX0_openFrom S (Nat.le_refl _) (Nat.le_refl _) hK hP hp hkn hs hc ret hl)
set_option maxHeartbeats 4000000 in
set_option maxRecDepth 100000 in
theorem bX0_emptyFrom {D : va_G} {o : Nat} {ad : Nat → Nat} {kc : Nat → ClassId} {Sz : Nat → Nat} {St : Nat → Nat} {Ct : Nat → Nat} {T : Nat → Nat} {L : Nat} {lk : Nat} {fp : Nat} {fo : Nat → Nat} {lp : Nat} {dn : Nat} {ac : Nat} {ea : Nat → Nat} {la : Nat → Int} {ne : Nat → Nat} {nl : Nat → Int} {eA : Nat → Int} {lA : Nat → Int} {pn : Nat} {kn : Nat} (S : CallFix p m c cX0_emptyFrom 4 s args lw_all RX0) (hRf : 1 ≤ R.frames) (hRl : 21 ≤ R.locals) (hK : va_K D vwCl (tyX kc) s) (hP : va_P D vwCl (wX o ad kc Sz St Ct T L lk fp fo lp dn ac ea la ne nl eA lA) H) (hp : pn < 4) (hkn : kn ≤ 6) (hs : ∀ j, Sz j ≤ 6) (hc : ∀ i, Ct i ≤ 3) (ret : ∀ (pc : Nat) (ls : Array Slot) (r : Int32), decode cX0_emptyFrom pc = .ok (.ireturn, 1) → (sw_b (sw_open Ct (pn * 6 + kn) (pn * 6 + Sz pn)) r) → W p l e R s m args below meth c H locs 0 0 Q (F0 m pc ls [.int r])) (hl : lv_has ls 4 [(0, .ref (o)), (1, .int (nI (pn))), (2, .int (nI (kn)))]) : W p l e R s m args below meth c H locs 0 0 Q (F0 m 0 ls []) := by
  have hx := S.1
  have hb := S.2.1
  have hown := S.2.2.2.1
  have hts := S.2.2.2.2
  have hsp := hs pn
  refine lv_iload_n hx hb dX0_emptyFrom_0 rfl (lv_at hl 2 rfl) ?_
  refine lv_istore_n (lv' := [(3, .int (nI (kn))), (0, .ref (o)), (1, .int (nI (pn))), (2, .int (nI (kn)))]) hx hb dX0_emptyFrom_1 rfl hl (by decide) rfl (fun ls hl => ?_)
  have L2 : ∀ (n : Nat) (i : Nat), (kn ≤ i) → (i ≤ 7) → (sw_open Ct (pn * 6 + kn) (pn * 6 + i)) → Sz pn - i < n → ∀ (ls : Array Slot), lv_has ls 4 [(0, .ref (o)), (1, .int (nI (pn))), (2, .int (nI (kn))), (3, .int (nI (i)))] → W p l e R s m args below meth c H locs 0 0 Q (F0 m 2 ls []) := by
    intro n
    induction n with
    | zero => intro i _ _ _ hm; exact absurd hm (Nat.not_lt_zero _)
    | succ n ihL2 =>
      intro i hki hi7 ho hmL2 ls hl
      refine lv_iload_n hx hb dX0_emptyFrom_2 rfl (lv_at hl 3 rfl) ?_
      refine lv_aload_n hx hb dX0_emptyFrom_3 rfl (lv_at hl 0 rfl) ?_
      refine va_get (D := D) (ci := 0) (v := .ref (ad 0)) (C := RX0) (T := TX0) (N := 17) hx hb hts in_X0 hown hK hP 0 rfl rfl 0 (by decide) (hts _ q30) (fun _ h9 => h9) rfl dX0_emptyFrom_4 ?_
      refine lv_iload_n hx hb dX0_emptyFrom_7 rfl (lv_at hl 1 rfl) ?_
      refine sw_bld hx hb hK hP 1 0 rfl rfl (by omega) (by decide) (v := nI (Sz pn)) rfl dX0_emptyFrom_8 ?_
      refine sw_cge (tgt := 33) hx hb dX0_emptyFrom_9 (by decide) (by omega) (by omega) (fun h9 => ?_) (fun h9 => ?_)
      · refine lv_iconst (v := nI (1)) hx hb dX0_emptyFrom_33 (by decide) ?_
        exact ret _ _ _ dX0_emptyFrom_34 (Or.inl ⟨rfl, fun y h1 h2 => ho y h1 (by omega)⟩)
      · refine lv_aload_n hx hb dX0_emptyFrom_12 rfl (lv_at hl 0 rfl) ?_
        refine lv_iload_n hx hb dX0_emptyFrom_13 rfl (lv_at hl 1 rfl) ?_
        refine lv_bipush (v := nI (6)) hx hb dX0_emptyFrom_14 (by decide) ?_
        refine sw_mul hx hb dX0_emptyFrom_16 ?_
        refine lv_iload_n hx hb dX0_emptyFrom_17 rfl (lv_at hl 3 rfl) ?_
        refine sw_add hx hb dX0_emptyFrom_18 ?_
        refine sw_cvR (As := [.int (nI ((pn * 6) + i))]) (rest := []) (C := RX0) (ci := 0) (q0 := 0) S (mX0_canBeEmpty l (by omega) hc) (cwV 1 hts (lw_V q131 q133 qs6 q20 q134) rfl rfl rfl (by decide +kernel) ⟨Nat.le_trans (Nat.le_of_ble_eq_true rfl) hRf, Nat.le_trans (Nat.le_of_ble_eq_true rfl) hRl⟩) hK hP rfl rfl rfl rfl hl.1 rfl (Nat.le_of_ble_eq_true rfl) dX0_emptyFrom_19 ⟨Nat.zero_le _, Nat.zero_le _⟩ (fun r hr => ?_)
        rcases hr with ⟨rfl, hr19⟩ | ⟨rfl, hr19⟩
        · refine sw_ifne (tgt := 27) hx hb dX0_emptyFrom_22 (by decide) (by decide) (fun _ => ?_) (fun q => absurd q (by decide))
          refine lv_iinc (k := 3) (v := nI (i + 1)) (lv' := [(3, .int (nI (i + 1))), (0, .ref (o)), (1, .int (nI (pn))), (2, .int (nI (kn)))]) hx hb dX0_emptyFrom_27 hl rfl (nI_add _ 1) (by decide) rfl (fun ls hl => ?_)
          refine lv_goto (tgt := 2) hx hb dX0_emptyFrom_30 (by decide) ?_
          exact ihL2 (i + 1) (by omega) (by omega) ((sw_open_s (i := pn * 6 + i) (by omega)).mpr ⟨ho, hr19⟩) (by omega) _ (lv_sub hl [1, 2, 3, 0] rfl)
        · refine sw_ifne (tgt := 27) hx hb dX0_emptyFrom_22 (by decide) (by decide) (fun q => absurd rfl q) (fun _ => ?_)
          refine lv_iconst (v := nI (0)) hx hb dX0_emptyFrom_25 (by decide) ?_
          exact ret _ _ _ dX0_emptyFrom_26 (Or.inr ⟨rfl, fun q => hr19 (q _ (by omega) (by omega))⟩)
  exact L2 (Sz pn - (kn) + 1) (kn) (by omega) (by omega) sw_open_0 (Nat.lt_succ_self _) _ (lv_sub hl [1, 2, 3, 0] rfl)
set_option maxRecDepth 100000 in
theorem mX0_emptyFrom (l : Launch) {D : va_G} {o : Nat} {ad : Nat → Nat} {kc : Nat → ClassId} {Sz : Nat → Nat} {St : Nat → Nat} {Ct : Nat → Nat} {T : Nat → Nat} {L : Nat} {lk : Nat} {fp : Nat} {fo : Nat → Nat} {lp : Nat} {dn : Nat} {ac : Nat} {ea : Nat → Nat} {la : Nat → Int} {ne : Nat → Nat} {nl : Nat → Int} {eA : Nat → Int} {lA : Nat → Int} {pn : Nat} {kn : Nat} (hp : pn < 4) (hkn : kn ≤ 6) (hs : ∀ j, Sz j ≤ 6) (hc : ∀ i, Ct i ≤ 3) : Met l yX0_emptyFrom (ws_ yX0_emptyFrom cX0_emptyFrom 4 (some .boolean)) ({ frames := 1, cells := 0, slots := 0, locals := 21 }) (sw_R D vwCl (wX o ad kc Sz St Ct T L lk fp fo lp dn ac ea la ne nl eA lA) (tyX kc) [.ref o, .int (nI (pn)), .int (nI (kn))]) (vp_Si (sw_b (sw_open Ct (pn * 6 + kn) (pn * 6 + Sz pn)))) 0 0 (fun _ => False) := sw_metRz (by decide) (Nat.le_of_ble_eq_true rfl) (fun p e s m below meth c Q ls S hK hP hl ret => bX0_emptyFrom S (Nat.le_refl _) (Nat.le_refl _) hK hP hp hkn hs hc ret hl)
set_option maxHeartbeats 4000000 in
set_option maxRecDepth 100000 in
theorem bX0_placesFor {D : va_G} {o : Nat} {ad : Nat → Nat} {kc : Nat → ClassId} {Sz : Nat → Nat} {St : Nat → Nat} {Ct : Nat → Nat} {T : Nat → Nat} {L : Nat} {lk : Nat} {fp : Nat} {fo : Nat → Nat} {lp : Nat} {dn : Nat} {ac : Nat} {ea : Nat → Nat} {la : Nat → Int} {ne : Nat → Nat} {nl : Nat → Int} {eA : Nat → Int} {lA : Nat → Int} {sn : Nat} (S : CallFix p m c cX0_placesFor 6 s args lw_all RX0) (hRf : 0 ≤ R.frames) (hRl : 0 ≤ R.locals) (hK : va_K D vwCl (tyX kc) s) (hP : va_P D vwCl (wX o ad kc Sz St Ct T L lk fp fo lp dn ac ea la ne nl eA lA) H) (hsn : sn < 4) (hs : ∀ j, Sz j ≤ 6) (ht : ∀ i, St i < 16) (ret : ∀ (pc : Nat) (ls : Array Slot) (r : Int32), decode cX0_placesFor pc = .ok (.ireturn, 1) → (∃ x, r = nI x ∧ sw_pfI Sz St sn (4 * 6) x) → W p l e R s m args below meth c H locs 0 0 Q (F0 m pc ls [.int r])) (hl : lv_has ls 6 [(0, .ref (o)), (1, .int (nI (sn)))]) : W p l e R s m args below meth c H locs 0 0 Q (F0 m 0 ls []) := by
  have hx := S.1
  have hb := S.2.1
  have hown := S.2.2.2.1
  have hts := S.2.2.2.2
  refine lv_iconst (v := nI (0)) hx hb dX0_placesFor_0 (by decide) ?_
  refine lv_istore_n (lv' := [(2, .int (nI (0))), (0, .ref (o)), (1, .int (nI (sn)))]) hx hb dX0_placesFor_1 rfl hl (by decide) rfl (fun ls hl => ?_)
  refine lv_iconst (v := nI (0)) hx hb dX0_placesFor_2 (by decide) ?_
  refine lv_istore_n (lv' := [(3, .int (nI (0))), (2, .int (nI (0))), (0, .ref (o)), (1, .int (nI (sn)))]) hx hb dX0_placesFor_3 rfl hl (by decide) rfl (fun ls hl => ?_)
  have L4 : ∀ (n : Nat) (x : Nat) (pn : Nat), (pn ≤ 4) → (sw_pfI Sz St sn (pn * 6) x) → 4 - pn < n → ∀ (ls : Array Slot), lv_has ls 6 [(0, .ref (o)), (1, .int (nI (sn))), (2, .int (nI (x))), (3, .int (nI (pn)))] → W p l e R s m args below meth c H locs 0 0 Q (F0 m 4 ls []) := by
    intro n
    induction n with
    | zero => intro x pn _ _ hm; exact absurd hm (Nat.not_lt_zero _)
    | succ n ihL4 =>
      intro x pn hp hI hmL4 ls hl
      refine lv_iload_n hx hb dX0_placesFor_4 rfl (lv_at hl 3 rfl) ?_
      refine lv_iconst (v := nI (4)) hx hb dX0_placesFor_5 (by decide) ?_
      refine sw_cge (tgt := 61) hx hb dX0_placesFor_6 (by decide) (by omega) (by omega) (fun h6 => ?_) (fun h6 => ?_)
      · refine lv_iload_n hx hb dX0_placesFor_61 rfl (lv_at hl 2 rfl) ?_
        exact ret _ _ _ dX0_placesFor_62 (⟨x, rfl, by rw [show pn = 4 by omega] at hI; exact hI⟩)
      · refine lv_iconst (v := nI (0)) hx hb dX0_placesFor_9 (by decide) ?_
        refine lv_istore (lv' := [(4, .int (nI (0))), (0, .ref (o)), (1, .int (nI (sn))), (2, .int (nI (x))), (3, .int (nI (pn)))]) hx hb dX0_placesFor_10 hl (by decide) rfl (fun ls hl => ?_)
        have hsp := hs pn
        have L12 : ∀ (n : Nat) (y : Nat) (kn : Nat), (kn ≤ Sz pn) → (sw_pfI Sz St sn (pn * 6 + kn) y) → Sz pn - kn < n → ∀ (ls : Array Slot), lv_has ls 6 [(0, .ref (o)), (1, .int (nI (sn))), (2, .int (nI (y))), (3, .int (nI (pn))), (4, .int (nI (kn)))] → W p l e R s m args below meth c H locs 0 0 Q (F0 m 12 ls []) := by
          intro n
          induction n with
          | zero => intro y kn _ _ hm; exact absurd hm (Nat.not_lt_zero _)
          | succ n ihL12 =>
            intro y kn hk hI2 hmL12 ls hl
            refine lv_iload hx hb dX0_placesFor_12 (lv_at hl 4 rfl) ?_
            refine lv_aload_n hx hb dX0_placesFor_14 rfl (lv_at hl 0 rfl) ?_
            refine va_get (D := D) (ci := 0) (v := .ref (ad 0)) (C := RX0) (T := TX0) (N := 17) hx hb hts in_X0 hown hK hP 0 rfl rfl 0 (by decide) (hts _ q30) (fun _ h9 => h9) rfl dX0_placesFor_15 ?_
            refine lv_iload_n hx hb dX0_placesFor_18 rfl (lv_at hl 3 rfl) ?_
            refine sw_bld hx hb hK hP 1 0 rfl rfl (by omega) (by decide) (v := nI (Sz pn)) rfl dX0_placesFor_19 ?_
            refine sw_cge (tgt := 55) hx hb dX0_placesFor_20 (by decide) (by omega) (by omega) (fun h20 => ?_) (fun h20 => ?_)
            · refine lv_iinc (k := 3) (v := nI (pn + 1)) (lv' := [(3, .int (nI (pn + 1))), (0, .ref (o)), (1, .int (nI (sn))), (2, .int (nI (y))), (4, .int (nI (kn)))]) hx hb dX0_placesFor_55 hl rfl (nI_add _ 1) (by decide) rfl (fun ls hl => ?_)
              refine lv_goto (tgt := 4) hx hb dX0_placesFor_58 (by decide) ?_
              exact ihL4 (y) (pn + 1) (by omega) (sw_pfI_e hsp hk h20 hI2) (by omega) _ (lv_sub hl [1, 2, 3, 0] rfl)
            · have hst := ht (pn * 6 + kn)
              have hI' := sw_pfI_s (by omega) hsp h20 hI2
              refine lv_iload_n hx hb dX0_placesFor_23 rfl (lv_at hl 3 rfl) ?_
              refine lv_bipush (v := nI (6)) hx hb dX0_placesFor_24 (by decide) ?_
              refine sw_mul hx hb dX0_placesFor_26 ?_
              refine lv_iload hx hb dX0_placesFor_27 (lv_at hl 4 rfl) ?_
              refine sw_add hx hb dX0_placesFor_29 ?_
              refine lv_istore (lv' := [(5, .int (nI ((pn * 6) + kn))), (0, .ref (o)), (1, .int (nI (sn))), (2, .int (nI (y))), (3, .int (nI (pn))), (4, .int (nI (kn)))]) hx hb dX0_placesFor_30 hl (by decide) rfl (fun ls hl => ?_)
              refine lv_iload_n hx hb dX0_placesFor_32 rfl (lv_at hl 3 rfl) ?_
              refine lv_aload_n hx hb dX0_placesFor_33 rfl (lv_at hl 1 rfl) ?_
              refine va_get (D := D) (ci := 0) (v := .ref (ad 1)) (C := RX0) (T := TX0) (N := 17) hx hb hts in_X0 hown hK hP 0 rfl rfl 1 (by decide) (hts _ q31) (fun _ h9 => h9) rfl dX0_placesFor_34 ?_
              refine lv_iload hx hb dX0_placesFor_37 (lv_at hl 0 rfl) ?_
              refine sw_bld hx hb hK hP 2 1 rfl rfl (by omega) (by decide) (v := nI (St ((pn * 6) + kn))) rfl dX0_placesFor_39 ?_
              refine lv_iload_n hx hb dX0_placesFor_40 rfl (lv_at hl 2 rfl) ?_
              refine sw_shr hx hb dX0_placesFor_41 (by omega) (by omega) ?_
              refine lv_iconst (v := nI (1)) hx hb dX0_placesFor_42 (by decide) ?_
              refine sw_and1 hx hb dX0_placesFor_43 ?_
              refine lv_iload hx hb dX0_placesFor_44 (lv_at hl 0 rfl) ?_
              refine sw_shl hx hb dX0_placesFor_46 (by omega) (sw_sh (by omega) (by omega)) ?_
              refine sw_or hx hb dX0_placesFor_47 ?_
              refine lv_istore_n (lv' := [(2, .int (nI (y ||| ((((St ((pn * 6) + kn)) / 2 ^ sn) % 2) * 2 ^ ((pn * 6) + kn))))), (5, .int (nI ((pn * 6) + kn))), (0, .ref (o)), (1, .int (nI (sn))), (3, .int (nI (pn))), (4, .int (nI (kn)))]) hx hb dX0_placesFor_48 rfl hl (by decide) rfl (fun ls hl => ?_)
              refine lv_iinc (k := 5) (v := nI (kn + 1)) (lv' := [(4, .int (nI (kn + 1))), (2, .int (nI (y ||| ((((St ((pn * 6) + kn)) / 2 ^ sn) % 2) * 2 ^ ((pn * 6) + kn))))), (5, .int (nI ((pn * 6) + kn))), (0, .ref (o)), (1, .int (nI (sn))), (3, .int (nI (pn)))]) hx hb dX0_placesFor_49 hl rfl (nI_add _ 1) (by decide) rfl (fun ls hl => ?_)
              refine lv_goto (tgt := 12) hx hb dX0_placesFor_52 (by decide) ?_
              exact ihL12 (y ||| ((((St ((pn * 6) + kn)) / 2 ^ sn) % 2) * 2 ^ ((pn * 6) + kn))) (kn + 1) (by omega) hI' (by omega) _ (lv_sub hl [3, 4, 1, 5, 0] rfl)
        exact L12 (Sz pn - (0) + 1) (x) (0) (by omega) hI (Nat.lt_succ_self _) _ (lv_sub hl [1, 2, 3, 4, 0] rfl)
  exact L4 (4 - (0) + 1) (0) (0) (by omega) sw_pfI_0 (Nat.lt_succ_self _) _ (lv_sub hl [2, 3, 1, 0] rfl)
set_option maxRecDepth 100000 in
theorem mX0_placesFor (l : Launch) {D : va_G} {o : Nat} {ad : Nat → Nat} {kc : Nat → ClassId} {Sz : Nat → Nat} {St : Nat → Nat} {Ct : Nat → Nat} {T : Nat → Nat} {L : Nat} {lk : Nat} {fp : Nat} {fo : Nat → Nat} {lp : Nat} {dn : Nat} {ac : Nat} {ea : Nat → Nat} {la : Nat → Int} {ne : Nat → Nat} {nl : Nat → Int} {eA : Nat → Int} {lA : Nat → Int} {sn : Nat} (hsn : sn < 4) (hs : ∀ j, Sz j ≤ 6) (ht : ∀ i, St i < 16) : Met l yX0_placesFor (ws_ yX0_placesFor cX0_placesFor 6 (some .int)) ({ frames := 0, cells := 0, slots := 0, locals := 0 }) (sw_R D vwCl (wX o ad kc Sz St Ct T L lk fp fo lp dn ac ea la ne nl eA lA) (tyX kc) [.ref o, .int (nI (sn))]) (vp_Si (fun r => ∃ x, r = nI x ∧ sw_pfI Sz St sn (4 * 6) x)) 0 0 (fun _ => False) := sw_metR (by decide) (Nat.le_of_ble_eq_true rfl) (fun p e s m below meth c Q ls S hK hP hl ret => bX0_placesFor S (Nat.le_refl _) (Nat.le_refl _) hK hP hsn hs ht ret hl)
set_option maxHeartbeats 4000000 in
set_option maxRecDepth 100000 in
theorem bX0_onward {D : va_G} {o : Nat} {ad : Nat → Nat} {kc : Nat → ClassId} {Sz : Nat → Nat} {St : Nat → Nat} {Ct : Nat → Nat} {T : Nat → Nat} {L : Nat} {lk : Nat} {fp : Nat} {fo : Nat → Nat} {lp : Nat} {dn : Nat} {ac : Nat} {ea : Nat → Nat} {la : Nat → Int} {ne : Nat → Nat} {nl : Nat → Int} {eA : Nat → Int} {lA : Nat → Int} {sn : Nat} (S : CallFix p m c cX0_onward 4 s args lw_all RX0) (hRf : 1 ≤ R.frames) (hRl : 25 ≤ R.locals) (hK : va_K D vwCl (tyX kc) s) (hP : va_P D vwCl (wX o ad kc Sz St Ct T L lk fp fo lp dn ac ea la ne nl eA lA) H) (hsn : sn < 4) (hs : ∀ j, Sz j ≤ 6) (ht : ∀ i, St i < 16) (hac : ac < 2 ^ 24) (ret : ∀ (pc : Nat) (ls : Array Slot) (r : Int32), decode cX0_onward pc = .ok (.ireturn, 1) → (∃ x, r = nI x ∧ sw_on Sz St fp ac fo sn x) → W p l e R s m args below meth c H locs 0 0 Q (F0 m pc ls [.int r])) (hl : lv_has ls 4 [(0, .ref (o)), (1, .int (nI (sn)))]) : W p l e R s m args below meth c H locs 0 0 Q (F0 m 0 ls []) := by
  have hx := S.1
  have hb := S.2.1
  have hown := S.2.2.2.1
  have hts := S.2.2.2.2
  refine lv_aload_n hx hb dX0_onward_0 rfl (lv_at hl 0 rfl) ?_
  refine va_get (D := D) (ci := 0) (v := .int (nI (fp))) (C := RX0) (T := TX0) (N := 17) hx hb hts in_X0 hown hK hP 0 rfl rfl 6 (by decide) (hts _ q36) (fun _ h9 => h9) rfl dX0_onward_1 ?_
  refine lv_istore_n (lv' := [(2, .int (nI (fp))), (0, .ref (o)), (1, .int (nI (sn)))]) hx hb dX0_onward_4 rfl hl (by decide) rfl (fun ls hl => ?_)
  refine lv_iconst (v := nI (0)) hx hb dX0_onward_5 (by decide) ?_
  refine lv_istore_n (lv' := [(3, .int (nI (0))), (2, .int (nI (fp))), (0, .ref (o)), (1, .int (nI (sn)))]) hx hb dX0_onward_6 rfl hl (by decide) rfl (fun ls hl => ?_)
  have L7 : ∀ (n : Nat) (x : Nat) (i : Nat), (i ≤ 24) → (sw_onI fp ac fo i x) → 24 - i < n → ∀ (ls : Array Slot), lv_has ls 4 [(0, .ref (o)), (1, .int (nI (sn))), (2, .int (nI (x))), (3, .int (nI (i)))] → W p l e R s m args below meth c H locs 0 0 Q (F0 m 7 ls []) := by
    intro n
    induction n with
    | zero => intro x i _ _ hm; exact absurd hm (Nat.not_lt_zero _)
    | succ n ihL7 =>
      intro x i hi hI hmL7 ls hl
      refine lv_iload_n hx hb dX0_onward_7 rfl (lv_at hl 3 rfl) ?_
      refine lv_bipush (v := nI (24)) hx hb dX0_onward_8 (by decide) ?_
      refine sw_cge (tgt := 39) hx hb dX0_onward_10 (by decide) (by omega) (by omega) (fun h10 => ?_) (fun h10 => ?_)
      · refine lv_iload_n hx hb dX0_onward_39 rfl (lv_at hl 2 rfl) ?_
        refine lv_aload_n hx hb dX0_onward_40 rfl (lv_at hl 0 rfl) ?_
        refine lv_iload_n hx hb dX0_onward_41 rfl (lv_at hl 1 rfl) ?_
        refine sw_cvR (As := [.int (nI (sn))]) (rest := [.int (nI (x))]) (C := RX0) (ci := 0) (q0 := 0) S (mX0_placesFor l hsn hs ht) (cwV 1 hts (lw_V q151 q153 qs11 q20 q154) rfl rfl rfl (by decide +kernel) ⟨Nat.le_trans (Nat.le_of_ble_eq_true rfl) hRf, Nat.le_trans (Nat.le_of_ble_eq_true rfl) hRl⟩) hK hP rfl rfl rfl rfl hl.1 rfl (Nat.le_of_ble_eq_true rfl) dX0_onward_42 ⟨Nat.zero_le _, Nat.zero_le _⟩ (fun r hr => ?_)
        obtain ⟨y, rfl, hy⟩ := hr
        refine sw_and hx hb dX0_onward_45 ?_
        exact ret _ _ _ dX0_onward_46 (⟨_, rfl, sw_onI_e hI (by omega) hy⟩)
      · refine lv_aload_n hx hb dX0_onward_13 rfl (lv_at hl 0 rfl) ?_
        refine va_get (D := D) (ci := 0) (v := .int (nI (ac))) (C := RX0) (T := TX0) (N := 17) hx hb hts in_X0 hown hK hP 0 rfl rfl 10 (by decide) (hts _ q40) (fun _ h9 => h9) rfl dX0_onward_14 ?_
        refine lv_iload_n hx hb dX0_onward_17 rfl (lv_at hl 3 rfl) ?_
        refine sw_shr hx hb dX0_onward_18 (by omega) (by omega) ?_
        refine lv_iconst (v := nI (1)) hx hb dX0_onward_19 (by decide) ?_
        refine sw_and1 hx hb dX0_onward_20 ?_
        refine sw_ifeq (tgt := 33) hx hb dX0_onward_21 (by decide) (by omega) (fun h21 => ?_) (fun h21 => ?_)
        · have hI' := sw_onI_s0 h21 hI
          refine lv_iinc (k := 3) (v := nI (i + 1)) (lv' := [(3, .int (nI (i + 1))), (0, .ref (o)), (1, .int (nI (sn))), (2, .int (nI (x)))]) hx hb dX0_onward_33 hl rfl (nI_add _ 1) (by decide) rfl (fun ls hl => ?_)
          refine lv_goto (tgt := 7) hx hb dX0_onward_36 (by decide) ?_
          exact ihL7 (x) (i + 1) (by omega) hI' (by omega) _ (lv_sub hl [1, 2, 3, 0] rfl)
        · have hI' := sw_onI_s1 h21 hI
          refine lv_iload_n hx hb dX0_onward_24 rfl (lv_at hl 2 rfl) ?_
          refine lv_aload_n hx hb dX0_onward_25 rfl (lv_at hl 0 rfl) ?_
          refine va_get (D := D) (ci := 0) (v := .ref (ad 4)) (C := RX0) (T := TX0) (N := 17) hx hb hts in_X0 hown hK hP 0 rfl rfl 7 (by decide) (hts _ q37) (fun _ h9 => h9) rfl dX0_onward_26 ?_
          refine lv_iload_n hx hb dX0_onward_29 rfl (lv_at hl 3 rfl) ?_
          refine sw_ild hx hb hK hP 5 4 rfl rfl (by omega) (by decide) (v := nI (fo i)) rfl dX0_onward_30 ?_
          refine sw_or hx hb dX0_onward_31 ?_
          refine lv_istore_n (lv' := [(2, .int (nI (x ||| (fo i)))), (0, .ref (o)), (1, .int (nI (sn))), (3, .int (nI (i)))]) hx hb dX0_onward_32 rfl hl (by decide) rfl (fun ls hl => ?_)
          refine lv_iinc (k := 3) (v := nI (i + 1)) (lv' := [(3, .int (nI (i + 1))), (2, .int (nI (x ||| (fo i)))), (0, .ref (o)), (1, .int (nI (sn)))]) hx hb dX0_onward_33 hl rfl (nI_add _ 1) (by decide) rfl (fun ls hl => ?_)
          refine lv_goto (tgt := 7) hx hb dX0_onward_36 (by decide) ?_
          exact ihL7 (x ||| (fo i)) (i + 1) (by omega) hI' (by omega) _ (lv_sub hl [2, 3, 1, 0] rfl)
  exact L7 (24 - (0) + 1) (fp) (0) (by omega) sw_onI_0 (Nat.lt_succ_self _) _ (lv_sub hl [2, 3, 1, 0] rfl)
set_option maxRecDepth 100000 in
theorem mX0_onward (l : Launch) {D : va_G} {o : Nat} {ad : Nat → Nat} {kc : Nat → ClassId} {Sz : Nat → Nat} {St : Nat → Nat} {Ct : Nat → Nat} {T : Nat → Nat} {L : Nat} {lk : Nat} {fp : Nat} {fo : Nat → Nat} {lp : Nat} {dn : Nat} {ac : Nat} {ea : Nat → Nat} {la : Nat → Int} {ne : Nat → Nat} {nl : Nat → Int} {eA : Nat → Int} {lA : Nat → Int} {sn : Nat} (hsn : sn < 4) (hs : ∀ j, Sz j ≤ 6) (ht : ∀ i, St i < 16) (hac : ac < 2 ^ 24) : Met l yX0_onward (ws_ yX0_onward cX0_onward 4 (some .int)) ({ frames := 1, cells := 0, slots := 0, locals := 25 }) (sw_R D vwCl (wX o ad kc Sz St Ct T L lk fp fo lp dn ac ea la ne nl eA lA) (tyX kc) [.ref o, .int (nI (sn))]) (vp_Si (fun r => ∃ x, r = nI x ∧ sw_on Sz St fp ac fo sn x)) 0 0 (fun _ => False) := sw_metR (by decide) (Nat.le_of_ble_eq_true rfl) (fun p e s m below meth c Q ls S hK hP hl ret => bX0_onward S (Nat.le_refl _) (Nat.le_refl _) hK hP hsn hs ht hac ret hl)
set_option maxHeartbeats 4000000 in
set_option maxRecDepth 100000 in
theorem bX0_emptyFits {D : va_G} {o : Nat} {ad : Nat → Nat} {kc : Nat → ClassId} {Sz : Nat → Nat} {St : Nat → Nat} {Ct : Nat → Nat} {T : Nat → Nat} {L : Nat} {lk : Nat} {fp : Nat} {fo : Nat → Nat} {lp : Nat} {dn : Nat} {ac : Nat} {ea : Nat → Nat} {la : Nat → Int} {ne : Nat → Nat} {nl : Nat → Int} {eA : Nat → Int} {lA : Nat → Int} (S : CallFix p m c cX0_emptyFits 3 s args lw_all RX0) (hRf : 2 ≤ R.frames) (hRl : 44 ≤ R.locals) (hK : va_K D vwCl (tyX kc) s) (hP : va_P D vwCl (wX o ad kc Sz St Ct T L lk fp fo lp dn ac ea la ne nl eA lA) H) (hs : ∀ j, Sz j ≤ 6) (hc : ∀ i, Ct i ≤ 3) (ret : ∀ (pc : Nat) (ls : Array Slot) (r : Int32), decode cX0_emptyFits pc = .ok (.ireturn, 1) → (∃ x, r = nI x ∧ sw_set 4 (fun j => sw_open Ct (j * 6) (j * 6 + Sz j)) x) → W p l e R s m args below meth c H locs 0 0 Q (F0 m pc ls [.int r])) (hl : lv_has ls 3 [(0, .ref (o))]) : W p l e R s m args below meth c H locs 0 0 Q (F0 m 0 ls []) := by
  have hx := S.1
  have hb := S.2.1
  have hown := S.2.2.2.1
  have hts := S.2.2.2.2
  refine lv_iconst (v := nI (0)) hx hb dX0_emptyFits_0 (by decide) ?_
  refine lv_istore_n (lv' := [(1, .int (nI (0))), (0, .ref (o))]) hx hb dX0_emptyFits_1 rfl hl (by decide) rfl (fun ls hl => ?_)
  refine lv_iconst (v := nI (0)) hx hb dX0_emptyFits_2 (by decide) ?_
  refine lv_istore_n (lv' := [(2, .int (nI (0))), (1, .int (nI (0))), (0, .ref (o))]) hx hb dX0_emptyFits_3 rfl hl (by decide) rfl (fun ls hl => ?_)
  have L4 : ∀ (n : Nat) (x : Nat) (pn : Nat), (pn ≤ 4) → (sw_set pn (fun j => sw_open Ct (j * 6) (j * 6 + Sz j)) x) → 4 - pn < n → ∀ (ls : Array Slot), lv_has ls 3 [(0, .ref (o)), (1, .int (nI (x))), (2, .int (nI (pn)))] → W p l e R s m args below meth c H locs 0 0 Q (F0 m 4 ls []) := by
    intro n
    induction n with
    | zero => intro x pn _ _ hm; exact absurd hm (Nat.not_lt_zero _)
    | succ n ihL4 =>
      intro x pn hp hI hmL4 ls hl
      refine lv_iload_n hx hb dX0_emptyFits_4 rfl (lv_at hl 2 rfl) ?_
      refine lv_iconst (v := nI (4)) hx hb dX0_emptyFits_5 (by decide) ?_
      refine sw_cge (tgt := 34) hx hb dX0_emptyFits_6 (by decide) (by omega) (by omega) (fun h6 => ?_) (fun h6 => ?_)
      · refine lv_iload_n hx hb dX0_emptyFits_34 rfl (lv_at hl 1 rfl) ?_
        exact ret _ _ _ dX0_emptyFits_35 (⟨x, rfl, by rw [show pn = 4 by omega] at hI; exact hI⟩)
      · refine lv_iload_n hx hb dX0_emptyFits_9 rfl (lv_at hl 1 rfl) ?_
        refine lv_aload_n hx hb dX0_emptyFits_10 rfl (lv_at hl 0 rfl) ?_
        refine lv_iload_n hx hb dX0_emptyFits_11 rfl (lv_at hl 2 rfl) ?_
        refine lv_iconst (v := nI (0)) hx hb dX0_emptyFits_12 (by decide) ?_
        refine sw_cvR (As := [.int (nI (pn)), .int (nI (0))]) (rest := [.int (nI (x))]) (C := RX0) (ci := 0) (q0 := 0) S (mX0_emptyFrom l (by omega) (by omega) hs hc) (cwV 2 hts (lw_V q139 q141 qs8 q20 q142) rfl rfl rfl (by decide +kernel) ⟨Nat.le_trans (Nat.le_of_ble_eq_true rfl) hRf, Nat.le_trans (Nat.le_of_ble_eq_true rfl) hRl⟩) hK hP rfl rfl rfl rfl hl.1 rfl (Nat.le_of_ble_eq_true rfl) dX0_emptyFits_13 ⟨Nat.zero_le _, Nat.zero_le _⟩ (fun r hr => ?_)
        rcases hr with ⟨rfl, hr13⟩ | ⟨rfl, hr13⟩
        · have hI' := sw_set_1 (P := fun j => sw_open Ct (j * 6) (j * 6 + Sz j)) hr13 hI
          refine sw_ifeq (tgt := 25) hx hb dX0_emptyFits_16 (by decide) (by decide) (fun q => absurd q (by decide)) (fun _ => ?_)
          refine lv_iconst (v := nI (1)) hx hb dX0_emptyFits_19 (by decide) ?_
          refine lv_iload_n hx hb dX0_emptyFits_20 rfl (lv_at hl 2 rfl) ?_
          refine sw_shl hx hb dX0_emptyFits_21 (by omega) (sw_sh (by omega) (by omega)) ?_
          refine lv_goto (tgt := 26) hx hb dX0_emptyFits_22 (by decide) ?_
          refine sw_or hx hb dX0_emptyFits_26 ?_
          refine lv_istore_n (lv' := [(1, .int (nI (x ||| (1 * 2 ^ pn)))), (0, .ref (o)), (2, .int (nI (pn)))]) hx hb dX0_emptyFits_27 rfl hl (by decide) rfl (fun ls hl => ?_)
          refine lv_iinc (k := 2) (v := nI (pn + 1)) (lv' := [(2, .int (nI (pn + 1))), (1, .int (nI (x ||| (1 * 2 ^ pn)))), (0, .ref (o))]) hx hb dX0_emptyFits_28 hl rfl (nI_add _ 1) (by decide) rfl (fun ls hl => ?_)
          refine lv_goto (tgt := 4) hx hb dX0_emptyFits_31 (by decide) ?_
          exact ihL4 (x ||| (1 * 2 ^ pn)) (pn + 1) (by omega) hI' (by omega) _ (lv_sub hl [2, 1, 0] rfl)
        · have hI' := sw_set_n' (P := fun j => sw_open Ct (j * 6) (j * 6 + Sz j)) hr13 hI
          refine sw_ifeq (tgt := 25) hx hb dX0_emptyFits_16 (by decide) (by decide) (fun _ => ?_) (fun q => absurd rfl q)
          refine lv_iconst (v := nI (0)) hx hb dX0_emptyFits_25 (by decide) ?_
          refine sw_or hx hb dX0_emptyFits_26 ?_
          refine lv_istore_n (lv' := [(1, .int (nI (x ||| 0))), (0, .ref (o)), (2, .int (nI (pn)))]) hx hb dX0_emptyFits_27 rfl hl (by decide) rfl (fun ls hl => ?_)
          refine lv_iinc (k := 2) (v := nI (pn + 1)) (lv' := [(2, .int (nI (pn + 1))), (1, .int (nI (x ||| 0))), (0, .ref (o))]) hx hb dX0_emptyFits_28 hl rfl (nI_add _ 1) (by decide) rfl (fun ls hl => ?_)
          refine lv_goto (tgt := 4) hx hb dX0_emptyFits_31 (by decide) ?_
          exact ihL4 (x ||| 0) (pn + 1) (by omega) hI' (by omega) _ (lv_sub hl [2, 1, 0] rfl)
  exact L4 (4 - (0) + 1) (0) (0) (by omega) sw_set_0 (Nat.lt_succ_self _) _ (lv_sub hl [2, 1, 0] rfl)
set_option maxRecDepth 100000 in
theorem mX0_emptyFits (l : Launch) {D : va_G} {o : Nat} {ad : Nat → Nat} {kc : Nat → ClassId} {Sz : Nat → Nat} {St : Nat → Nat} {Ct : Nat → Nat} {T : Nat → Nat} {L : Nat} {lk : Nat} {fp : Nat} {fo : Nat → Nat} {lp : Nat} {dn : Nat} {ac : Nat} {ea : Nat → Nat} {la : Nat → Int} {ne : Nat → Nat} {nl : Nat → Int} {eA : Nat → Int} {lA : Nat → Int} (hs : ∀ j, Sz j ≤ 6) (hc : ∀ i, Ct i ≤ 3) : Met l yX0_emptyFits (ws_ yX0_emptyFits cX0_emptyFits 3 (some .int)) ({ frames := 2, cells := 0, slots := 0, locals := 44 }) (sw_R D vwCl (wX o ad kc Sz St Ct T L lk fp fo lp dn ac ea la ne nl eA lA) (tyX kc) [.ref o]) (vp_Si (fun r => ∃ x, r = nI x ∧ sw_set 4 (fun j => sw_open Ct (j * 6) (j * 6 + Sz j)) x)) 0 0 (fun _ => False) := sw_metR (by decide) (Nat.le_of_ble_eq_true rfl) (fun p e s m below meth c Q ls S hK hP hl ret => bX0_emptyFits S (Nat.le_refl _) (Nat.le_refl _) hK hP hs hc ret hl)
end SWB
end
section
section SWB
variable {p : Program} {l : Launch} {e : Env} {R : Room} {s : State} {m : MethodId} {args : Array Value} {below : List Frame} {meth : Method} {c : Code} {H : Heap} {locs : List Loc} {Q : State → Prop} {ls : Array Slot} {A : Nat → Prop} {H0 : Heap}
set_option maxHeartbeats 4000000 in
set_option maxRecDepth 100000 in
theorem bX0_startOver {D : va_G} {o : Nat} {ad : Nat → Nat} {kc : Nat → ClassId} {Sz : Nat → Nat} {St : Nat → Nat} {Ct : Nat → Nat} {T : Nat → Nat} {L : Nat} {lk : Nat} {fp : Nat} {fo : Nat → Nat} {lp : Nat} {dn : Nat} {ac : Nat} {ea : Nat → Nat} {la : Nat → Int} {ne : Nat → Nat} {nl : Nat → Int} {eA : Nat → Int} {lA : Nat → Int} (S : CallFix p m c cX0_startOver 1 s args lw_all RX0) (hRf : 0 ≤ R.frames) (hRl : 0 ≤ R.locals) (hK : va_K D vwCl (tyX kc) s) (hP : va_P D vwCl (wX o ad kc Sz St Ct T L lk fp fo lp dn ac ea la ne nl eA lA) H) (hD : va_D A (wX o ad kc Sz St Ct T L lk fp fo lp dn ac ea la ne nl eA lA)) (hS : va_S A H0 H locs) (hA : ∀ q, H0.size ≤ q → A q) (ret : ∀ (pc : Nat) (ls : Array Slot) (u : Unit) (H1 : Heap) (locs1 : List Loc), decode cX0_startOver pc = .ok (.return_, 1) → (True) → va_P D vwCl ((fun _ : Unit => wX o ad kc Sz St Ct T L lk fp fo lp 0 0 ea la ne nl eA lA) u) H1 → va_D A ((fun _ : Unit => wX o ad kc Sz St Ct T L lk fp fo lp 0 0 ea la ne nl eA lA) u) → va_S A H0 H1 locs1 → W p l e R s m args below meth c H1 locs1 0 0 Q (F0 m pc ls [])) (hl : lv_has ls 1 [(0, .ref (o))]) : W p l e R s m args below meth c H locs 0 0 Q (F0 m 0 ls []) := by
  have hx := S.1
  have hb := S.2.1
  have hown := S.2.2.2.1
  have hts := S.2.2.2.2
  refine lv_aload_n hx hb dX0_startOver_0 rfl (lv_at hl 0 rfl) ?_
  refine lv_iconst (v := nI (0)) hx hb dX0_startOver_1 (by decide) ?_
  refine va_put (D := D) (ci := 0) (v := .int (nI (0))) (ty := .int) (C := RX0) (T := TX0) (N := 17) hx hb hts in_X0 tyX0 tyX0_ok nmX0 hown hK hP hD hS 0 rfl rfl 9 (by decide) (hts _ q39) (fun _ h9 => h9) rfl (by decide +kernel) rfl rfl (Nat.le_of_ble_eq_true rfl) dX0_startOver_2 (fun H locs hP hD hS => ?_)
  have hP : va_P D vwCl (wX o ad kc Sz St Ct T L lk fp fo lp 0 ac ea la ne nl eA lA) H := hP
  have hD : va_D A (wX o ad kc Sz St Ct T L lk fp fo lp 0 ac ea la ne nl eA lA) := hD
  refine lv_aload_n hx hb dX0_startOver_5 rfl (lv_at hl 0 rfl) ?_
  refine lv_iconst (v := nI (0)) hx hb dX0_startOver_6 (by decide) ?_
  refine va_put (D := D) (ci := 0) (v := .int (nI (0))) (ty := .int) (C := RX0) (T := TX0) (N := 17) hx hb hts in_X0 tyX0 tyX0_ok nmX0 hown hK hP hD hS 0 rfl rfl 10 (by decide) (hts _ q40) (fun _ h9 => h9) rfl (by decide +kernel) rfl rfl (Nat.le_of_ble_eq_true rfl) dX0_startOver_7 (fun H locs hP hD hS => ?_)
  have hP : va_P D vwCl (wX o ad kc Sz St Ct T L lk fp fo lp 0 0 ea la ne nl eA lA) H := hP
  have hD : va_D A (wX o ad kc Sz St Ct T L lk fp fo lp 0 0 ea la ne nl eA lA) := hD
  exact ret _ _ () _ _ dX0_startOver_10 (trivial) hP hD hS
set_option maxRecDepth 100000 in
theorem mX0_startOver (l : Launch) {D : va_G} {o : Nat} {ad : Nat → Nat} {kc : Nat → ClassId} {Sz : Nat → Nat} {St : Nat → Nat} {Ct : Nat → Nat} {T : Nat → Nat} {L : Nat} {lk : Nat} {fp : Nat} {fo : Nat → Nat} {lp : Nat} {dn : Nat} {ac : Nat} {ea : Nat → Nat} {la : Nat → Int} {ne : Nat → Nat} {nl : Nat → Int} {eA : Nat → Int} {lA : Nat → Int}  (sz : Nat) : Met l yX0_startOver (ws_ yX0_startOver cX0_startOver 1 (none)) ({ frames := 0, cells := 0, slots := 0, locals := 0 }) (sw_M D vwCl (wX o ad kc Sz St Ct T L lk fp fo lp dn ac ea la ne nl eA lA) (tyX kc) sz [.ref o]) (va_Qv (fun (u : Unit) => True) (sw_B D vwCl (tyX kc) (va_A (wX o ad kc Sz St Ct T L lk fp fo lp dn ac ea la ne nl eA lA) sz) (fun _ : Unit => wX o ad kc Sz St Ct T L lk fp fo lp 0 0 ea la ne nl eA lA)) (va_A (wX o ad kc Sz St Ct T L lk fp fo lp dn ac ea la ne nl eA lA) sz)) 0 0 (va_A (wX o ad kc Sz St Ct T L lk fp fo lp dn ac ea la ne nl eA lA) sz) := sw_metV (by decide) (Nat.le_of_ble_eq_true rfl) (fun p e s m below meth c Q ls A S hK hP hD hA hl ret => bX0_startOver S (Nat.le_refl _) (Nat.le_refl _) hK hP hD va_S.rf hA  ret hl) sz
set_option maxHeartbeats 4000000 in
set_option maxRecDepth 100000 in
theorem bX0_patternsChanged {D : va_G} {o : Nat} {ad : Nat → Nat} {kc : Nat → ClassId} {Sz : Nat → Nat} {St : Nat → Nat} {Ct : Nat → Nat} {T : Nat → Nat} {L : Nat} {lk : Nat} {fp : Nat} {fo : Nat → Nat} {lp : Nat} {dn : Nat} {ac : Nat} {ea : Nat → Nat} {la : Nat → Int} {ne : Nat → Nat} {nl : Nat → Int} {eA : Nat → Int} {lA : Nat → Int} (S : CallFix p m c cX0_patternsChanged 1 s args lw_all RX0) (hRf : 1 ≤ R.frames) (hRl : 20 ≤ R.locals) (hK : va_K D vwCl (tyX kc) s) (hP : va_P D vwCl (wX o ad kc Sz St Ct T L lk fp fo lp dn ac ea la ne nl eA lA) H) (hD : va_D A (wX o ad kc Sz St Ct T L lk fp fo lp dn ac ea la ne nl eA lA)) (hS : va_S A H0 H locs) (hA : ∀ q, H0.size ≤ q → A q) (ret : ∀ (pc : Nat) (ls : Array Slot) (u : Unit) (H1 : Heap) (locs1 : List Loc), decode cX0_patternsChanged pc = .ok (.return_, 1) → (True) → va_P D vwCl ((fun _ : Unit => wX o ad kc Sz St Ct T L 0 fp fo lp 0 0 ea la ne nl eA lA) u) H1 → va_D A ((fun _ : Unit => wX o ad kc Sz St Ct T L 0 fp fo lp 0 0 ea la ne nl eA lA) u) → va_S A H0 H1 locs1 → W p l e R s m args below meth c H1 locs1 0 0 Q (F0 m pc ls [])) (hl : lv_has ls 1 [(0, .ref (o))]) : W p l e R s m args below meth c H locs 0 0 Q (F0 m 0 ls []) := by
  have hx := S.1
  have hb := S.2.1
  have hown := S.2.2.2.1
  have hts := S.2.2.2.2
  refine lv_aload_n hx hb dX0_patternsChanged_0 rfl (lv_at hl 0 rfl) ?_
  refine lv_iconst (v := nI (0)) hx hb dX0_patternsChanged_1 (by decide) ?_
  refine va_put (D := D) (ci := 0) (v := .int (nI (0))) (ty := .boolean) (C := RX0) (T := TX0) (N := 17) hx hb hts in_X0 tyX0 tyX0_ok nmX0 hown hK hP hD hS 0 rfl rfl 5 (by decide) (hts _ q35) (fun _ h9 => h9) rfl (by decide +kernel) (sw_nzB' _ (by decide)) rfl (Nat.le_of_ble_eq_true rfl) dX0_patternsChanged_2 (fun H locs hP hD hS => ?_)
  have hP : va_P D vwCl (wX o ad kc Sz St Ct T L 0 fp fo lp dn ac ea la ne nl eA lA) H := hP
  have hD : va_D A (wX o ad kc Sz St Ct T L 0 fp fo lp dn ac ea la ne nl eA lA) := hD
  refine lv_aload_n hx hb dX0_patternsChanged_5 rfl (lv_at hl 0 rfl) ?_
  refine sw_cvV (As := []) (rest := []) (C := RX0) (ci := 0) (q0 := 0) S (fun sz => (mX0_startOver l  sz)) (cwV 0 hts (lw_V q95 q97 qs1 q20 q98) rfl rfl rfl (by decide +kernel) ⟨Nat.le_trans (Nat.le_of_ble_eq_true rfl) hRf, Nat.le_trans (Nat.le_of_ble_eq_true rfl) hRl⟩) hK hP hD hS hA rfl rfl rfl rfl hl.1 rfl (Nat.le_of_ble_eq_true rfl) dX0_patternsChanged_6 ⟨Nat.zero_le _, Nat.zero_le _⟩ (fun u H locs hr hP hD hS => ?_)
  have hP : va_P D vwCl (wX o ad kc Sz St Ct T L 0 fp fo lp 0 0 ea la ne nl eA lA) H := hP
  have hD : va_D A (wX o ad kc Sz St Ct T L 0 fp fo lp 0 0 ea la ne nl eA lA) := hD
  exact ret _ _ () _ _ dX0_patternsChanged_9 (trivial) hP hD hS
set_option maxRecDepth 100000 in
theorem mX0_patternsChanged (l : Launch) {D : va_G} {o : Nat} {ad : Nat → Nat} {kc : Nat → ClassId} {Sz : Nat → Nat} {St : Nat → Nat} {Ct : Nat → Nat} {T : Nat → Nat} {L : Nat} {lk : Nat} {fp : Nat} {fo : Nat → Nat} {lp : Nat} {dn : Nat} {ac : Nat} {ea : Nat → Nat} {la : Nat → Int} {ne : Nat → Nat} {nl : Nat → Int} {eA : Nat → Int} {lA : Nat → Int}  (sz : Nat) : Met l yX0_patternsChanged (ws_ yX0_patternsChanged cX0_patternsChanged 1 (none)) ({ frames := 1, cells := 0, slots := 0, locals := 20 }) (sw_M D vwCl (wX o ad kc Sz St Ct T L lk fp fo lp dn ac ea la ne nl eA lA) (tyX kc) sz [.ref o]) (va_Qv (fun (u : Unit) => True) (sw_B D vwCl (tyX kc) (va_A (wX o ad kc Sz St Ct T L lk fp fo lp dn ac ea la ne nl eA lA) sz) (fun _ : Unit => wX o ad kc Sz St Ct T L 0 fp fo lp 0 0 ea la ne nl eA lA)) (va_A (wX o ad kc Sz St Ct T L lk fp fo lp dn ac ea la ne nl eA lA) sz)) 0 0 (va_A (wX o ad kc Sz St Ct T L lk fp fo lp dn ac ea la ne nl eA lA) sz) := sw_metV (by decide) (Nat.le_of_ble_eq_true rfl) (fun p e s m below meth c Q ls A S hK hP hD hA hl ret => bX0_patternsChanged S (Nat.le_refl _) (Nat.le_refl _) hK hP hD va_S.rf hA  ret hl) sz
set_option maxHeartbeats 4000000 in
set_option maxRecDepth 100000 in
theorem bX0_item {D : va_G} {o : Nat} {ad : Nat → Nat} {kc : Nat → ClassId} {Sz : Nat → Nat} {St : Nat → Nat} {Ct : Nat → Nat} {T : Nat → Nat} {L : Nat} {lk : Nat} {fp : Nat} {fo : Nat → Nat} {lp : Nat} {dn : Nat} {ac : Nat} {ea : Nat → Nat} {la : Nat → Int} {ne : Nat → Nat} {nl : Nat → Int} {eA : Nat → Int} {lA : Nat → Int} {zp : Int} {zs : Int} {zc : Int} (S : CallFix p m c cX0_item 5 s args lw_all RX0) (hRf : 2 ≤ R.frames) (hRl : 40 ≤ R.locals) (hK : va_K D vwCl (tyX kc) s) (hP : va_P D vwCl (wX o ad kc Sz St Ct T L lk fp fo lp dn ac ea la ne nl eA lA) H) (hD : va_D A (wX o ad kc Sz St Ct T L lk fp fo lp dn ac ea la ne nl eA lA)) (hS : va_S A H0 H locs) (hA : ∀ q, H0.size ≤ q → A q) (hlzp : -2147483648 ≤ zp) (huzp : zp < 2147483648) (hlzs : -2147483648 ≤ zs) (huzs : zs < 2147483648) (hlzc : -2147483648 ≤ zc) (huzc : zc < 2147483648) (hO : sw_Ok Sz St Ct T L) (hCa : sw_Ca Sz St Ct T L lk fp fo lp dn ac ea la eA lA) (ret : ∀ (pc : Nat) (ls : Array Slot) (r : Int32) (u : (Nat → Nat) × (Nat → Nat) × (Nat → Nat) × Nat × Nat × Nat) (H1 : Heap) (locs1 : List Loc), decode cX0_item pc = .ok (.ireturn, 1) → (sw_itm zp zs zc Sz St Ct r u.1 u.2.1 u.2.2.1 ∧ sw_Ca u.1 u.2.1 u.2.2.1 T L u.2.2.2.1 fp fo lp u.2.2.2.2.1 u.2.2.2.2.2 ea la eA lA) → va_P D vwCl ((fun u : (Nat → Nat) × (Nat → Nat) × (Nat → Nat) × Nat × Nat × Nat => wX o ad kc (u.1) (u.2.1) (u.2.2.1) T L (u.2.2.2.1) fp fo lp (u.2.2.2.2.1) (u.2.2.2.2.2) ea la ne nl eA lA) u) H1 → va_D A ((fun u : (Nat → Nat) × (Nat → Nat) × (Nat → Nat) × Nat × Nat × Nat => wX o ad kc (u.1) (u.2.1) (u.2.2.1) T L (u.2.2.2.1) fp fo lp (u.2.2.2.2.1) (u.2.2.2.2.2) ea la ne nl eA lA) u) → va_S A H0 H1 locs1 → W p l e R s m args below meth c H1 locs1 0 0 Q (F0 m pc ls [.int r])) (hl : lv_has ls 5 [(0, .ref (o)), (1, .int (zI (zp))), (2, .int (zI (zs))), (3, .int (zI (zc)))]) : W p l e R s m args below meth c H locs 0 0 Q (F0 m 0 ls []) := by
  have hx := S.1
  have hb := S.2.1
  have hown := S.2.2.2.1
  have hts := S.2.2.2.2
  obtain ⟨hs, ht, hc, hT, hL⟩ := hO
  refine lv_iload_n hx hb dX0_item_0 rfl (lv_at hl 1 rfl) ?_
  refine sw_csR (As := [.int (zI (zp))]) (rest := []) S (mX0_isPattern l hlzp huzp) (va_cwS 1 hts (lw_S q88 q89 q20 q90) rfl rfl rfl (by decide +kernel) ⟨Nat.le_trans (Nat.le_of_ble_eq_true rfl) hRf, Nat.le_trans (Nat.le_of_ble_eq_true rfl) hRl⟩) rfl hl.1 rfl (Nat.le_of_ble_eq_true rfl) dX0_item_1 ⟨Nat.zero_le _, Nat.zero_le _⟩ (fun r hr => ?_)
  rcases hr with ⟨rfl, hr1⟩ | ⟨rfl, hr1⟩
  · refine sw_ifeq (tgt := 27) hx hb dX0_item_4 (by decide) (by decide) (fun q => absurd q (by decide)) (fun _ => ?_)
    refine lv_iload_n hx hb dX0_item_7 rfl (lv_at hl 2 rfl) ?_
    refine lv_iconst (v := nI (1)) hx hb dX0_item_8 (by decide) ?_
    refine sw_dlt (tgt := 27) hx hb dX0_item_9 (by decide) (zI_toInt (z := zs) (by omega) (by omega)) (nI_toInt (show (1) < 2 ^ 31 by omega)) (fun h9 => ?_) (fun h9 => ?_)
    · refine lv_iconst (v := zI (-1)) hx hb dX0_item_27 (by decide) ?_
      exact ret _ _ _ (Sz, St, Ct, lk, dn, ac) _ _ dX0_item_28 (⟨Or.inl ⟨by omega, rfl, rfl, rfl, rfl⟩, hCa⟩) hP hD hS
    · refine lv_iload_n hx hb dX0_item_12 rfl (lv_at hl 2 rfl) ?_
      refine lv_bipush (v := nI (15)) hx hb dX0_item_13 (by decide) ?_
      refine sw_dgt (tgt := 27) hx hb dX0_item_15 (by decide) (zI_toInt (z := zs) (by omega) (by omega)) (nI_toInt (show (15) < 2 ^ 31 by omega)) (fun h15 => ?_) (fun h15 => ?_)
      · refine lv_iconst (v := zI (-1)) hx hb dX0_item_27 (by decide) ?_
        exact ret _ _ _ (Sz, St, Ct, lk, dn, ac) _ _ dX0_item_28 (⟨Or.inl ⟨by omega, rfl, rfl, rfl, rfl⟩, hCa⟩) hP hD hS
      · refine lv_iload_n hx hb dX0_item_18 rfl (lv_at hl 3 rfl) ?_
        refine sw_zlt (tgt := 27) hx hb dX0_item_19 (by decide) (zI_toInt (z := zc) (by omega) (by omega)) (fun h19 => ?_) (fun h19 => ?_)
        · refine lv_iconst (v := zI (-1)) hx hb dX0_item_27 (by decide) ?_
          exact ret _ _ _ (Sz, St, Ct, lk, dn, ac) _ _ dX0_item_28 (⟨Or.inl ⟨by omega, rfl, rfl, rfl, rfl⟩, hCa⟩) hP hD hS
        · refine lv_iload_n hx hb dX0_item_22 rfl (lv_at hl 3 rfl) ?_
          refine lv_iconst (v := nI (3)) hx hb dX0_item_23 (by decide) ?_
          refine sw_dle (tgt := 29) hx hb dX0_item_24 (by decide) (zI_toInt (z := zc) (by omega) (by omega)) (nI_toInt (show (3) < 2 ^ 31 by omega)) (fun h24 => ?_) (fun h24 => ?_)
          · obtain ⟨pn, rfl⟩ := Int.eq_ofNat_of_zero_le hr1.1
            have hl : lv_has ls 5 [(0, .ref (o)), (1, .int (nI (pn))), (2, .int (zI (zs))), (3, .int (zI (zc)))] := by rw [show zI ((pn : Int)) = nI (pn) from zI_n pn] at hl; exact hl
            obtain ⟨sn, rfl⟩ := Int.eq_ofNat_of_zero_le (show 0 ≤ zs by omega)
            have hl : lv_has ls 5 [(0, .ref (o)), (1, .int (nI (pn))), (2, .int (nI (sn))), (3, .int (zI (zc)))] := by rw [show zI ((sn : Int)) = nI (sn) from zI_n sn] at hl; exact hl
            obtain ⟨cn, rfl⟩ := Int.eq_ofNat_of_zero_le h19
            have hl : lv_has ls 5 [(0, .ref (o)), (1, .int (nI (pn))), (2, .int (nI (sn))), (3, .int (nI (cn)))] := by rw [show zI ((cn : Int)) = nI (cn) from zI_n cn] at hl; exact hl
            have hsp := hs pn
            refine lv_aload_n hx hb dX0_item_29 rfl (lv_at hl 0 rfl) ?_
            refine va_get (D := D) (ci := 0) (v := .ref (ad 0)) (C := RX0) (T := TX0) (N := 17) hx hb hts in_X0 hown hK hP 0 rfl rfl 0 (by decide) (hts _ q30) (fun _ h9 => h9) rfl dX0_item_30 ?_
            refine lv_iload_n hx hb dX0_item_33 rfl (lv_at hl 1 rfl) ?_
            refine sw_bld hx hb hK hP 1 0 rfl rfl (by omega) (by decide) (v := nI (Sz pn)) rfl dX0_item_34 ?_
            refine lv_bipush (v := nI (6)) hx hb dX0_item_35 (by decide) ?_
            refine sw_clt (tgt := 43) hx hb dX0_item_37 (by decide) (by omega) (by omega) (fun h37 => ?_) (fun h37 => ?_)
            · refine lv_iload_n hx hb dX0_item_43 rfl (lv_at hl 1 rfl) ?_
              refine lv_bipush (v := nI (6)) hx hb dX0_item_44 (by decide) ?_
              refine sw_mul hx hb dX0_item_46 ?_
              refine lv_aload_n hx hb dX0_item_47 rfl (lv_at hl 0 rfl) ?_
              refine va_get (D := D) (ci := 0) (v := .ref (ad 0)) (C := RX0) (T := TX0) (N := 17) hx hb hts in_X0 hown hK hP 0 rfl rfl 0 (by decide) (hts _ q30) (fun _ h9 => h9) rfl dX0_item_48 ?_
              refine lv_iload_n hx hb dX0_item_51 rfl (lv_at hl 1 rfl) ?_
              refine sw_bld hx hb hK hP 1 0 rfl rfl (by omega) (by decide) (v := nI (Sz pn)) rfl dX0_item_52 ?_
              refine sw_add hx hb dX0_item_53 ?_
              refine lv_istore (lv' := [(4, .int (nI ((pn * 6) + (Sz pn)))), (0, .ref (o)), (1, .int (nI (pn))), (2, .int (nI (sn))), (3, .int (nI (cn)))]) hx hb dX0_item_54 hl (by decide) rfl (fun ls hl => ?_)
              refine lv_aload_n hx hb dX0_item_56 rfl (lv_at hl 1 rfl) ?_
              refine va_get (D := D) (ci := 0) (v := .ref (ad 1)) (C := RX0) (T := TX0) (N := 17) hx hb hts in_X0 hown hK hP 0 rfl rfl 1 (by decide) (hts _ q31) (fun _ h9 => h9) rfl dX0_item_57 ?_
              refine lv_iload hx hb dX0_item_60 (lv_at hl 0 rfl) ?_
              refine lv_iload_n hx hb dX0_item_62 rfl (lv_at hl 3 rfl) ?_
              refine lv_i2b (v := nI (sn)) hx hb dX0_item_63 (sw_byN _ (by omega)) ?_
              refine sw_bst hx hb hK hP hD hS 2 1 rfl rfl (by omega) (by decide) (sw_naN (by omega)) (sw_updN _ _ _) dX0_item_64 (fun H locs hP hD hS => ?_)
              have hP : va_P D vwCl (wX o ad kc Sz (va_up St ((pn * 6) + (Sz pn)) sn) Ct T L lk fp fo lp dn ac ea la ne nl eA lA) H := hP
              have hD : va_D A (wX o ad kc Sz (va_up St ((pn * 6) + (Sz pn)) sn) Ct T L lk fp fo lp dn ac ea la ne nl eA lA) := hD
              refine lv_aload_n hx hb dX0_item_65 rfl (lv_at hl 1 rfl) ?_
              refine va_get (D := D) (ci := 0) (v := .ref (ad 2)) (C := RX0) (T := TX0) (N := 17) hx hb hts in_X0 hown hK hP 0 rfl rfl 2 (by decide) (hts _ q32) (fun _ h9 => h9) rfl dX0_item_66 ?_
              refine lv_iload hx hb dX0_item_69 (lv_at hl 0 rfl) ?_
              refine lv_iload_n hx hb dX0_item_71 rfl (lv_at hl 4 rfl) ?_
              refine lv_i2b (v := nI (cn)) hx hb dX0_item_72 (sw_byN _ (by omega)) ?_
              refine sw_bst hx hb hK hP hD hS 3 2 rfl rfl (by omega) (by decide) (sw_naN (by omega)) (sw_updN _ _ _) dX0_item_73 (fun H locs hP hD hS => ?_)
              have hP : va_P D vwCl (wX o ad kc Sz (va_up St ((pn * 6) + (Sz pn)) sn) (va_up Ct ((pn * 6) + (Sz pn)) cn) T L lk fp fo lp dn ac ea la ne nl eA lA) H := hP
              have hD : va_D A (wX o ad kc Sz (va_up St ((pn * 6) + (Sz pn)) sn) (va_up Ct ((pn * 6) + (Sz pn)) cn) T L lk fp fo lp dn ac ea la ne nl eA lA) := hD
              refine lv_aload_n hx hb dX0_item_74 rfl (lv_at hl 1 rfl) ?_
              refine va_get (D := D) (ci := 0) (v := .ref (ad 0)) (C := RX0) (T := TX0) (N := 17) hx hb hts in_X0 hown hK hP 0 rfl rfl 0 (by decide) (hts _ q30) (fun _ h9 => h9) rfl dX0_item_75 ?_
              refine lv_iload_n hx hb dX0_item_78 rfl (lv_at hl 2 rfl) ?_
              refine lv_dup2_11 hx hb dX0_item_79 rfl rfl ?_
              refine sw_bld hx hb hK hP 1 0 rfl rfl (by omega) (by decide) (v := nI (Sz pn)) rfl dX0_item_80 ?_
              refine lv_iconst (v := nI (1)) hx hb dX0_item_81 (by decide) ?_
              refine sw_add hx hb dX0_item_82 ?_
              refine lv_i2b (v := nI ((Sz pn) + 1)) hx hb dX0_item_83 (sw_byN _ (by omega)) ?_
              refine sw_bst hx hb hK hP hD hS 1 0 rfl rfl (by omega) (by decide) (sw_naN (by omega)) (sw_updN _ _ _) dX0_item_84 (fun H locs hP hD hS => ?_)
              have hP : va_P D vwCl (wX o ad kc (va_up Sz pn ((Sz pn) + 1)) (va_up St ((pn * 6) + (Sz pn)) sn) (va_up Ct ((pn * 6) + (Sz pn)) cn) T L lk fp fo lp dn ac ea la ne nl eA lA) H := hP
              have hD : va_D A (wX o ad kc (va_up Sz pn ((Sz pn) + 1)) (va_up St ((pn * 6) + (Sz pn)) sn) (va_up Ct ((pn * 6) + (Sz pn)) cn) T L lk fp fo lp dn ac ea la ne nl eA lA) := hD
              refine lv_aload_n hx hb dX0_item_85 rfl (lv_at hl 1 rfl) ?_
              refine sw_cvV (As := []) (rest := []) (C := RX0) (ci := 0) (q0 := 0) S (fun sz => (mX0_patternsChanged l  sz)) (cwV 0 hts (lw_V q91 q93 qs0 q20 q94) rfl rfl rfl (by decide +kernel) ⟨Nat.le_trans (Nat.le_of_ble_eq_true rfl) hRf, Nat.le_trans (Nat.le_of_ble_eq_true rfl) hRl⟩) hK hP hD hS hA rfl rfl rfl rfl hl.1 rfl (Nat.le_of_ble_eq_true rfl) dX0_item_86 ⟨Nat.zero_le _, Nat.zero_le _⟩ (fun u H locs hr hP hD hS => ?_)
              have hP : va_P D vwCl (wX o ad kc (va_up Sz pn ((Sz pn) + 1)) (va_up St ((pn * 6) + (Sz pn)) sn) (va_up Ct ((pn * 6) + (Sz pn)) cn) T L 0 fp fo lp 0 0 ea la ne nl eA lA) H := hP
              have hD : va_D A (wX o ad kc (va_up Sz pn ((Sz pn) + 1)) (va_up St ((pn * 6) + (Sz pn)) sn) (va_up Ct ((pn * 6) + (Sz pn)) cn) T L 0 fp fo lp 0 0 ea la ne nl eA lA) := hD
              refine lv_aload_n hx hb dX0_item_89 rfl (lv_at hl 1 rfl) ?_
              refine va_get (D := D) (ci := 0) (v := .ref (ad 0)) (C := RX0) (T := TX0) (N := 17) hx hb hts in_X0 hown hK hP 0 rfl rfl 0 (by decide) (hts _ q30) (fun _ h9 => h9) rfl dX0_item_90 ?_
              refine lv_iload_n hx hb dX0_item_93 rfl (lv_at hl 2 rfl) ?_
              refine sw_bld hx hb hK hP 1 0 rfl rfl (by omega) (by decide) (v := nI ((va_up Sz pn ((Sz pn) + 1)) pn)) rfl dX0_item_94 ?_
              refine sw_top (y := nI ((Sz pn + 1))) (congrArg nI (sw_us _ _ _)) ?_
              exact ret _ _ _ (va_up Sz pn ((Sz pn) + 1), va_up St ((pn * 6) + (Sz pn)) sn, va_up Ct ((pn * 6) + (Sz pn)) cn, 0, 0, 0) _ _ dX0_item_95 (⟨Or.inr ⟨pn, sn, cn, rfl, rfl, rfl, by omega, by omega, by omega, by omega, Or.inr ⟨h37, rfl, rfl, rfl, rfl⟩⟩, sw_Ca_0 (Or.inl rfl)⟩) hP hD hS
            · refine lv_bipush (v := zI (-2)) hx hb dX0_item_40 (by decide) ?_
              exact ret _ _ _ (Sz, St, Ct, lk, dn, ac) _ _ dX0_item_42 (⟨Or.inr ⟨pn, sn, cn, rfl, rfl, rfl, by omega, by omega, by omega, by omega, Or.inl ⟨h37, rfl, rfl, rfl, rfl⟩⟩, hCa⟩) hP hD hS
          · refine lv_iconst (v := zI (-1)) hx hb dX0_item_27 (by decide) ?_
            exact ret _ _ _ (Sz, St, Ct, lk, dn, ac) _ _ dX0_item_28 (⟨Or.inl ⟨by omega, rfl, rfl, rfl, rfl⟩, hCa⟩) hP hD hS
  · refine sw_ifeq (tgt := 27) hx hb dX0_item_4 (by decide) (by decide) (fun _ => ?_) (fun q => absurd rfl q)
    refine lv_iconst (v := zI (-1)) hx hb dX0_item_27 (by decide) ?_
    exact ret _ _ _ (Sz, St, Ct, lk, dn, ac) _ _ dX0_item_28 (⟨Or.inl ⟨by omega, rfl, rfl, rfl, rfl⟩, hCa⟩) hP hD hS
set_option maxRecDepth 100000 in
theorem mX0_item (l : Launch) {D : va_G} {o : Nat} {ad : Nat → Nat} {kc : Nat → ClassId} {Sz : Nat → Nat} {St : Nat → Nat} {Ct : Nat → Nat} {T : Nat → Nat} {L : Nat} {lk : Nat} {fp : Nat} {fo : Nat → Nat} {lp : Nat} {dn : Nat} {ac : Nat} {ea : Nat → Nat} {la : Nat → Int} {ne : Nat → Nat} {nl : Nat → Int} {eA : Nat → Int} {lA : Nat → Int} {zp : Int} {zs : Int} {zc : Int} (hlzp : -2147483648 ≤ zp) (huzp : zp < 2147483648) (hlzs : -2147483648 ≤ zs) (huzs : zs < 2147483648) (hlzc : -2147483648 ≤ zc) (huzc : zc < 2147483648) (hO : sw_Ok Sz St Ct T L) (hCa : sw_Ca Sz St Ct T L lk fp fo lp dn ac ea la eA lA) (sz : Nat) : Met l yX0_item (ws_ yX0_item cX0_item 5 (some .int)) ({ frames := 2, cells := 0, slots := 0, locals := 40 }) (sw_M D vwCl (wX o ad kc Sz St Ct T L lk fp fo lp dn ac ea la ne nl eA lA) (tyX kc) sz [.ref o, .int (zI (zp)), .int (zI (zs)), .int (zI (zc))]) (va_Qi (fun (r : Int32) (u : (Nat → Nat) × (Nat → Nat) × (Nat → Nat) × Nat × Nat × Nat) => sw_itm zp zs zc Sz St Ct r u.1 u.2.1 u.2.2.1 ∧ sw_Ca u.1 u.2.1 u.2.2.1 T L u.2.2.2.1 fp fo lp u.2.2.2.2.1 u.2.2.2.2.2 ea la eA lA) (sw_B D vwCl (tyX kc) (va_A (wX o ad kc Sz St Ct T L lk fp fo lp dn ac ea la ne nl eA lA) sz) (fun u : (Nat → Nat) × (Nat → Nat) × (Nat → Nat) × Nat × Nat × Nat => wX o ad kc (u.1) (u.2.1) (u.2.2.1) T L (u.2.2.2.1) fp fo lp (u.2.2.2.2.1) (u.2.2.2.2.2) ea la ne nl eA lA)) (va_A (wX o ad kc Sz St Ct T L lk fp fo lp dn ac ea la ne nl eA lA) sz)) 0 0 (va_A (wX o ad kc Sz St Ct T L lk fp fo lp dn ac ea la ne nl eA lA) sz) := sw_metI (by decide) (Nat.le_of_ble_eq_true rfl) (fun p e s m below meth c Q ls A S hK hP hD hA hl ret => bX0_item S (Nat.le_refl _) (Nat.le_refl _) hK hP hD va_S.rf hA hlzp huzp hlzs huzs hlzc huzc hO hCa ret hl) sz
set_option maxHeartbeats 4000000 in
set_option maxRecDepth 100000 in
theorem bX0_drop {D : va_G} {o : Nat} {ad : Nat → Nat} {kc : Nat → ClassId} {Sz : Nat → Nat} {St : Nat → Nat} {Ct : Nat → Nat} {T : Nat → Nat} {L : Nat} {lk : Nat} {fp : Nat} {fo : Nat → Nat} {lp : Nat} {dn : Nat} {ac : Nat} {ea : Nat → Nat} {la : Nat → Int} {ne : Nat → Nat} {nl : Nat → Int} {eA : Nat → Int} {lA : Nat → Int} {zp : Int} (S : CallFix p m c cX0_drop 2 s args lw_all RX0) (hRf : 2 ≤ R.frames) (hRl : 40 ≤ R.locals) (hK : va_K D vwCl (tyX kc) s) (hP : va_P D vwCl (wX o ad kc Sz St Ct T L lk fp fo lp dn ac ea la ne nl eA lA) H) (hD : va_D A (wX o ad kc Sz St Ct T L lk fp fo lp dn ac ea la ne nl eA lA)) (hS : va_S A H0 H locs) (hA : ∀ q, H0.size ≤ q → A q) (hlzp : -2147483648 ≤ zp) (huzp : zp < 2147483648) (hO : sw_Ok Sz St Ct T L) (hCa : sw_Ca Sz St Ct T L lk fp fo lp dn ac ea la eA lA) (ret : ∀ (pc : Nat) (ls : Array Slot) (r : Int32) (u : (Nat → Nat) × Nat × Nat × Nat) (H1 : Heap) (locs1 : List Loc), decode cX0_drop pc = .ok (.ireturn, 1) → (sw_drp zp Sz r u.1 ∧ sw_Ca u.1 St Ct T L u.2.1 fp fo lp u.2.2.1 u.2.2.2 ea la eA lA) → va_P D vwCl ((fun u : (Nat → Nat) × Nat × Nat × Nat => wX o ad kc (u.1) St Ct T L (u.2.1) fp fo lp (u.2.2.1) (u.2.2.2) ea la ne nl eA lA) u) H1 → va_D A ((fun u : (Nat → Nat) × Nat × Nat × Nat => wX o ad kc (u.1) St Ct T L (u.2.1) fp fo lp (u.2.2.1) (u.2.2.2) ea la ne nl eA lA) u) → va_S A H0 H1 locs1 → W p l e R s m args below meth c H1 locs1 0 0 Q (F0 m pc ls [.int r])) (hl : lv_has ls 2 [(0, .ref (o)), (1, .int (zI (zp)))]) : W p l e R s m args below meth c H locs 0 0 Q (F0 m 0 ls []) := by
  have hx := S.1
  have hb := S.2.1
  have hown := S.2.2.2.1
  have hts := S.2.2.2.2
  obtain ⟨hs, ht, hc, hT, hL⟩ := hO
  refine lv_iload_n hx hb dX0_drop_0 rfl (lv_at hl 1 rfl) ?_
  refine sw_csR (As := [.int (zI (zp))]) (rest := []) S (mX0_isPattern l hlzp huzp) (va_cwS 1 hts (lw_S q88 q89 q20 q90) rfl rfl rfl (by decide +kernel) ⟨Nat.le_trans (Nat.le_of_ble_eq_true rfl) hRf, Nat.le_trans (Nat.le_of_ble_eq_true rfl) hRl⟩) rfl hl.1 rfl (Nat.le_of_ble_eq_true rfl) dX0_drop_1 ⟨Nat.zero_le _, Nat.zero_le _⟩ (fun r hr => ?_)
  rcases hr with ⟨rfl, hr1⟩ | ⟨rfl, hr1⟩
  · obtain ⟨pn, rfl⟩ := Int.eq_ofNat_of_zero_le hr1.1
    have hl : lv_has ls 2 [(0, .ref (o)), (1, .int (nI (pn)))] := by rw [show zI ((pn : Int)) = nI (pn) from zI_n pn] at hl; exact hl
    have hsp := hs pn
    refine sw_ifeq (tgt := 16) hx hb dX0_drop_4 (by decide) (by decide) (fun q => absurd q (by decide)) (fun _ => ?_)
    refine lv_aload_n hx hb dX0_drop_7 rfl (lv_at hl 0 rfl) ?_
    refine va_get (D := D) (ci := 0) (v := .ref (ad 0)) (C := RX0) (T := TX0) (N := 17) hx hb hts in_X0 hown hK hP 0 rfl rfl 0 (by decide) (hts _ q30) (fun _ h9 => h9) rfl dX0_drop_8 ?_
    refine lv_iload_n hx hb dX0_drop_11 rfl (lv_at hl 1 rfl) ?_
    refine sw_bld hx hb hK hP 1 0 rfl rfl (by omega) (by decide) (v := nI (Sz pn)) rfl dX0_drop_12 ?_
    refine sw_ifne (tgt := 18) hx hb dX0_drop_13 (by decide) (by omega) (fun h13 => ?_) (fun h13 => ?_)
    · refine lv_aload_n hx hb dX0_drop_18 rfl (lv_at hl 0 rfl) ?_
      refine va_get (D := D) (ci := 0) (v := .ref (ad 0)) (C := RX0) (T := TX0) (N := 17) hx hb hts in_X0 hown hK hP 0 rfl rfl 0 (by decide) (hts _ q30) (fun _ h9 => h9) rfl dX0_drop_19 ?_
      refine lv_iload_n hx hb dX0_drop_22 rfl (lv_at hl 1 rfl) ?_
      refine lv_dup2_11 hx hb dX0_drop_23 rfl rfl ?_
      refine sw_bld hx hb hK hP 1 0 rfl rfl (by omega) (by decide) (v := nI (Sz pn)) rfl dX0_drop_24 ?_
      refine lv_iconst (v := nI (1)) hx hb dX0_drop_25 (by decide) ?_
      refine sw_sub hx hb dX0_drop_26 (by omega) ?_
      refine lv_i2b (v := nI ((Sz pn) - 1)) hx hb dX0_drop_27 (sw_byN _ (by omega)) ?_
      refine sw_bst hx hb hK hP hD hS 1 0 rfl rfl (by omega) (by decide) (sw_naN (by omega)) (sw_updN _ _ _) dX0_drop_28 (fun H locs hP hD hS => ?_)
      have hP : va_P D vwCl (wX o ad kc (va_up Sz pn ((Sz pn) - 1)) St Ct T L lk fp fo lp dn ac ea la ne nl eA lA) H := hP
      have hD : va_D A (wX o ad kc (va_up Sz pn ((Sz pn) - 1)) St Ct T L lk fp fo lp dn ac ea la ne nl eA lA) := hD
      refine lv_aload_n hx hb dX0_drop_29 rfl (lv_at hl 0 rfl) ?_
      refine sw_cvV (As := []) (rest := []) (C := RX0) (ci := 0) (q0 := 0) S (fun sz => (mX0_patternsChanged l  sz)) (cwV 0 hts (lw_V q91 q93 qs0 q20 q94) rfl rfl rfl (by decide +kernel) ⟨Nat.le_trans (Nat.le_of_ble_eq_true rfl) hRf, Nat.le_trans (Nat.le_of_ble_eq_true rfl) hRl⟩) hK hP hD hS hA rfl rfl rfl rfl hl.1 rfl (Nat.le_of_ble_eq_true rfl) dX0_drop_30 ⟨Nat.zero_le _, Nat.zero_le _⟩ (fun u H locs hr hP hD hS => ?_)
      have hP : va_P D vwCl (wX o ad kc (va_up Sz pn ((Sz pn) - 1)) St Ct T L 0 fp fo lp 0 0 ea la ne nl eA lA) H := hP
      have hD : va_D A (wX o ad kc (va_up Sz pn ((Sz pn) - 1)) St Ct T L 0 fp fo lp 0 0 ea la ne nl eA lA) := hD
      refine lv_aload_n hx hb dX0_drop_33 rfl (lv_at hl 0 rfl) ?_
      refine va_get (D := D) (ci := 0) (v := .ref (ad 0)) (C := RX0) (T := TX0) (N := 17) hx hb hts in_X0 hown hK hP 0 rfl rfl 0 (by decide) (hts _ q30) (fun _ h9 => h9) rfl dX0_drop_34 ?_
      refine lv_iload_n hx hb dX0_drop_37 rfl (lv_at hl 1 rfl) ?_
      refine sw_bld hx hb hK hP 1 0 rfl rfl (by omega) (by decide) (v := nI ((va_up Sz pn ((Sz pn) - 1)) pn)) rfl dX0_drop_38 ?_
      refine sw_top (y := nI ((Sz pn - 1))) (congrArg nI (sw_us _ _ _)) ?_
      exact ret _ _ _ (va_up Sz pn ((Sz pn) - 1), 0, 0, 0) _ _ dX0_drop_39 (⟨Or.inr ⟨pn, rfl, by omega, Or.inr ⟨h13, rfl, rfl⟩⟩, sw_Ca_0 (Or.inl rfl)⟩) hP hD hS
    · refine lv_iconst (v := zI (-1)) hx hb dX0_drop_16 (by decide) ?_
      exact ret _ _ _ (Sz, lk, dn, ac) _ _ dX0_drop_17 (⟨by first | exact Or.inl ⟨hr1, rfl, rfl⟩ | exact Or.inr ⟨pn, rfl, by omega, Or.inl ⟨h13, rfl, rfl⟩⟩, hCa⟩) hP hD hS
  · refine sw_ifeq (tgt := 16) hx hb dX0_drop_4 (by decide) (by decide) (fun _ => ?_) (fun q => absurd rfl q)
    refine lv_iconst (v := zI (-1)) hx hb dX0_drop_16 (by decide) ?_
    exact ret _ _ _ (Sz, lk, dn, ac) _ _ dX0_drop_17 (⟨by first | exact Or.inl ⟨hr1, rfl, rfl⟩ | exact Or.inr ⟨pn, rfl, by omega, Or.inl ⟨h13, rfl, rfl⟩⟩, hCa⟩) hP hD hS
set_option maxRecDepth 100000 in
theorem mX0_drop (l : Launch) {D : va_G} {o : Nat} {ad : Nat → Nat} {kc : Nat → ClassId} {Sz : Nat → Nat} {St : Nat → Nat} {Ct : Nat → Nat} {T : Nat → Nat} {L : Nat} {lk : Nat} {fp : Nat} {fo : Nat → Nat} {lp : Nat} {dn : Nat} {ac : Nat} {ea : Nat → Nat} {la : Nat → Int} {ne : Nat → Nat} {nl : Nat → Int} {eA : Nat → Int} {lA : Nat → Int} {zp : Int} (hlzp : -2147483648 ≤ zp) (huzp : zp < 2147483648) (hO : sw_Ok Sz St Ct T L) (hCa : sw_Ca Sz St Ct T L lk fp fo lp dn ac ea la eA lA) (sz : Nat) : Met l yX0_drop (ws_ yX0_drop cX0_drop 2 (some .int)) ({ frames := 2, cells := 0, slots := 0, locals := 40 }) (sw_M D vwCl (wX o ad kc Sz St Ct T L lk fp fo lp dn ac ea la ne nl eA lA) (tyX kc) sz [.ref o, .int (zI (zp))]) (va_Qi (fun (r : Int32) (u : (Nat → Nat) × Nat × Nat × Nat) => sw_drp zp Sz r u.1 ∧ sw_Ca u.1 St Ct T L u.2.1 fp fo lp u.2.2.1 u.2.2.2 ea la eA lA) (sw_B D vwCl (tyX kc) (va_A (wX o ad kc Sz St Ct T L lk fp fo lp dn ac ea la ne nl eA lA) sz) (fun u : (Nat → Nat) × Nat × Nat × Nat => wX o ad kc (u.1) St Ct T L (u.2.1) fp fo lp (u.2.2.1) (u.2.2.2) ea la ne nl eA lA)) (va_A (wX o ad kc Sz St Ct T L lk fp fo lp dn ac ea la ne nl eA lA) sz)) 0 0 (va_A (wX o ad kc Sz St Ct T L lk fp fo lp dn ac ea la ne nl eA lA) sz) := sw_metI (by decide) (Nat.le_of_ble_eq_true rfl) (fun p e s m below meth c Q ls A S hK hP hD hA hl ret => bX0_drop S (Nat.le_refl _) (Nat.le_refl _) hK hP hD va_S.rf hA hlzp huzp hO hCa ret hl) sz
set_option maxHeartbeats 4000000 in
set_option maxRecDepth 100000 in
theorem bX0_link {D : va_G} {o : Nat} {ad : Nat → Nat} {kc : Nat → ClassId} {Sz : Nat → Nat} {St : Nat → Nat} {Ct : Nat → Nat} {T : Nat → Nat} {L : Nat} {lk : Nat} {fp : Nat} {fo : Nat → Nat} {lp : Nat} {dn : Nat} {ac : Nat} {ea : Nat → Nat} {la : Nat → Int} {ne : Nat → Nat} {nl : Nat → Int} {eA : Nat → Int} {lA : Nat → Int} (S : CallFix p m c cX0_link 5 s args lw_all RX0) (hRf : 2 ≤ R.frames) (hRl : 46 ≤ R.locals) (hK : va_K D vwCl (tyX kc) s) (hP : va_P D vwCl (wX o ad kc Sz St Ct T L lk fp fo lp dn ac ea la ne nl eA lA) H) (hD : va_D A (wX o ad kc Sz St Ct T L lk fp fo lp dn ac ea la ne nl eA lA)) (hS : va_S A H0 H locs) (hA : ∀ q, H0.size ≤ q → A q) (hs : ∀ j, Sz j ≤ 6) (hc : ∀ i, Ct i ≤ 3) (hlk : lk = 0 ∨ (lk = 1 ∧ sw_Lk Sz Ct fp fo lp)) (ret : ∀ (pc : Nat) (ls : Array Slot) (u : Nat × Nat × (Nat → Nat) × Nat) (H1 : Heap) (locs1 : List Loc), decode cX0_link pc = .ok (.return_, 1) → (u.1 = 1 ∧ sw_Lk Sz Ct u.2.1 u.2.2.1 u.2.2.2) → va_P D vwCl ((fun u : Nat × Nat × (Nat → Nat) × Nat => wX o ad kc Sz St Ct T L (u.1) (u.2.1) (u.2.2.1) (u.2.2.2) dn ac ea la ne nl eA lA) u) H1 → va_D A ((fun u : Nat × Nat × (Nat → Nat) × Nat => wX o ad kc Sz St Ct T L (u.1) (u.2.1) (u.2.2.1) (u.2.2.2) dn ac ea la ne nl eA lA) u) → va_S A H0 H1 locs1 → W p l e R s m args below meth c H1 locs1 0 0 Q (F0 m pc ls [])) (hl : lv_has ls 5 [(0, .ref (o))]) : W p l e R s m args below meth c H locs 0 0 Q (F0 m 0 ls []) := by
  have hx := S.1
  have hb := S.2.1
  have hown := S.2.2.2.1
  have hts := S.2.2.2.2
  refine lv_aload_n hx hb dX0_link_0 rfl (lv_at hl 0 rfl) ?_
  refine va_get (D := D) (ci := 0) (v := .int (nI (lk))) (C := RX0) (T := TX0) (N := 17) hx hb hts in_X0 hown hK hP 0 rfl rfl 5 (by decide) (hts _ q35) (fun _ h9 => h9) rfl dX0_link_1 ?_
  refine sw_ifeq (tgt := 8) hx hb dX0_link_4 (by decide) (by omega) (fun h4 => ?_) (fun h4 => ?_)
  · refine lv_aload_n hx hb dX0_link_8 rfl (lv_at hl 0 rfl) ?_
    refine lv_iconst (v := nI (1)) hx hb dX0_link_9 (by decide) ?_
    refine va_put (D := D) (ci := 0) (v := .int (nI (1))) (ty := .boolean) (C := RX0) (T := TX0) (N := 17) hx hb hts in_X0 tyX0 tyX0_ok nmX0 hown hK hP hD hS 0 rfl rfl 5 (by decide) (hts _ q35) (fun _ h9 => h9) rfl (by decide +kernel) (sw_nzB' _ (by decide)) rfl (Nat.le_of_ble_eq_true rfl) dX0_link_10 (fun H locs hP hD hS => ?_)
    have hP : va_P D vwCl (wX o ad kc Sz St Ct T L 1 fp fo lp dn ac ea la ne nl eA lA) H := hP
    have hD : va_D A (wX o ad kc Sz St Ct T L 1 fp fo lp dn ac ea la ne nl eA lA) := hD
    refine lv_aload_n hx hb dX0_link_13 rfl (lv_at hl 0 rfl) ?_
    refine lv_iconst (v := nI (0)) hx hb dX0_link_14 (by decide) ?_
    refine va_put (D := D) (ci := 0) (v := .int (nI (0))) (ty := .int) (C := RX0) (T := TX0) (N := 17) hx hb hts in_X0 tyX0 tyX0_ok nmX0 hown hK hP hD hS 0 rfl rfl 6 (by decide) (hts _ q36) (fun _ h9 => h9) rfl (by decide +kernel) rfl rfl (Nat.le_of_ble_eq_true rfl) dX0_link_15 (fun H locs hP hD hS => ?_)
    have hP : va_P D vwCl (wX o ad kc Sz St Ct T L 1 0 fo lp dn ac ea la ne nl eA lA) H := hP
    have hD : va_D A (wX o ad kc Sz St Ct T L 1 0 fo lp dn ac ea la ne nl eA lA) := hD
    refine lv_aload_n hx hb dX0_link_18 rfl (lv_at hl 0 rfl) ?_
    refine lv_iconst (v := nI (0)) hx hb dX0_link_19 (by decide) ?_
    refine va_put (D := D) (ci := 0) (v := .int (nI (0))) (ty := .int) (C := RX0) (T := TX0) (N := 17) hx hb hts in_X0 tyX0 tyX0_ok nmX0 hown hK hP hD hS 0 rfl rfl 8 (by decide) (hts _ q38) (fun _ h9 => h9) rfl (by decide +kernel) rfl rfl (Nat.le_of_ble_eq_true rfl) dX0_link_20 (fun H locs hP hD hS => ?_)
    have hP : va_P D vwCl (wX o ad kc Sz St Ct T L 1 0 fo 0 dn ac ea la ne nl eA lA) H := hP
    have hD : va_D A (wX o ad kc Sz St Ct T L 1 0 fo 0 dn ac ea la ne nl eA lA) := hD
    refine lv_iconst (v := nI (0)) hx hb dX0_link_23 (by decide) ?_
    refine lv_istore_n (lv' := [(1, .int (nI (0))), (0, .ref (o))]) hx hb dX0_link_24 rfl hl (by decide) rfl (fun ls hl => ?_)
    have L25 : ∀ (n : Nat) (pn : Nat) (f1 : Nat) (g1 : Nat → Nat) (l1 : Nat), (pn ≤ 4) → (sw_lkP Sz Ct (pn * 6) f1) → (sw_lkF Sz Ct (pn * 6) g1) → (sw_lkL Sz Ct (pn * 6) l1) → 4 - pn < n → ∀ (H : Heap) (locs : List Loc), va_P D vwCl (wX o ad kc Sz St Ct T L 1 f1 g1 l1 dn ac ea la ne nl eA lA) H → va_D A (wX o ad kc Sz St Ct T L 1 f1 g1 l1 dn ac ea la ne nl eA lA) → va_S A H0 H locs → ∀ (ls : Array Slot), lv_has ls 5 [(0, .ref (o)), (1, .int (nI (pn)))] → W p l e R s m args below meth c H locs 0 0 Q (F0 m 25 ls []) := by
      intro n
      induction n with
      | zero => intro pn f1 g1 l1 _ _ _ _ hm; exact absurd hm (Nat.not_lt_zero _)
      | succ n ihL25 =>
        intro pn f1 g1 l1 hp hIP hIF hIL hmL25 H locs hP hD hS ls hl
        refine lv_iload_n hx hb dX0_link_25 rfl (lv_at hl 1 rfl) ?_
        refine lv_iconst (v := nI (4)) hx hb dX0_link_26 (by decide) ?_
        refine sw_cge (tgt := 134) hx hb dX0_link_27 (by decide) (by omega) (by omega) (fun h27 => ?_) (fun h27 => ?_)
        · exact ret _ _ (1, f1, g1, l1) _ _ dX0_link_134 (⟨rfl, by rw [show pn = 4 by omega] at hIP hIF hIL; exact sw_Lk_of hIP hIF hIL⟩) hP hD hS
        · have hsp := hs pn
          refine lv_aload_n hx hb dX0_link_30 rfl (lv_at hl 0 rfl) ?_
          refine lv_dup hx hb dX0_link_31 rfl ?_
          refine va_get (D := D) (ci := 0) (v := .int (nI (f1))) (C := RX0) (T := TX0) (N := 17) hx hb hts in_X0 hown hK hP 0 rfl rfl 6 (by decide) (hts _ q36) (fun _ h9 => h9) rfl dX0_link_32 ?_
          refine lv_aload_n hx hb dX0_link_35 rfl (lv_at hl 0 rfl) ?_
          refine lv_iload_n hx hb dX0_link_36 rfl (lv_at hl 1 rfl) ?_
          refine lv_iconst (v := nI (0)) hx hb dX0_link_37 (by decide) ?_
          refine sw_cvR (As := [.int (nI (pn)), .int (nI (0))]) (rest := [.int (nI (f1)), .ref (o)]) (C := RX0) (ci := 0) (q0 := 0) S (mX0_openFrom l h27 (by omega) hs hc) (cwV 2 hts (lw_V q127 q129 qs5 q20 q130) rfl rfl rfl (by decide +kernel) ⟨Nat.le_trans (Nat.le_of_ble_eq_true rfl) hRf, Nat.le_trans (Nat.le_of_ble_eq_true rfl) hRl⟩) hK hP rfl rfl rfl rfl hl.1 rfl (Nat.le_of_ble_eq_true rfl) dX0_link_38 ⟨Nat.zero_le _, Nat.zero_le _⟩ (fun r hr => ?_)
          obtain ⟨y, rfl, hy⟩ := hr
          refine sw_or hx hb dX0_link_41 ?_
          refine va_put (D := D) (ci := 0) (v := .int (nI (f1 ||| y))) (ty := .int) (C := RX0) (T := TX0) (N := 17) hx hb hts in_X0 tyX0 tyX0_ok nmX0 hown hK hP hD hS 0 rfl rfl 6 (by decide) (hts _ q36) (fun _ h9 => h9) rfl (by decide +kernel) rfl rfl (Nat.le_of_ble_eq_true rfl) dX0_link_42 (fun H locs hP hD hS => ?_)
          have hP : va_P D vwCl (wX o ad kc Sz St Ct T L 1 (f1 ||| y) g1 l1 dn ac ea la ne nl eA lA) H := hP
          have hD : va_D A (wX o ad kc Sz St Ct T L 1 (f1 ||| y) g1 l1 dn ac ea la ne nl eA lA) := hD
          have hIP2 := sw_lkP_s h27 hsp hy hIP
          refine lv_iconst (v := nI (0)) hx hb dX0_link_45 (by decide) ?_
          refine lv_istore_n (lv' := [(2, .int (nI (0))), (0, .ref (o)), (1, .int (nI (pn)))]) hx hb dX0_link_46 rfl hl (by decide) rfl (fun ls hl => ?_)
          have L47 : ∀ (n : Nat) (kn : Nat) (g2 : Nat → Nat) (l2 : Nat), (kn ≤ Sz pn) → (sw_lkF Sz Ct (pn * 6 + kn) g2) → (sw_lkL Sz Ct (pn * 6 + kn) l2) → Sz pn - kn < n → ∀ (H : Heap) (locs : List Loc), va_P D vwCl (wX o ad kc Sz St Ct T L 1 (f1 ||| y) g2 l2 dn ac ea la ne nl eA lA) H → va_D A (wX o ad kc Sz St Ct T L 1 (f1 ||| y) g2 l2 dn ac ea la ne nl eA lA) → va_S A H0 H locs → ∀ (ls : Array Slot), lv_has ls 5 [(0, .ref (o)), (1, .int (nI (pn))), (2, .int (nI (kn)))] → W p l e R s m args below meth c H locs 0 0 Q (F0 m 47 ls []) := by
            intro n
            induction n with
            | zero => intro kn g2 l2 _ _ _ hm; exact absurd hm (Nat.not_lt_zero _)
            | succ n ihL47 =>
              intro kn g2 l2 hk hIF2 hIL2 hmL47 H locs hP hD hS ls hl
              refine lv_iload_n hx hb dX0_link_47 rfl (lv_at hl 2 rfl) ?_
              refine lv_aload_n hx hb dX0_link_48 rfl (lv_at hl 0 rfl) ?_
              refine va_get (D := D) (ci := 0) (v := .ref (ad 0)) (C := RX0) (T := TX0) (N := 17) hx hb hts in_X0 hown hK hP 0 rfl rfl 0 (by decide) (hts _ q30) (fun _ h9 => h9) rfl dX0_link_49 ?_
              refine lv_iload_n hx hb dX0_link_52 rfl (lv_at hl 1 rfl) ?_
              refine sw_bld hx hb hK hP 1 0 rfl rfl (by omega) (by decide) (v := nI (Sz pn)) rfl dX0_link_53 ?_
              refine sw_cge (tgt := 128) hx hb dX0_link_54 (by decide) (by omega) (by omega) (fun h54 => ?_) (fun h54 => ?_)
              · refine lv_iinc (k := 1) (v := nI (pn + 1)) (lv' := [(1, .int (nI (pn + 1))), (0, .ref (o)), (2, .int (nI (kn)))]) hx hb dX0_link_128 hl rfl (nI_add _ 1) (by decide) rfl (fun ls hl => ?_)
                refine lv_goto (tgt := 25) hx hb dX0_link_131 (by decide) ?_
                exact ihL25 (pn + 1) (f1 ||| y) (g2) (l2) (by omega) hIP2 (sw_lkF_e h54 hIF2) (sw_lkL_e hsp h54 hk hIL2) (by omega) _ _ hP hD hS _ (lv_sub hl [1, 0] rfl)
              · refine lv_iload_n hx hb dX0_link_57 rfl (lv_at hl 1 rfl) ?_
                refine lv_bipush (v := nI (6)) hx hb dX0_link_58 (by decide) ?_
                refine sw_mul hx hb dX0_link_60 ?_
                refine lv_iload_n hx hb dX0_link_61 rfl (lv_at hl 2 rfl) ?_
                refine sw_add hx hb dX0_link_62 ?_
                refine lv_istore_n (lv' := [(3, .int (nI ((pn * 6) + kn))), (0, .ref (o)), (1, .int (nI (pn))), (2, .int (nI (kn)))]) hx hb dX0_link_63 rfl hl (by decide) rfl (fun ls hl => ?_)
                refine lv_aload_n hx hb dX0_link_64 rfl (lv_at hl 1 rfl) ?_
                refine lv_iload_n hx hb dX0_link_65 rfl (lv_at hl 2 rfl) ?_
                refine lv_iload_n hx hb dX0_link_66 rfl (lv_at hl 3 rfl) ?_
                refine lv_iconst (v := nI (1)) hx hb dX0_link_67 (by decide) ?_
                refine sw_add hx hb dX0_link_68 ?_
                refine sw_cvR (As := [.int (nI (pn)), .int (nI (kn + 1))]) (rest := []) (C := RX0) (ci := 0) (q0 := 0) S (mX0_openFrom l h27 (by omega) hs hc) (cwV 2 hts (lw_V q127 q129 qs5 q20 q130) rfl rfl rfl (by decide +kernel) ⟨Nat.le_trans (Nat.le_of_ble_eq_true rfl) hRf, Nat.le_trans (Nat.le_of_ble_eq_true rfl) hRl⟩) hK hP rfl rfl rfl rfl hl.1 rfl (Nat.le_of_ble_eq_true rfl) dX0_link_69 ⟨Nat.zero_le _, Nat.zero_le _⟩ (fun r hr => ?_)
                obtain ⟨z, rfl, hz⟩ := hr
                refine lv_istore (lv' := [(4, .int (nI (z))), (3, .int (nI ((pn * 6) + kn))), (0, .ref (o)), (1, .int (nI (pn))), (2, .int (nI (kn)))]) hx hb dX0_link_72 hl (by decide) rfl (fun ls hl => ?_)
                refine lv_aload_n hx hb dX0_link_74 rfl (lv_at hl 2 rfl) ?_
                refine va_get (D := D) (ci := 0) (v := .ref (ad 4)) (C := RX0) (T := TX0) (N := 17) hx hb hts in_X0 hown hK hP 0 rfl rfl 7 (by decide) (hts _ q37) (fun _ h9 => h9) rfl dX0_link_75 ?_
                refine lv_iload_n hx hb dX0_link_78 rfl (lv_at hl 1 rfl) ?_
                refine lv_aload_n hx hb dX0_link_79 rfl (lv_at hl 2 rfl) ?_
                refine lv_iload_n hx hb dX0_link_80 rfl (lv_at hl 1 rfl) ?_
                refine sw_cvR (As := [.int (nI ((pn * 6) + kn))]) (rest := [.int (nI ((pn * 6) + kn)), .ref (ad 4)]) (C := RX0) (ci := 0) (q0 := 0) S (mX0_repeats l (by omega) hc) (cwV 1 hts (lw_V q135 q137 qs7 q20 q138) rfl rfl rfl (by decide +kernel) ⟨Nat.le_trans (Nat.le_of_ble_eq_true rfl) hRf, Nat.le_trans (Nat.le_of_ble_eq_true rfl) hRl⟩) hK hP rfl rfl rfl rfl hl.1 rfl (Nat.le_of_ble_eq_true rfl) dX0_link_81 ⟨Nat.zero_le _, Nat.zero_le _⟩ (fun r hr => ?_)
                rcases hr with ⟨rfl, hr81⟩ | ⟨rfl, hr81⟩
                · have hF3 := sw_lkF_s1 h27 hsp h54 hz hr81 hIF2
                  refine sw_ifeq (tgt := 96) hx hb dX0_link_84 (by decide) (by decide) (fun q => absurd q (by decide)) (fun _ => ?_)
                  refine lv_iload hx hb dX0_link_87 (lv_at hl 0 rfl) ?_
                  refine lv_iconst (v := nI (1)) hx hb dX0_link_89 (by decide) ?_
                  refine lv_iload_n hx hb dX0_link_90 rfl (lv_at hl 1 rfl) ?_
                  refine sw_shl hx hb dX0_link_91 (by omega) (sw_sh (by omega) (by omega)) ?_
                  refine sw_or hx hb dX0_link_92 ?_
                  refine lv_goto (tgt := 98) hx hb dX0_link_93 (by decide) ?_
                  refine sw_ist hx hb hK hP hD hS 5 4 rfl rfl (by omega) (by decide) rfl (sw_updN _ _ _) dX0_link_98 (fun H locs hP hD hS => ?_)
                  have hP : va_P D vwCl (wX o ad kc Sz St Ct T L 1 (f1 ||| y) (va_up g2 ((pn * 6) + kn) (z ||| (1 * 2 ^ ((pn * 6) + kn)))) l2 dn ac ea la ne nl eA lA) H := hP
                  have hD : va_D A (wX o ad kc Sz St Ct T L 1 (f1 ||| y) (va_up g2 ((pn * 6) + kn) (z ||| (1 * 2 ^ ((pn * 6) + kn)))) l2 dn ac ea la ne nl eA lA) := hD
                  refine lv_aload_n hx hb dX0_link_99 rfl (lv_at hl 2 rfl) ?_
                  refine lv_iload_n hx hb dX0_link_100 rfl (lv_at hl 3 rfl) ?_
                  refine lv_iload_n hx hb dX0_link_101 rfl (lv_at hl 4 rfl) ?_
                  refine lv_iconst (v := nI (1)) hx hb dX0_link_102 (by decide) ?_
                  refine sw_add hx hb dX0_link_103 ?_
                  refine sw_cvR (As := [.int (nI (pn)), .int (nI (kn + 1))]) (rest := []) (C := RX0) (ci := 0) (q0 := 0) S (mX0_emptyFrom l h27 (by omega) hs hc) (cwV 2 hts (lw_V q139 q141 qs8 q20 q142) rfl rfl rfl (by decide +kernel) ⟨Nat.le_trans (Nat.le_of_ble_eq_true rfl) hRf, Nat.le_trans (Nat.le_of_ble_eq_true rfl) hRl⟩) hK hP rfl rfl rfl rfl hl.1 rfl (Nat.le_of_ble_eq_true rfl) dX0_link_104 ⟨Nat.zero_le _, Nat.zero_le _⟩ (fun r hr => ?_)
                  rcases hr with ⟨rfl, hr104⟩ | ⟨rfl, hr104⟩
                  · have hL3 := sw_lkL_s1 h27 hsp h54 hr104 hIL2
                    refine sw_ifeq (tgt := 122) hx hb dX0_link_107 (by decide) (by decide) (fun q => absurd q (by decide)) (fun _ => ?_)
                    refine lv_aload_n hx hb dX0_link_110 rfl (lv_at hl 2 rfl) ?_
                    refine lv_dup hx hb dX0_link_111 rfl ?_
                    refine va_get (D := D) (ci := 0) (v := .int (nI (l2))) (C := RX0) (T := TX0) (N := 17) hx hb hts in_X0 hown hK hP 0 rfl rfl 8 (by decide) (hts _ q38) (fun _ h9 => h9) rfl dX0_link_112 ?_
                    refine lv_iconst (v := nI (1)) hx hb dX0_link_115 (by decide) ?_
                    refine lv_iload_n hx hb dX0_link_116 rfl (lv_at hl 1 rfl) ?_
                    refine sw_shl hx hb dX0_link_117 (by omega) (sw_sh (by omega) (by omega)) ?_
                    refine sw_or hx hb dX0_link_118 ?_
                    refine va_put (D := D) (ci := 0) (v := .int (nI (l2 ||| (1 * 2 ^ ((pn * 6) + kn))))) (ty := .int) (C := RX0) (T := TX0) (N := 17) hx hb hts in_X0 tyX0 tyX0_ok nmX0 hown hK hP hD hS 0 rfl rfl 8 (by decide) (hts _ q38) (fun _ h9 => h9) rfl (by decide +kernel) rfl rfl (Nat.le_of_ble_eq_true rfl) dX0_link_119 (fun H locs hP hD hS => ?_)
                    have hP : va_P D vwCl (wX o ad kc Sz St Ct T L 1 (f1 ||| y) (va_up g2 ((pn * 6) + kn) (z ||| (1 * 2 ^ ((pn * 6) + kn)))) (l2 ||| (1 * 2 ^ ((pn * 6) + kn))) dn ac ea la ne nl eA lA) H := hP
                    have hD : va_D A (wX o ad kc Sz St Ct T L 1 (f1 ||| y) (va_up g2 ((pn * 6) + kn) (z ||| (1 * 2 ^ ((pn * 6) + kn)))) (l2 ||| (1 * 2 ^ ((pn * 6) + kn))) dn ac ea la ne nl eA lA) := hD
                    refine lv_iinc (k := 4) (v := nI (kn + 1)) (lv' := [(2, .int (nI (kn + 1))), (4, .int (nI (z))), (3, .int (nI ((pn * 6) + kn))), (0, .ref (o)), (1, .int (nI (pn)))]) hx hb dX0_link_122 hl rfl (nI_add _ 1) (by decide) rfl (fun ls hl => ?_)
                    refine lv_goto (tgt := 47) hx hb dX0_link_125 (by decide) ?_
                    exact ihL47 (kn + 1) (va_up g2 ((pn * 6) + kn) (z ||| (1 * 2 ^ ((pn * 6) + kn)))) (l2 ||| (1 * 2 ^ ((pn * 6) + kn))) (by omega) hF3 hL3 (by omega) _ _ hP hD hS _ (lv_sub hl [3, 4, 0] rfl)
                  · have hL3 := sw_lkL_s0 h27 hsp h54 hr104 hIL2
                    refine sw_ifeq (tgt := 122) hx hb dX0_link_107 (by decide) (by decide) (fun _ => ?_) (fun q => absurd rfl q)
                    refine lv_iinc (k := 4) (v := nI (kn + 1)) (lv' := [(2, .int (nI (kn + 1))), (4, .int (nI (z))), (3, .int (nI ((pn * 6) + kn))), (0, .ref (o)), (1, .int (nI (pn)))]) hx hb dX0_link_122 hl rfl (nI_add _ 1) (by decide) rfl (fun ls hl => ?_)
                    refine lv_goto (tgt := 47) hx hb dX0_link_125 (by decide) ?_
                    exact ihL47 (kn + 1) (va_up g2 ((pn * 6) + kn) (z ||| (1 * 2 ^ ((pn * 6) + kn)))) (l2) (by omega) hF3 hL3 (by omega) _ _ hP hD hS _ (lv_sub hl [3, 4, 0] rfl)
                · have hF3 := sw_lkF_s0 h27 hsp h54 hz hr81 hIF2
                  refine sw_ifeq (tgt := 96) hx hb dX0_link_84 (by decide) (by decide) (fun _ => ?_) (fun q => absurd rfl q)
                  refine lv_iload hx hb dX0_link_96 (lv_at hl 0 rfl) ?_
                  refine sw_ist hx hb hK hP hD hS 5 4 rfl rfl (by omega) (by decide) rfl (sw_updN _ _ _) dX0_link_98 (fun H locs hP hD hS => ?_)
                  have hP : va_P D vwCl (wX o ad kc Sz St Ct T L 1 (f1 ||| y) (va_up g2 ((pn * 6) + kn) z) l2 dn ac ea la ne nl eA lA) H := hP
                  have hD : va_D A (wX o ad kc Sz St Ct T L 1 (f1 ||| y) (va_up g2 ((pn * 6) + kn) z) l2 dn ac ea la ne nl eA lA) := hD
                  refine lv_aload_n hx hb dX0_link_99 rfl (lv_at hl 2 rfl) ?_
                  refine lv_iload_n hx hb dX0_link_100 rfl (lv_at hl 3 rfl) ?_
                  refine lv_iload_n hx hb dX0_link_101 rfl (lv_at hl 4 rfl) ?_
                  refine lv_iconst (v := nI (1)) hx hb dX0_link_102 (by decide) ?_
                  refine sw_add hx hb dX0_link_103 ?_
                  refine sw_cvR (As := [.int (nI (pn)), .int (nI (kn + 1))]) (rest := []) (C := RX0) (ci := 0) (q0 := 0) S (mX0_emptyFrom l h27 (by omega) hs hc) (cwV 2 hts (lw_V q139 q141 qs8 q20 q142) rfl rfl rfl (by decide +kernel) ⟨Nat.le_trans (Nat.le_of_ble_eq_true rfl) hRf, Nat.le_trans (Nat.le_of_ble_eq_true rfl) hRl⟩) hK hP rfl rfl rfl rfl hl.1 rfl (Nat.le_of_ble_eq_true rfl) dX0_link_104 ⟨Nat.zero_le _, Nat.zero_le _⟩ (fun r hr => ?_)
                  rcases hr with ⟨rfl, hr104⟩ | ⟨rfl, hr104⟩
                  · have hL3 := sw_lkL_s1 h27 hsp h54 hr104 hIL2
                    refine sw_ifeq (tgt := 122) hx hb dX0_link_107 (by decide) (by decide) (fun q => absurd q (by decide)) (fun _ => ?_)
                    refine lv_aload_n hx hb dX0_link_110 rfl (lv_at hl 2 rfl) ?_
                    refine lv_dup hx hb dX0_link_111 rfl ?_
                    refine va_get (D := D) (ci := 0) (v := .int (nI (l2))) (C := RX0) (T := TX0) (N := 17) hx hb hts in_X0 hown hK hP 0 rfl rfl 8 (by decide) (hts _ q38) (fun _ h9 => h9) rfl dX0_link_112 ?_
                    refine lv_iconst (v := nI (1)) hx hb dX0_link_115 (by decide) ?_
                    refine lv_iload_n hx hb dX0_link_116 rfl (lv_at hl 1 rfl) ?_
                    refine sw_shl hx hb dX0_link_117 (by omega) (sw_sh (by omega) (by omega)) ?_
                    refine sw_or hx hb dX0_link_118 ?_
                    refine va_put (D := D) (ci := 0) (v := .int (nI (l2 ||| (1 * 2 ^ ((pn * 6) + kn))))) (ty := .int) (C := RX0) (T := TX0) (N := 17) hx hb hts in_X0 tyX0 tyX0_ok nmX0 hown hK hP hD hS 0 rfl rfl 8 (by decide) (hts _ q38) (fun _ h9 => h9) rfl (by decide +kernel) rfl rfl (Nat.le_of_ble_eq_true rfl) dX0_link_119 (fun H locs hP hD hS => ?_)
                    have hP : va_P D vwCl (wX o ad kc Sz St Ct T L 1 (f1 ||| y) (va_up g2 ((pn * 6) + kn) z) (l2 ||| (1 * 2 ^ ((pn * 6) + kn))) dn ac ea la ne nl eA lA) H := hP
                    have hD : va_D A (wX o ad kc Sz St Ct T L 1 (f1 ||| y) (va_up g2 ((pn * 6) + kn) z) (l2 ||| (1 * 2 ^ ((pn * 6) + kn))) dn ac ea la ne nl eA lA) := hD
                    refine lv_iinc (k := 4) (v := nI (kn + 1)) (lv' := [(2, .int (nI (kn + 1))), (4, .int (nI (z))), (3, .int (nI ((pn * 6) + kn))), (0, .ref (o)), (1, .int (nI (pn)))]) hx hb dX0_link_122 hl rfl (nI_add _ 1) (by decide) rfl (fun ls hl => ?_)
                    refine lv_goto (tgt := 47) hx hb dX0_link_125 (by decide) ?_
                    exact ihL47 (kn + 1) (va_up g2 ((pn * 6) + kn) z) (l2 ||| (1 * 2 ^ ((pn * 6) + kn))) (by omega) hF3 hL3 (by omega) _ _ hP hD hS _ (lv_sub hl [3, 4, 0] rfl)
                  · have hL3 := sw_lkL_s0 h27 hsp h54 hr104 hIL2
                    refine sw_ifeq (tgt := 122) hx hb dX0_link_107 (by decide) (by decide) (fun _ => ?_) (fun q => absurd rfl q)
                    refine lv_iinc (k := 4) (v := nI (kn + 1)) (lv' := [(2, .int (nI (kn + 1))), (4, .int (nI (z))), (3, .int (nI ((pn * 6) + kn))), (0, .ref (o)), (1, .int (nI (pn)))]) hx hb dX0_link_122 hl rfl (nI_add _ 1) (by decide) rfl (fun ls hl => ?_)
                    refine lv_goto (tgt := 47) hx hb dX0_link_125 (by decide) ?_
                    exact ihL47 (kn + 1) (va_up g2 ((pn * 6) + kn) z) (l2) (by omega) hF3 hL3 (by omega) _ _ hP hD hS _ (lv_sub hl [3, 4, 0] rfl)
          exact L47 (Sz pn - (0) + 1) (0) (g1) (l1) (by omega) hIF hIL (Nat.lt_succ_self _) _ _ hP hD hS _ (lv_sub hl [1, 2, 0] rfl)
    exact L25 (4 - (0) + 1) (0) (0) (fo) (0) (by omega) sw_lkP_0 sw_lkF_0 sw_lkL_0 (Nat.lt_succ_self _) _ _ hP hD hS _ (lv_sub hl [1, 0] rfl)
  · have hlk1 : lk = 1 ∧ sw_Lk Sz Ct fp fo lp := by rcases hlk with q | q; exact absurd q h4; exact q
    exact ret _ _ (lk, fp, fo, lp) _ _ dX0_link_7 (hlk1) hP hD hS
set_option maxRecDepth 100000 in
theorem mX0_link (l : Launch) {D : va_G} {o : Nat} {ad : Nat → Nat} {kc : Nat → ClassId} {Sz : Nat → Nat} {St : Nat → Nat} {Ct : Nat → Nat} {T : Nat → Nat} {L : Nat} {lk : Nat} {fp : Nat} {fo : Nat → Nat} {lp : Nat} {dn : Nat} {ac : Nat} {ea : Nat → Nat} {la : Nat → Int} {ne : Nat → Nat} {nl : Nat → Int} {eA : Nat → Int} {lA : Nat → Int} (hs : ∀ j, Sz j ≤ 6) (hc : ∀ i, Ct i ≤ 3) (hlk : lk = 0 ∨ (lk = 1 ∧ sw_Lk Sz Ct fp fo lp)) (sz : Nat) : Met l yX0_link (ws_ yX0_link cX0_link 5 (none)) ({ frames := 2, cells := 0, slots := 0, locals := 46 }) (sw_M D vwCl (wX o ad kc Sz St Ct T L lk fp fo lp dn ac ea la ne nl eA lA) (tyX kc) sz [.ref o]) (va_Qv (fun (u : Nat × Nat × (Nat → Nat) × Nat) => u.1 = 1 ∧ sw_Lk Sz Ct u.2.1 u.2.2.1 u.2.2.2) (sw_B D vwCl (tyX kc) (va_A (wX o ad kc Sz St Ct T L lk fp fo lp dn ac ea la ne nl eA lA) sz) (fun u : Nat × Nat × (Nat → Nat) × Nat => wX o ad kc Sz St Ct T L (u.1) (u.2.1) (u.2.2.1) (u.2.2.2) dn ac ea la ne nl eA lA)) (va_A (wX o ad kc Sz St Ct T L lk fp fo lp dn ac ea la ne nl eA lA) sz)) 0 0 (va_A (wX o ad kc Sz St Ct T L lk fp fo lp dn ac ea la ne nl eA lA) sz) := sw_metV (by decide) (Nat.le_of_ble_eq_true rfl) (fun p e s m below meth c Q ls A S hK hP hD hA hl ret => bX0_link S (Nat.le_refl _) (Nat.le_refl _) hK hP hD va_S.rf hA hs hc hlk ret hl) sz
set_option maxHeartbeats 4000000 in
set_option maxRecDepth 100000 in
theorem bX0_pass {D : va_G} {o : Nat} {ad : Nat → Nat} {kc : Nat → ClassId} {Sz : Nat → Nat} {St : Nat → Nat} {Ct : Nat → Nat} {T : Nat → Nat} {L : Nat} {lk : Nat} {fp : Nat} {fo : Nat → Nat} {lp : Nat} {dn : Nat} {ac : Nat} {ea : Nat → Nat} {la : Nat → Int} {ne : Nat → Nat} {nl : Nat → Int} {eA : Nat → Int} {lA : Nat → Int} {fn : Nat} {tx : Nat} (S : CallFix p m c cX0_pass 4 s args lw_all RX0) (hRf : 0 ≤ R.frames) (hRl : 0 ≤ R.locals) (hK : va_K D vwCl (tyX kc) s) (hP : va_P D vwCl (wX o ad kc Sz St Ct T L lk fp fo lp dn ac ea la ne nl eA lA) H) (hD : va_D A (wX o ad kc Sz St Ct T L lk fp fo lp dn ac ea la ne nl eA lA)) (hS : va_S A H0 H locs) (hA : ∀ q, H0.size ≤ q → A q) (hf : fn < 24) (htx : tx < 2 ^ 24) (hea : ea fn ≤ 60) (hla : -1 ≤ la fn ∧ la fn ≤ 60) (hne : ∀ j, j < 24 → ne j ≤ 60) (hnl : ∀ j, j < 24 → -1 ≤ nl j ∧ nl j ≤ 60) (ret : ∀ (pc : Nat) (ls : Array Slot) (u : (Nat → Nat) × (Nat → Int)) (H1 : Heap) (locs1 : List Loc), decode cX0_pass pc = .ok (.return_, 1) → (sw_pass ea la fn tx 24 ne nl u.1 u.2) → va_P D vwCl ((fun u : (Nat → Nat) × (Nat → Int) => wX o ad kc Sz St Ct T L lk fp fo lp dn ac ea la (u.1) (u.2) eA lA) u) H1 → va_D A ((fun u : (Nat → Nat) × (Nat → Int) => wX o ad kc Sz St Ct T L lk fp fo lp dn ac ea la (u.1) (u.2) eA lA) u) → va_S A H0 H1 locs1 → W p l e R s m args below meth c H1 locs1 0 0 Q (F0 m pc ls [])) (hl : lv_has ls 4 [(0, .ref (o)), (1, .int (nI (fn))), (2, .int (nI (tx)))]) : W p l e R s m args below meth c H locs 0 0 Q (F0 m 0 ls []) := by
  have hx := S.1
  have hb := S.2.1
  have hown := S.2.2.2.1
  have hts := S.2.2.2.2
  refine lv_iconst (v := nI (0)) hx hb dX0_pass_0 (by decide) ?_
  refine lv_istore_n (lv' := [(3, .int (nI (0))), (0, .ref (o)), (1, .int (nI (fn))), (2, .int (nI (tx)))]) hx hb dX0_pass_1 rfl hl (by decide) rfl (fun ls hl => ?_)
  have L2 : ∀ (n : Nat) (i : Nat) (n1 : Nat → Nat) (l1 : Nat → Int), (i ≤ 24) → (sw_pass ea la fn tx i ne nl n1 l1) → 24 - i < n → ∀ (H : Heap) (locs : List Loc), va_P D vwCl (wX o ad kc Sz St Ct T L lk fp fo lp dn ac ea la n1 l1 eA lA) H → va_D A (wX o ad kc Sz St Ct T L lk fp fo lp dn ac ea la n1 l1 eA lA) → va_S A H0 H locs → ∀ (ls : Array Slot), lv_has ls 4 [(0, .ref (o)), (1, .int (nI (fn))), (2, .int (nI (tx))), (3, .int (nI (i)))] → W p l e R s m args below meth c H locs 0 0 Q (F0 m 2 ls []) := by
    intro n
    induction n with
    | zero => intro i n1 l1 _ _ hm; exact absurd hm (Nat.not_lt_zero _)
    | succ n ihL2 =>
      intro i n1 l1 hi hI hmL2 H locs hP hD hS ls hl
      refine lv_iload_n hx hb dX0_pass_2 rfl (lv_at hl 3 rfl) ?_
      refine lv_bipush (v := nI (24)) hx hb dX0_pass_3 (by decide) ?_
      refine sw_cge (tgt := 76) hx hb dX0_pass_5 (by decide) (by omega) (by omega) (fun h5 => ?_) (fun h5 => ?_)
      · exact ret _ _ (n1, l1) _ _ dX0_pass_76 (by rw [show i = 24 by omega] at hI; exact hI) hP hD hS
      · obtain ⟨hn1, hl1⟩ := sw_pass_at hI
        have hne1 := hne i h5
        have hnl1 := hnl i h5
        refine lv_iload_n hx hb dX0_pass_8 rfl (lv_at hl 2 rfl) ?_
        refine lv_iload_n hx hb dX0_pass_9 rfl (lv_at hl 3 rfl) ?_
        refine sw_shr hx hb dX0_pass_10 (by omega) (by omega) ?_
        refine lv_iconst (v := nI (1)) hx hb dX0_pass_11 (by decide) ?_
        refine sw_and1 hx hb dX0_pass_12 ?_
        refine sw_ifeq (tgt := 70) hx hb dX0_pass_13 (by decide) (by omega) (fun h13 => ?_) (fun h13 => ?_)
        · have hI' := sw_pass_s0 h13 hI
          refine lv_iinc (k := 3) (v := nI (i + 1)) (lv' := [(3, .int (nI (i + 1))), (0, .ref (o)), (1, .int (nI (fn))), (2, .int (nI (tx)))]) hx hb dX0_pass_70 hl rfl (nI_add _ 1) (by decide) rfl (fun ls hl => ?_)
          refine lv_goto (tgt := 2) hx hb dX0_pass_73 (by decide) ?_
          exact ihL2 (i + 1) (n1) (l1) (by omega) hI' (by omega) _ _ hP hD hS _ (lv_sub hl [1, 2, 3, 0] rfl)
        · refine lv_aload_n hx hb dX0_pass_16 rfl (lv_at hl 0 rfl) ?_
          refine va_get (D := D) (ci := 0) (v := .ref (ad 5)) (C := RX0) (T := TX0) (N := 17) hx hb hts in_X0 hown hK hP 0 rfl rfl 11 (by decide) (hts _ q41) (fun _ h9 => h9) rfl dX0_pass_17 ?_
          refine lv_iload_n hx hb dX0_pass_20 rfl (lv_at hl 1 rfl) ?_
          refine sw_bld hx hb hK hP 6 5 rfl rfl (by omega) (by decide) (v := nI (ea fn)) rfl dX0_pass_21 ?_
          refine lv_aload_n hx hb dX0_pass_22 rfl (lv_at hl 0 rfl) ?_
          refine va_get (D := D) (ci := 0) (v := .ref (ad 7)) (C := RX0) (T := TX0) (N := 17) hx hb hts in_X0 hown hK hP 0 rfl rfl 13 (by decide) (hts _ q43) (fun _ h9 => h9) rfl dX0_pass_23 ?_
          refine lv_iload_n hx hb dX0_pass_26 rfl (lv_at hl 3 rfl) ?_
          refine sw_bld hx hb hK hP 8 7 rfl rfl (by omega) (by decide) (v := nI (n1 i)) rfl dX0_pass_27 ?_
          refine sw_cge (tgt := 43) hx hb dX0_pass_28 (by decide) (by omega) (by omega) (fun h28 => ?_) (fun h28 => ?_)
          · refine lv_aload_n hx hb dX0_pass_43 rfl (lv_at hl 0 rfl) ?_
            refine va_get (D := D) (ci := 0) (v := .ref (ad 6)) (C := RX0) (T := TX0) (N := 17) hx hb hts in_X0 hown hK hP 0 rfl rfl 12 (by decide) (hts _ q42) (fun _ h9 => h9) rfl dX0_pass_44 ?_
            refine lv_iload_n hx hb dX0_pass_47 rfl (lv_at hl 1 rfl) ?_
            refine sw_bld hx hb hK hP 7 6 rfl rfl (by omega) (by decide) (v := zI (la fn)) rfl dX0_pass_48 ?_
            refine lv_aload_n hx hb dX0_pass_49 rfl (lv_at hl 0 rfl) ?_
            refine va_get (D := D) (ci := 0) (v := .ref (ad 8)) (C := RX0) (T := TX0) (N := 17) hx hb hts in_X0 hown hK hP 0 rfl rfl 14 (by decide) (hts _ q44) (fun _ h9 => h9) rfl dX0_pass_50 ?_
            refine lv_iload_n hx hb dX0_pass_53 rfl (lv_at hl 3 rfl) ?_
            refine sw_bld hx hb hK hP 9 8 rfl rfl (by omega) (by decide) (v := zI (l1 i)) rfl dX0_pass_54 ?_
            refine sw_dle (tgt := 70) hx hb dX0_pass_55 (by decide) (zI_toInt (z := la fn) (by omega) (by omega)) (zI_toInt (z := l1 i) (by omega) (by omega)) (fun h55 => ?_) (fun h55 => ?_)
            · have hI' : sw_pass ea la fn tx (i + 1) ne nl n1 l1 := sw_pass_s1 (e2 := 0) (z2 := 0) h13 hI (fun j q => ⟨by first | rfl | exact sw_un q, by first | rfl | exact sw_un q⟩) (by first | (rw [if_neg (by omega)]; exact hn1) | (rw [if_pos (by omega)]; exact sw_us _ _ _)) (by rw [if_neg (by omega)]; exact hl1)
              refine lv_iinc (k := 3) (v := nI (i + 1)) (lv' := [(3, .int (nI (i + 1))), (0, .ref (o)), (1, .int (nI (fn))), (2, .int (nI (tx)))]) hx hb dX0_pass_70 hl rfl (nI_add _ 1) (by decide) rfl (fun ls hl => ?_)
              refine lv_goto (tgt := 2) hx hb dX0_pass_73 (by decide) ?_
              exact ihL2 (i + 1) (n1) (l1) (by omega) hI' (by omega) _ _ hP hD hS _ (lv_sub hl [1, 2, 3, 0] rfl)
            · refine lv_aload_n hx hb dX0_pass_58 rfl (lv_at hl 0 rfl) ?_
              refine va_get (D := D) (ci := 0) (v := .ref (ad 8)) (C := RX0) (T := TX0) (N := 17) hx hb hts in_X0 hown hK hP 0 rfl rfl 14 (by decide) (hts _ q44) (fun _ h9 => h9) rfl dX0_pass_59 ?_
              refine lv_iload_n hx hb dX0_pass_62 rfl (lv_at hl 3 rfl) ?_
              refine lv_aload_n hx hb dX0_pass_63 rfl (lv_at hl 0 rfl) ?_
              refine va_get (D := D) (ci := 0) (v := .ref (ad 6)) (C := RX0) (T := TX0) (N := 17) hx hb hts in_X0 hown hK hP 0 rfl rfl 12 (by decide) (hts _ q42) (fun _ h9 => h9) rfl dX0_pass_64 ?_
              refine lv_iload_n hx hb dX0_pass_67 rfl (lv_at hl 1 rfl) ?_
              refine sw_bld hx hb hK hP 7 6 rfl rfl (by omega) (by decide) (v := zI (la fn)) rfl dX0_pass_68 ?_
              refine sw_bst hx hb hK hP hD hS 9 8 rfl rfl (by omega) (by decide) (sw_naZ (by omega) (by omega)) (sw_updZ _ _ _) dX0_pass_69 (fun H locs hP hD hS => ?_)
              have hP : va_P D vwCl (wX o ad kc Sz St Ct T L lk fp fo lp dn ac ea la n1 (va_up l1 i (la fn)) eA lA) H := hP
              have hD : va_D A (wX o ad kc Sz St Ct T L lk fp fo lp dn ac ea la n1 (va_up l1 i (la fn)) eA lA) := hD
              have hI' : sw_pass ea la fn tx (i + 1) ne nl n1 (va_up l1 i (la fn)) := sw_pass_s1 (e2 := 0) (z2 := 0) h13 hI (fun j q => ⟨by first | rfl | exact sw_un q, by first | rfl | exact sw_un q⟩) (by first | (rw [if_neg (by omega)]; exact hn1) | (rw [if_pos (by omega)]; exact sw_us _ _ _)) (by rw [if_pos (by omega)]; exact sw_us _ _ _)
              refine lv_iinc (k := 3) (v := nI (i + 1)) (lv' := [(3, .int (nI (i + 1))), (0, .ref (o)), (1, .int (nI (fn))), (2, .int (nI (tx)))]) hx hb dX0_pass_70 hl rfl (nI_add _ 1) (by decide) rfl (fun ls hl => ?_)
              refine lv_goto (tgt := 2) hx hb dX0_pass_73 (by decide) ?_
              exact ihL2 (i + 1) (n1) (va_up l1 i (la fn)) (by omega) hI' (by omega) _ _ hP hD hS _ (lv_sub hl [1, 2, 3, 0] rfl)
          · refine lv_aload_n hx hb dX0_pass_31 rfl (lv_at hl 0 rfl) ?_
            refine va_get (D := D) (ci := 0) (v := .ref (ad 7)) (C := RX0) (T := TX0) (N := 17) hx hb hts in_X0 hown hK hP 0 rfl rfl 13 (by decide) (hts _ q43) (fun _ h9 => h9) rfl dX0_pass_32 ?_
            refine lv_iload_n hx hb dX0_pass_35 rfl (lv_at hl 3 rfl) ?_
            refine lv_aload_n hx hb dX0_pass_36 rfl (lv_at hl 0 rfl) ?_
            refine va_get (D := D) (ci := 0) (v := .ref (ad 5)) (C := RX0) (T := TX0) (N := 17) hx hb hts in_X0 hown hK hP 0 rfl rfl 11 (by decide) (hts _ q41) (fun _ h9 => h9) rfl dX0_pass_37 ?_
            refine lv_iload_n hx hb dX0_pass_40 rfl (lv_at hl 1 rfl) ?_
            refine sw_bld hx hb hK hP 6 5 rfl rfl (by omega) (by decide) (v := nI (ea fn)) rfl dX0_pass_41 ?_
            refine sw_bst hx hb hK hP hD hS 8 7 rfl rfl (by omega) (by decide) (sw_naN (by omega)) (sw_updN _ _ _) dX0_pass_42 (fun H locs hP hD hS => ?_)
            have hP : va_P D vwCl (wX o ad kc Sz St Ct T L lk fp fo lp dn ac ea la (va_up n1 i (ea fn)) l1 eA lA) H := hP
            have hD : va_D A (wX o ad kc Sz St Ct T L lk fp fo lp dn ac ea la (va_up n1 i (ea fn)) l1 eA lA) := hD
            refine lv_aload_n hx hb dX0_pass_43 rfl (lv_at hl 0 rfl) ?_
            refine va_get (D := D) (ci := 0) (v := .ref (ad 6)) (C := RX0) (T := TX0) (N := 17) hx hb hts in_X0 hown hK hP 0 rfl rfl 12 (by decide) (hts _ q42) (fun _ h9 => h9) rfl dX0_pass_44 ?_
            refine lv_iload_n hx hb dX0_pass_47 rfl (lv_at hl 1 rfl) ?_
            refine sw_bld hx hb hK hP 7 6 rfl rfl (by omega) (by decide) (v := zI (la fn)) rfl dX0_pass_48 ?_
            refine lv_aload_n hx hb dX0_pass_49 rfl (lv_at hl 0 rfl) ?_
            refine va_get (D := D) (ci := 0) (v := .ref (ad 8)) (C := RX0) (T := TX0) (N := 17) hx hb hts in_X0 hown hK hP 0 rfl rfl 14 (by decide) (hts _ q44) (fun _ h9 => h9) rfl dX0_pass_50 ?_
            refine lv_iload_n hx hb dX0_pass_53 rfl (lv_at hl 3 rfl) ?_
            refine sw_bld hx hb hK hP 9 8 rfl rfl (by omega) (by decide) (v := zI (l1 i)) rfl dX0_pass_54 ?_
            refine sw_dle (tgt := 70) hx hb dX0_pass_55 (by decide) (zI_toInt (z := la fn) (by omega) (by omega)) (zI_toInt (z := l1 i) (by omega) (by omega)) (fun h55 => ?_) (fun h55 => ?_)
            · have hI' : sw_pass ea la fn tx (i + 1) ne nl (va_up n1 i (ea fn)) l1 := sw_pass_s1 (e2 := 0) (z2 := 0) h13 hI (fun j q => ⟨by first | rfl | exact sw_un q, by first | rfl | exact sw_un q⟩) (by first | (rw [if_neg (by omega)]; exact hn1) | (rw [if_pos (by omega)]; exact sw_us _ _ _)) (by rw [if_neg (by omega)]; exact hl1)
              refine lv_iinc (k := 3) (v := nI (i + 1)) (lv' := [(3, .int (nI (i + 1))), (0, .ref (o)), (1, .int (nI (fn))), (2, .int (nI (tx)))]) hx hb dX0_pass_70 hl rfl (nI_add _ 1) (by decide) rfl (fun ls hl => ?_)
              refine lv_goto (tgt := 2) hx hb dX0_pass_73 (by decide) ?_
              exact ihL2 (i + 1) (va_up n1 i (ea fn)) (l1) (by omega) hI' (by omega) _ _ hP hD hS _ (lv_sub hl [1, 2, 3, 0] rfl)
            · refine lv_aload_n hx hb dX0_pass_58 rfl (lv_at hl 0 rfl) ?_
              refine va_get (D := D) (ci := 0) (v := .ref (ad 8)) (C := RX0) (T := TX0) (N := 17) hx hb hts in_X0 hown hK hP 0 rfl rfl 14 (by decide) (hts _ q44) (fun _ h9 => h9) rfl dX0_pass_59 ?_
              refine lv_iload_n hx hb dX0_pass_62 rfl (lv_at hl 3 rfl) ?_
              refine lv_aload_n hx hb dX0_pass_63 rfl (lv_at hl 0 rfl) ?_
              refine va_get (D := D) (ci := 0) (v := .ref (ad 6)) (C := RX0) (T := TX0) (N := 17) hx hb hts in_X0 hown hK hP 0 rfl rfl 12 (by decide) (hts _ q42) (fun _ h9 => h9) rfl dX0_pass_64 ?_
              refine lv_iload_n hx hb dX0_pass_67 rfl (lv_at hl 1 rfl) ?_
              refine sw_bld hx hb hK hP 7 6 rfl rfl (by omega) (by decide) (v := zI (la fn)) rfl dX0_pass_68 ?_
              refine sw_bst hx hb hK hP hD hS 9 8 rfl rfl (by omega) (by decide) (sw_naZ (by omega) (by omega)) (sw_updZ _ _ _) dX0_pass_69 (fun H locs hP hD hS => ?_)
              have hP : va_P D vwCl (wX o ad kc Sz St Ct T L lk fp fo lp dn ac ea la (va_up n1 i (ea fn)) (va_up l1 i (la fn)) eA lA) H := hP
              have hD : va_D A (wX o ad kc Sz St Ct T L lk fp fo lp dn ac ea la (va_up n1 i (ea fn)) (va_up l1 i (la fn)) eA lA) := hD
              have hI' : sw_pass ea la fn tx (i + 1) ne nl (va_up n1 i (ea fn)) (va_up l1 i (la fn)) := sw_pass_s1 (e2 := 0) (z2 := 0) h13 hI (fun j q => ⟨by first | rfl | exact sw_un q, by first | rfl | exact sw_un q⟩) (by first | (rw [if_neg (by omega)]; exact hn1) | (rw [if_pos (by omega)]; exact sw_us _ _ _)) (by rw [if_pos (by omega)]; exact sw_us _ _ _)
              refine lv_iinc (k := 3) (v := nI (i + 1)) (lv' := [(3, .int (nI (i + 1))), (0, .ref (o)), (1, .int (nI (fn))), (2, .int (nI (tx)))]) hx hb dX0_pass_70 hl rfl (nI_add _ 1) (by decide) rfl (fun ls hl => ?_)
              refine lv_goto (tgt := 2) hx hb dX0_pass_73 (by decide) ?_
              exact ihL2 (i + 1) (va_up n1 i (ea fn)) (va_up l1 i (la fn)) (by omega) hI' (by omega) _ _ hP hD hS _ (lv_sub hl [1, 2, 3, 0] rfl)
  exact L2 (24 - (0) + 1) (0) (ne) (nl) (by omega) sw_pass_0 (Nat.lt_succ_self _) _ _ hP hD hS _ (lv_sub hl [1, 2, 3, 0] rfl)
set_option maxRecDepth 100000 in
theorem mX0_pass (l : Launch) {D : va_G} {o : Nat} {ad : Nat → Nat} {kc : Nat → ClassId} {Sz : Nat → Nat} {St : Nat → Nat} {Ct : Nat → Nat} {T : Nat → Nat} {L : Nat} {lk : Nat} {fp : Nat} {fo : Nat → Nat} {lp : Nat} {dn : Nat} {ac : Nat} {ea : Nat → Nat} {la : Nat → Int} {ne : Nat → Nat} {nl : Nat → Int} {eA : Nat → Int} {lA : Nat → Int} {fn : Nat} {tx : Nat} (hf : fn < 24) (htx : tx < 2 ^ 24) (hea : ea fn ≤ 60) (hla : -1 ≤ la fn ∧ la fn ≤ 60) (hne : ∀ j, j < 24 → ne j ≤ 60) (hnl : ∀ j, j < 24 → -1 ≤ nl j ∧ nl j ≤ 60) (sz : Nat) : Met l yX0_pass (ws_ yX0_pass cX0_pass 4 (none)) ({ frames := 0, cells := 0, slots := 0, locals := 0 }) (sw_M D vwCl (wX o ad kc Sz St Ct T L lk fp fo lp dn ac ea la ne nl eA lA) (tyX kc) sz [.ref o, .int (nI (fn)), .int (nI (tx))]) (va_Qv (fun (u : (Nat → Nat) × (Nat → Int)) => sw_pass ea la fn tx 24 ne nl u.1 u.2) (sw_B D vwCl (tyX kc) (va_A (wX o ad kc Sz St Ct T L lk fp fo lp dn ac ea la ne nl eA lA) sz) (fun u : (Nat → Nat) × (Nat → Int) => wX o ad kc Sz St Ct T L lk fp fo lp dn ac ea la (u.1) (u.2) eA lA)) (va_A (wX o ad kc Sz St Ct T L lk fp fo lp dn ac ea la ne nl eA lA) sz)) 0 0 (va_A (wX o ad kc Sz St Ct T L lk fp fo lp dn ac ea la ne nl eA lA) sz) := sw_metV (by decide) (Nat.le_of_ble_eq_true rfl) (fun p e s m below meth c Q ls A S hK hP hD hA hl ret => bX0_pass S (Nat.le_refl _) (Nat.le_refl _) hK hP hD va_S.rf hA hf htx hea hla hne hnl ret hl) sz
set_option maxHeartbeats 4000000 in
set_option maxRecDepth 100000 in
theorem bX0_advance {D : va_G} {o : Nat} {ad : Nat → Nat} {kc : Nat → ClassId} {Sz : Nat → Nat} {St : Nat → Nat} {Ct : Nat → Nat} {T : Nat → Nat} {L : Nat} {lk : Nat} {fp : Nat} {fo : Nat → Nat} {lp : Nat} {dn : Nat} {ac : Nat} {ea : Nat → Nat} {la : Nat → Int} {ne : Nat → Nat} {nl : Nat → Int} {eA : Nat → Int} {lA : Nat → Int} {sn : Nat} {tn : Nat} (S : CallFix p m c cX0_advance 5 s args lw_all RX0) (hRf : 2 ≤ R.frames) (hRl : 48 ≤ R.locals) (hK : va_K D vwCl (tyX kc) s) (hP : va_P D vwCl (wX o ad kc Sz St Ct T L lk fp fo lp dn ac ea la ne nl eA lA) H) (hD : va_D A (wX o ad kc Sz St Ct T L lk fp fo lp dn ac ea la ne nl eA lA)) (hS : va_S A H0 H locs) (hA : ∀ q, H0.size ≤ q → A q) (hsn : sn = T tn) (htn : tn < 60) (hO : sw_Ok Sz St Ct T L) (hLk : sw_Lk Sz Ct fp fo lp) (hAc : sw_Ac Sz St Ct T tn ac ea la) (ret : ∀ (pc : Nat) (ls : Array Slot) (u : Nat × (Nat → Nat) × (Nat → Int) × (Nat → Nat) × (Nat → Int)) (H1 : Heap) (locs1 : List Loc), decode cX0_advance pc = .ok (.return_, 1) → (sw_Ac Sz St Ct T (tn + 1) u.1 u.2.1 u.2.2.1) → va_P D vwCl ((fun u : Nat × (Nat → Nat) × (Nat → Int) × (Nat → Nat) × (Nat → Int) => wX o ad kc Sz St Ct T L lk fp fo lp dn (u.1) (u.2.1) (u.2.2.1) (u.2.2.2.1) (u.2.2.2.2) eA lA) u) H1 → va_D A ((fun u : Nat × (Nat → Nat) × (Nat → Int) × (Nat → Nat) × (Nat → Int) => wX o ad kc Sz St Ct T L lk fp fo lp dn (u.1) (u.2.1) (u.2.2.1) (u.2.2.2.1) (u.2.2.2.2) eA lA) u) → va_S A H0 H1 locs1 → W p l e R s m args below meth c H1 locs1 0 0 Q (F0 m pc ls [])) (hl : lv_has ls 5 [(0, .ref (o)), (1, .int (nI (sn))), (2, .int (nI (tn)))]) : W p l e R s m args below meth c H locs 0 0 Q (F0 m 0 ls []) := by
  have hx := S.1
  have hb := S.2.1
  have hown := S.2.2.2.1
  have hts := S.2.2.2.2
  obtain ⟨hs, ht, hc, hT, hL⟩ := hO
  have hsn4 : sn < 4 := by rw [hsn]; exact hT tn
  have hfp := hLk.1
  have hac := hAc.1
  refine lv_aload_n hx hb dX0_advance_0 rfl (lv_at hl 0 rfl) ?_
  refine lv_iload_n hx hb dX0_advance_1 rfl (lv_at hl 1 rfl) ?_
  refine sw_cvR (As := [.int (nI (sn))]) (rest := []) (C := RX0) (ci := 0) (q0 := 0) S (mX0_onward l hsn4 hs ht hac) (cwV 1 hts (lw_V q147 q149 qs10 q20 q150) rfl rfl rfl (by decide +kernel) ⟨Nat.le_trans (Nat.le_of_ble_eq_true rfl) hRf, Nat.le_trans (Nat.le_of_ble_eq_true rfl) hRl⟩) hK hP rfl rfl rfl rfl hl.1 rfl (Nat.le_of_ble_eq_true rfl) dX0_advance_2 ⟨Nat.zero_le _, Nat.zero_le _⟩ (fun r hr => ?_)
  obtain ⟨x, rfl, hx0⟩ := hr
  refine lv_istore_n (lv' := [(3, .int (nI (x))), (0, .ref (o)), (1, .int (nI (sn))), (2, .int (nI (tn)))]) hx hb dX0_advance_5 rfl hl (by decide) rfl (fun ls hl => ?_)
  have hx24 := hx0.1
  have hxf := Nat.and_lt_two_pow x hfp
  refine lv_iconst (v := nI (0)) hx hb dX0_advance_6 (by decide) ?_
  refine lv_istore (lv' := [(4, .int (nI (0))), (3, .int (nI (x))), (0, .ref (o)), (1, .int (nI (sn))), (2, .int (nI (tn)))]) hx hb dX0_advance_7 hl (by decide) rfl (fun ls hl => ?_)
  have L9 : ∀ (n : Nat) (i : Nat) (n1 : Nat → Nat) (l1 : Nat → Int), (i ≤ 24) → (sw_aI (sw_src St Ct T fp ac fo x tn 0) i n1 l1) → 24 - i < n → ∀ (H : Heap) (locs : List Loc), va_P D vwCl (wX o ad kc Sz St Ct T L lk fp fo lp dn ac ea la n1 l1 eA lA) H → va_D A (wX o ad kc Sz St Ct T L lk fp fo lp dn ac ea la n1 l1 eA lA) → va_S A H0 H locs → ∀ (ls : Array Slot), lv_has ls 5 [(0, .ref (o)), (1, .int (nI (sn))), (2, .int (nI (tn))), (3, .int (nI (x))), (4, .int (nI (i)))] → W p l e R s m args below meth c H locs 0 0 Q (F0 m 9 ls []) := by
    intro n
    induction n with
    | zero => intro i n1 l1 _ _ hm; exact absurd hm (Nat.not_lt_zero _)
    | succ n ihL9 =>
      intro i n1 l1 hi hI hmL9 H locs hP hD hS ls hl
      refine lv_iload hx hb dX0_advance_9 (lv_at hl 4 rfl) ?_
      refine lv_bipush (v := nI (24)) hx hb dX0_advance_11 (by decide) ?_
      refine sw_cge (tgt := 71) hx hb dX0_advance_13 (by decide) (by omega) (by omega) (fun h13 => ?_) (fun h13 => ?_)
      · have hI24 : sw_aI (sw_src St Ct T fp ac fo x tn 0) 24 n1 l1 := by rw [show i = 24 by omega] at hI; exact hI
        refine lv_iconst (v := nI (0)) hx hb dX0_advance_71 (by decide) ?_
        refine lv_istore (lv' := [(4, .int (nI (0))), (0, .ref (o)), (1, .int (nI (sn))), (2, .int (nI (tn))), (3, .int (nI (x)))]) hx hb dX0_advance_72 hl (by decide) rfl (fun ls hl => ?_)
        have L74 : ∀ (n : Nat) (i : Nat) (n1 : Nat → Nat) (l1 : Nat → Int), (i ≤ 24) → (sw_aI (sw_src St Ct T fp ac fo x tn i) 24 n1 l1) → 24 - i < n → ∀ (H : Heap) (locs : List Loc), va_P D vwCl (wX o ad kc Sz St Ct T L lk fp fo lp dn ac ea la n1 l1 eA lA) H → va_D A (wX o ad kc Sz St Ct T L lk fp fo lp dn ac ea la n1 l1 eA lA) → va_S A H0 H locs → ∀ (ls : Array Slot), lv_has ls 5 [(0, .ref (o)), (1, .int (nI (sn))), (2, .int (nI (tn))), (3, .int (nI (x))), (4, .int (nI (i)))] → W p l e R s m args below meth c H locs 0 0 Q (F0 m 74 ls []) := by
          intro n
          induction n with
          | zero => intro i n1 l1 _ _ hm; exact absurd hm (Nat.not_lt_zero _)
          | succ n ihL74 =>
            intro i n1 l1 hi hI hmL74 H locs hP hD hS ls hl
            refine lv_iload hx hb dX0_advance_74 (lv_at hl 4 rfl) ?_
            refine lv_bipush (v := nI (24)) hx hb dX0_advance_76 (by decide) ?_
            refine sw_cge (tgt := 114) hx hb dX0_advance_78 (by decide) (by omega) (by omega) (fun h78 => ?_) (fun h78 => ?_)
            · have hI24 : sw_aI (sw_src St Ct T fp ac fo x tn 24) 24 n1 l1 := by rw [show i = 24 by omega] at hI; exact hI
              refine lv_aload_n hx hb dX0_advance_114 rfl (lv_at hl 0 rfl) ?_
              refine lv_iload_n hx hb dX0_advance_115 rfl (lv_at hl 3 rfl) ?_
              refine va_put (D := D) (ci := 0) (v := .int (nI (x))) (ty := .int) (C := RX0) (T := TX0) (N := 17) hx hb hts in_X0 tyX0 tyX0_ok nmX0 hown hK hP hD hS 0 rfl rfl 10 (by decide) (hts _ q40) (fun _ h9 => h9) rfl (by decide +kernel) rfl rfl (Nat.le_of_ble_eq_true rfl) dX0_advance_116 (fun H locs hP hD hS => ?_)
              have hP : va_P D vwCl (wX o ad kc Sz St Ct T L lk fp fo lp dn x ea la n1 l1 eA lA) H := hP
              have hD : va_D A (wX o ad kc Sz St Ct T L lk fp fo lp dn x ea la n1 l1 eA lA) := hD
              refine lv_iconst (v := nI (0)) hx hb dX0_advance_119 (by decide) ?_
              refine lv_istore (lv' := [(4, .int (nI (0))), (0, .ref (o)), (1, .int (nI (sn))), (2, .int (nI (tn))), (3, .int (nI (x)))]) hx hb dX0_advance_120 hl (by decide) rfl (fun ls hl => ?_)
              have L122 : ∀ (n : Nat) (i : Nat) (e1 : Nat → Nat) (l2 : Nat → Int), (i ≤ 24) → (∀ j, j < i → e1 j = n1 j ∧ l2 j = l1 j) → 24 - i < n → ∀ (H : Heap) (locs : List Loc), va_P D vwCl (wX o ad kc Sz St Ct T L lk fp fo lp dn x e1 l2 n1 l1 eA lA) H → va_D A (wX o ad kc Sz St Ct T L lk fp fo lp dn x e1 l2 n1 l1 eA lA) → va_S A H0 H locs → ∀ (ls : Array Slot), lv_has ls 5 [(0, .ref (o)), (1, .int (nI (sn))), (2, .int (nI (tn))), (3, .int (nI (x))), (4, .int (nI (i)))] → W p l e R s m args below meth c H locs 0 0 Q (F0 m 122 ls []) := by
                intro n
                induction n with
                | zero => intro i e1 l2 _ _ hm; exact absurd hm (Nat.not_lt_zero _)
                | succ n ihL122 =>
                  intro i e1 l2 hi2 hC hmL122 H locs hP hD hS ls hl
                  refine lv_iload hx hb dX0_advance_122 (lv_at hl 4 rfl) ?_
                  refine lv_bipush (v := nI (24)) hx hb dX0_advance_124 (by decide) ?_
                  refine sw_cge (tgt := 163) hx hb dX0_advance_126 (by decide) (by omega) (by omega) (fun h126 => ?_) (fun h126 => ?_)
                  · exact ret _ _ (x, e1, l2, n1, l1) _ _ dX0_advance_163 (sw_Ac_s hc hLk hAc (by rw [← hsn]; exact hx0) hI24 (fun j hj => hC j (by omega))) hP hD hS
                  · have hb1 := sw_lN_le (hI24 i h126).1
                    have hb2 := sw_hi_bd (hI24 i h126).2 (fun b hb => sw_src_le hb)
                    refine lv_aload_n hx hb dX0_advance_129 rfl (lv_at hl 0 rfl) ?_
                    refine va_get (D := D) (ci := 0) (v := .ref (ad 5)) (C := RX0) (T := TX0) (N := 17) hx hb hts in_X0 hown hK hP 0 rfl rfl 11 (by decide) (hts _ q41) (fun _ h9 => h9) rfl dX0_advance_130 ?_
                    refine lv_iload hx hb dX0_advance_133 (lv_at hl 4 rfl) ?_
                    refine lv_aload_n hx hb dX0_advance_135 rfl (lv_at hl 0 rfl) ?_
                    refine va_get (D := D) (ci := 0) (v := .ref (ad 7)) (C := RX0) (T := TX0) (N := 17) hx hb hts in_X0 hown hK hP 0 rfl rfl 13 (by decide) (hts _ q43) (fun _ h9 => h9) rfl dX0_advance_136 ?_
                    refine lv_iload hx hb dX0_advance_139 (lv_at hl 4 rfl) ?_
                    refine sw_bld hx hb hK hP 8 7 rfl rfl (by omega) (by decide) (v := nI (n1 i)) rfl dX0_advance_141 ?_
                    refine sw_bst hx hb hK hP hD hS 6 5 rfl rfl (by omega) (by decide) (sw_naN (by omega)) (sw_updN _ _ _) dX0_advance_142 (fun H locs hP hD hS => ?_)
                    have hP : va_P D vwCl (wX o ad kc Sz St Ct T L lk fp fo lp dn x (va_up e1 i (n1 i)) l2 n1 l1 eA lA) H := hP
                    have hD : va_D A (wX o ad kc Sz St Ct T L lk fp fo lp dn x (va_up e1 i (n1 i)) l2 n1 l1 eA lA) := hD
                    refine lv_aload_n hx hb dX0_advance_143 rfl (lv_at hl 0 rfl) ?_
                    refine va_get (D := D) (ci := 0) (v := .ref (ad 6)) (C := RX0) (T := TX0) (N := 17) hx hb hts in_X0 hown hK hP 0 rfl rfl 12 (by decide) (hts _ q42) (fun _ h9 => h9) rfl dX0_advance_144 ?_
                    refine lv_iload hx hb dX0_advance_147 (lv_at hl 4 rfl) ?_
                    refine lv_aload_n hx hb dX0_advance_149 rfl (lv_at hl 0 rfl) ?_
                    refine va_get (D := D) (ci := 0) (v := .ref (ad 8)) (C := RX0) (T := TX0) (N := 17) hx hb hts in_X0 hown hK hP 0 rfl rfl 14 (by decide) (hts _ q44) (fun _ h9 => h9) rfl dX0_advance_150 ?_
                    refine lv_iload hx hb dX0_advance_153 (lv_at hl 4 rfl) ?_
                    refine sw_bld hx hb hK hP 9 8 rfl rfl (by omega) (by decide) (v := zI (l1 i)) rfl dX0_advance_155 ?_
                    refine sw_bst hx hb hK hP hD hS 7 6 rfl rfl (by omega) (by decide) (sw_naZ (by omega) (by omega)) (sw_updZ _ _ _) dX0_advance_156 (fun H locs hP hD hS => ?_)
                    have hP : va_P D vwCl (wX o ad kc Sz St Ct T L lk fp fo lp dn x (va_up e1 i (n1 i)) (va_up l2 i (l1 i)) n1 l1 eA lA) H := hP
                    have hD : va_D A (wX o ad kc Sz St Ct T L lk fp fo lp dn x (va_up e1 i (n1 i)) (va_up l2 i (l1 i)) n1 l1 eA lA) := hD
                    refine lv_iinc (k := 4) (v := nI (i + 1)) (lv' := [(4, .int (nI (i + 1))), (0, .ref (o)), (1, .int (nI (sn))), (2, .int (nI (tn))), (3, .int (nI (x)))]) hx hb dX0_advance_157 hl rfl (nI_add _ 1) (by decide) rfl (fun ls hl => ?_)
                    refine lv_goto (tgt := 122) hx hb dX0_advance_160 (by decide) ?_
                    exact ihL122 (i + 1) (va_up e1 i (n1 i)) (va_up l2 i (l1 i)) (by omega) (fun j hj => by by_cases q : j = i; subst q; exact ⟨sw_us _ _ _, sw_us _ _ _⟩; rw [sw_un q, sw_un q]; exact hC j (by omega)) (by omega) _ _ hP hD hS _ (lv_sub hl [1, 2, 3, 4, 0] rfl)
              exact L122 (24 - (0) + 1) (0) (ea) (la) (by omega) (fun j hj => absurd hj (Nat.not_lt_zero _)) (Nat.lt_succ_self _) _ _ hP hD hS _ (lv_sub hl [1, 2, 3, 4, 0] rfl)
            · refine lv_aload_n hx hb dX0_advance_81 rfl (lv_at hl 0 rfl) ?_
              refine va_get (D := D) (ci := 0) (v := .int (nI (ac))) (C := RX0) (T := TX0) (N := 17) hx hb hts in_X0 hown hK hP 0 rfl rfl 10 (by decide) (hts _ q40) (fun _ h9 => h9) rfl dX0_advance_82 ?_
              refine lv_iload hx hb dX0_advance_85 (lv_at hl 4 rfl) ?_
              refine sw_shr hx hb dX0_advance_87 (by omega) (by omega) ?_
              refine lv_iconst (v := nI (1)) hx hb dX0_advance_88 (by decide) ?_
              refine sw_and1 hx hb dX0_advance_89 ?_
              refine sw_ifeq (tgt := 108) hx hb dX0_advance_90 (by decide) (by omega) (fun h90 => ?_) (fun h90 => ?_)
              · have hI' := sw_aI_s0 h90 hI
                refine lv_iinc (k := 4) (v := nI (i + 1)) (lv' := [(4, .int (nI (i + 1))), (0, .ref (o)), (1, .int (nI (sn))), (2, .int (nI (tn))), (3, .int (nI (x)))]) hx hb dX0_advance_108 hl rfl (nI_add _ 1) (by decide) rfl (fun ls hl => ?_)
                refine lv_goto (tgt := 74) hx hb dX0_advance_111 (by decide) ?_
                exact ihL74 (i + 1) (n1) (l1) (by omega) hI' (by omega) _ _ hP hD hS _ (lv_sub hl [1, 2, 3, 4, 0] rfl)
              · have hbi := (sw_tb _ _).mpr h90
                have hAi := (hAc.2 i h78).2 hbi
                refine lv_aload_n hx hb dX0_advance_93 rfl (lv_at hl 0 rfl) ?_
                refine lv_iload hx hb dX0_advance_94 (lv_at hl 4 rfl) ?_
                refine lv_iload_n hx hb dX0_advance_96 rfl (lv_at hl 3 rfl) ?_
                refine lv_aload_n hx hb dX0_advance_97 rfl (lv_at hl 0 rfl) ?_
                refine va_get (D := D) (ci := 0) (v := .ref (ad 4)) (C := RX0) (T := TX0) (N := 17) hx hb hts in_X0 hown hK hP 0 rfl rfl 7 (by decide) (hts _ q37) (fun _ h9 => h9) rfl dX0_advance_98 ?_
                refine lv_iload hx hb dX0_advance_101 (lv_at hl 4 rfl) ?_
                refine sw_ild hx hb hK hP 5 4 rfl rfl (by omega) (by decide) (v := nI (fo i)) rfl dX0_advance_103 ?_
                refine sw_and hx hb dX0_advance_104 ?_
                refine sw_cvV (As := [.int (nI (i)), .int (nI (x &&& (fo i)))]) (rest := []) (C := RX0) (ci := 0) (q0 := 0) S (fun sz => (mX0_pass l h78 (Nat.lt_of_le_of_lt Nat.and_le_left hx24) (sw_lN_le hAi.1) (by have q := sw_hi_bd hAi.2 (fun b hb => Nat.le_of_lt (sw_P_lt hb)); omega) (fun j hj => sw_lN_le (hI j hj).1) (fun j hj => by have q := sw_hi_bd (hI j hj).2 (fun b hb => sw_src_le hb); omega) sz)) (cwV 2 hts (lw_V q155 q157 qs12 q20 q158) rfl rfl rfl (by decide +kernel) ⟨Nat.le_trans (Nat.le_of_ble_eq_true rfl) hRf, Nat.le_trans (Nat.le_of_ble_eq_true rfl) hRl⟩) hK hP hD hS hA rfl rfl rfl rfl hl.1 rfl (Nat.le_of_ble_eq_true rfl) dX0_advance_105 ⟨Nat.zero_le _, Nat.zero_le _⟩ (fun u H locs hr hP hD hS => ?_)
                obtain ⟨ne_105, nl_105⟩ := u
                have hP : va_P D vwCl (wX o ad kc Sz St Ct T L lk fp fo lp dn ac ea la ne_105 nl_105 eA lA) H := hP
                have hD : va_D A (wX o ad kc Sz St Ct T L lk fp fo lp dn ac ea la ne_105 nl_105 eA lA) := hD
                have hI' := sw_aI_s1 h78 h90 hAc hr hI
                refine lv_iinc (k := 4) (v := nI (i + 1)) (lv' := [(4, .int (nI (i + 1))), (0, .ref (o)), (1, .int (nI (sn))), (2, .int (nI (tn))), (3, .int (nI (x)))]) hx hb dX0_advance_108 hl rfl (nI_add _ 1) (by decide) rfl (fun ls hl => ?_)
                refine lv_goto (tgt := 74) hx hb dX0_advance_111 (by decide) ?_
                exact ihL74 (i + 1) (ne_105) (nl_105) (by omega) hI' (by omega) _ _ hP hD hS _ (lv_sub hl [1, 2, 3, 4, 0] rfl)
        exact L74 (24 - (0) + 1) (0) (n1) (l1) (by omega) hI24 (Nat.lt_succ_self _) _ _ hP hD hS _ (lv_sub hl [1, 2, 3, 4, 0] rfl)
      · refine lv_aload_n hx hb dX0_advance_16 rfl (lv_at hl 0 rfl) ?_
        refine va_get (D := D) (ci := 0) (v := .ref (ad 7)) (C := RX0) (T := TX0) (N := 17) hx hb hts in_X0 hown hK hP 0 rfl rfl 13 (by decide) (hts _ q43) (fun _ h9 => h9) rfl dX0_advance_17 ?_
        refine lv_iload hx hb dX0_advance_20 (lv_at hl 4 rfl) ?_
        refine lv_bipush (v := nI (60)) hx hb dX0_advance_22 (by decide) ?_
        refine sw_bst hx hb hK hP hD hS 8 7 rfl rfl (by omega) (by decide) (sw_naN (by omega)) (sw_updN _ _ _) dX0_advance_24 (fun H locs hP hD hS => ?_)
        have hP : va_P D vwCl (wX o ad kc Sz St Ct T L lk fp fo lp dn ac ea la (va_up n1 i 60) l1 eA lA) H := hP
        have hD : va_D A (wX o ad kc Sz St Ct T L lk fp fo lp dn ac ea la (va_up n1 i 60) l1 eA lA) := hD
        refine lv_aload_n hx hb dX0_advance_25 rfl (lv_at hl 0 rfl) ?_
        refine va_get (D := D) (ci := 0) (v := .ref (ad 8)) (C := RX0) (T := TX0) (N := 17) hx hb hts in_X0 hown hK hP 0 rfl rfl 14 (by decide) (hts _ q44) (fun _ h9 => h9) rfl dX0_advance_26 ?_
        refine lv_iload hx hb dX0_advance_29 (lv_at hl 4 rfl) ?_
        refine lv_iconst (v := zI (-1)) hx hb dX0_advance_31 (by decide) ?_
        refine sw_bst hx hb hK hP hD hS 9 8 rfl rfl (by omega) (by decide) (sw_naZ (by omega) (by omega)) (sw_updZ _ _ _) dX0_advance_32 (fun H locs hP hD hS => ?_)
        have hP : va_P D vwCl (wX o ad kc Sz St Ct T L lk fp fo lp dn ac ea la (va_up n1 i 60) (va_up l1 i (-1)) eA lA) H := hP
        have hD : va_D A (wX o ad kc Sz St Ct T L lk fp fo lp dn ac ea la (va_up n1 i 60) (va_up l1 i (-1)) eA lA) := hD
        refine lv_iload_n hx hb dX0_advance_33 rfl (lv_at hl 3 rfl) ?_
        refine lv_aload_n hx hb dX0_advance_34 rfl (lv_at hl 0 rfl) ?_
        refine va_get (D := D) (ci := 0) (v := .int (nI (fp))) (C := RX0) (T := TX0) (N := 17) hx hb hts in_X0 hown hK hP 0 rfl rfl 6 (by decide) (hts _ q36) (fun _ h9 => h9) rfl dX0_advance_35 ?_
        refine sw_and hx hb dX0_advance_38 ?_
        refine lv_iload hx hb dX0_advance_39 (lv_at hl 4 rfl) ?_
        refine sw_shr hx hb dX0_advance_41 (by omega) (by omega) ?_
        refine lv_iconst (v := nI (1)) hx hb dX0_advance_42 (by decide) ?_
        refine sw_and1 hx hb dX0_advance_43 ?_
        refine sw_ifeq (tgt := 65) hx hb dX0_advance_44 (by decide) (by omega) (fun h44 => ?_) (fun h44 => ?_)
        · have hI' := sw_aI_put (sw_src0_0 h44).1 (sw_src0_0 h44).2 hI
          refine lv_iinc (k := 4) (v := nI (i + 1)) (lv' := [(4, .int (nI (i + 1))), (0, .ref (o)), (1, .int (nI (sn))), (2, .int (nI (tn))), (3, .int (nI (x)))]) hx hb dX0_advance_65 hl rfl (nI_add _ 1) (by decide) rfl (fun ls hl => ?_)
          refine lv_goto (tgt := 9) hx hb dX0_advance_68 (by decide) ?_
          exact ihL9 (i + 1) (va_up n1 i 60) (va_up l1 i (-1)) (by omega) hI' (by omega) _ _ hP hD hS _ (lv_sub hl [1, 2, 3, 4, 0] rfl)
        · have hI' := sw_aI_put (sw_src0_1 (St := St) (Ct := Ct) (T := T) (ac := ac) (fo := fo) htn h44).1 (sw_src0_1 htn h44).2 hI
          rw [← bx_uu n1 i 60 tn, ← bx_uu l1 i (-1) ((tn : Nat) : Int)] at hI'
          refine lv_aload_n hx hb dX0_advance_47 rfl (lv_at hl 0 rfl) ?_
          refine va_get (D := D) (ci := 0) (v := .ref (ad 7)) (C := RX0) (T := TX0) (N := 17) hx hb hts in_X0 hown hK hP 0 rfl rfl 13 (by decide) (hts _ q43) (fun _ h9 => h9) rfl dX0_advance_48 ?_
          refine lv_iload hx hb dX0_advance_51 (lv_at hl 4 rfl) ?_
          refine lv_iload_n hx hb dX0_advance_53 rfl (lv_at hl 2 rfl) ?_
          refine lv_i2b (v := nI (tn)) hx hb dX0_advance_54 (sw_byN _ (by omega)) ?_
          refine sw_bst hx hb hK hP hD hS 8 7 rfl rfl (by omega) (by decide) (sw_naN (by omega)) (sw_updN _ _ _) dX0_advance_55 (fun H locs hP hD hS => ?_)
          have hP : va_P D vwCl (wX o ad kc Sz St Ct T L lk fp fo lp dn ac ea la (va_up (va_up n1 i 60) i tn) (va_up l1 i (-1)) eA lA) H := hP
          have hD : va_D A (wX o ad kc Sz St Ct T L lk fp fo lp dn ac ea la (va_up (va_up n1 i 60) i tn) (va_up l1 i (-1)) eA lA) := hD
          refine lv_aload_n hx hb dX0_advance_56 rfl (lv_at hl 0 rfl) ?_
          refine va_get (D := D) (ci := 0) (v := .ref (ad 8)) (C := RX0) (T := TX0) (N := 17) hx hb hts in_X0 hown hK hP 0 rfl rfl 14 (by decide) (hts _ q44) (fun _ h9 => h9) rfl dX0_advance_57 ?_
          refine lv_iload hx hb dX0_advance_60 (lv_at hl 4 rfl) ?_
          refine lv_iload_n hx hb dX0_advance_62 rfl (lv_at hl 2 rfl) ?_
          refine lv_i2b (v := nI (tn)) hx hb dX0_advance_63 (sw_byN _ (by omega)) ?_
          refine sw_bst hx hb hK hP hD hS 9 8 rfl rfl (by omega) (by decide) (sw_naN (by omega)) (sw_updZN _ _ _) dX0_advance_64 (fun H locs hP hD hS => ?_)
          have hP : va_P D vwCl (wX o ad kc Sz St Ct T L lk fp fo lp dn ac ea la (va_up (va_up n1 i 60) i tn) (va_up (va_up l1 i (-1)) i (((tn : Nat) : Int))) eA lA) H := hP
          have hD : va_D A (wX o ad kc Sz St Ct T L lk fp fo lp dn ac ea la (va_up (va_up n1 i 60) i tn) (va_up (va_up l1 i (-1)) i (((tn : Nat) : Int))) eA lA) := hD
          refine lv_iinc (k := 4) (v := nI (i + 1)) (lv' := [(4, .int (nI (i + 1))), (0, .ref (o)), (1, .int (nI (sn))), (2, .int (nI (tn))), (3, .int (nI (x)))]) hx hb dX0_advance_65 hl rfl (nI_add _ 1) (by decide) rfl (fun ls hl => ?_)
          refine lv_goto (tgt := 9) hx hb dX0_advance_68 (by decide) ?_
          exact ihL9 (i + 1) (va_up (va_up n1 i 60) i tn) (va_up (va_up l1 i (-1)) i (((tn : Nat) : Int))) (by omega) hI' (by omega) _ _ hP hD hS _ (lv_sub hl [1, 2, 3, 4, 0] rfl)
  exact L9 (24 - (0) + 1) (0) (ne) (nl) (by omega) sw_aI_0 (Nat.lt_succ_self _) _ _ hP hD hS _ (lv_sub hl [2, 3, 4, 1, 0] rfl)
set_option maxRecDepth 100000 in
theorem mX0_advance (l : Launch) {D : va_G} {o : Nat} {ad : Nat → Nat} {kc : Nat → ClassId} {Sz : Nat → Nat} {St : Nat → Nat} {Ct : Nat → Nat} {T : Nat → Nat} {L : Nat} {lk : Nat} {fp : Nat} {fo : Nat → Nat} {lp : Nat} {dn : Nat} {ac : Nat} {ea : Nat → Nat} {la : Nat → Int} {ne : Nat → Nat} {nl : Nat → Int} {eA : Nat → Int} {lA : Nat → Int} {sn : Nat} {tn : Nat} (hsn : sn = T tn) (htn : tn < 60) (hO : sw_Ok Sz St Ct T L) (hLk : sw_Lk Sz Ct fp fo lp) (hAc : sw_Ac Sz St Ct T tn ac ea la) (sz : Nat) : Met l yX0_advance (ws_ yX0_advance cX0_advance 5 (none)) ({ frames := 2, cells := 0, slots := 0, locals := 48 }) (sw_M D vwCl (wX o ad kc Sz St Ct T L lk fp fo lp dn ac ea la ne nl eA lA) (tyX kc) sz [.ref o, .int (nI (sn)), .int (nI (tn))]) (va_Qv (fun (u : Nat × (Nat → Nat) × (Nat → Int) × (Nat → Nat) × (Nat → Int)) => sw_Ac Sz St Ct T (tn + 1) u.1 u.2.1 u.2.2.1) (sw_B D vwCl (tyX kc) (va_A (wX o ad kc Sz St Ct T L lk fp fo lp dn ac ea la ne nl eA lA) sz) (fun u : Nat × (Nat → Nat) × (Nat → Int) × (Nat → Nat) × (Nat → Int) => wX o ad kc Sz St Ct T L lk fp fo lp dn (u.1) (u.2.1) (u.2.2.1) (u.2.2.2.1) (u.2.2.2.2) eA lA)) (va_A (wX o ad kc Sz St Ct T L lk fp fo lp dn ac ea la ne nl eA lA) sz)) 0 0 (va_A (wX o ad kc Sz St Ct T L lk fp fo lp dn ac ea la ne nl eA lA) sz) := sw_metV (by decide) (Nat.le_of_ble_eq_true rfl) (fun p e s m below meth c Q ls A S hK hP hD hA hl ret => bX0_advance S (Nat.le_refl _) (Nat.le_refl _) hK hP hD va_S.rf hA hsn htn hO hLk hAc ret hl) sz
set_option maxHeartbeats 4000000 in
set_option maxRecDepth 100000 in
theorem bX0_note {D : va_G} {o : Nat} {ad : Nat → Nat} {kc : Nat → ClassId} {Sz : Nat → Nat} {St : Nat → Nat} {Ct : Nat → Nat} {T : Nat → Nat} {L : Nat} {lk : Nat} {fp : Nat} {fo : Nat → Nat} {lp : Nat} {dn : Nat} {ac : Nat} {ea : Nat → Nat} {la : Nat → Int} {ne : Nat → Nat} {nl : Nat → Int} {eA : Nat → Int} {lA : Nat → Int} {tn : Nat} (S : CallFix p m c cX0_note 7 s args lw_all RX0) (hRf : 0 ≤ R.frames) (hRl : 0 ≤ R.locals) (hK : va_K D vwCl (tyX kc) s) (hP : va_P D vwCl (wX o ad kc Sz St Ct T L lk fp fo lp dn ac ea la ne nl eA lA) H) (hD : va_D A (wX o ad kc Sz St Ct T L lk fp fo lp dn ac ea la ne nl eA lA)) (hS : va_S A H0 H locs) (hA : ∀ q, H0.size ≤ q → A q) (htn : tn < 60) (hO : sw_Ok Sz St Ct T L) (hLk : sw_Lk Sz Ct fp fo lp) (hAc : sw_Ac Sz St Ct T (tn + 1) ac ea la) (hRs : sw_Rs Sz St Ct T tn eA lA) (ret : ∀ (pc : Nat) (ls : Array Slot) (u : (Nat → Int) × (Nat → Int)) (H1 : Heap) (locs1 : List Loc), decode cX0_note pc = .ok (.return_, 1) → (sw_Rs Sz St Ct T (tn + 1) u.1 u.2) → va_P D vwCl ((fun u : (Nat → Int) × (Nat → Int) => wX o ad kc Sz St Ct T L lk fp fo lp dn ac ea la ne nl (u.1) (u.2)) u) H1 → va_D A ((fun u : (Nat → Int) × (Nat → Int) => wX o ad kc Sz St Ct T L lk fp fo lp dn ac ea la ne nl (u.1) (u.2)) u) → va_S A H0 H1 locs1 → W p l e R s m args below meth c H1 locs1 0 0 Q (F0 m pc ls [])) (hl : lv_has ls 7 [(0, .ref (o)), (1, .int (nI (tn)))]) : W p l e R s m args below meth c H locs 0 0 Q (F0 m 0 ls []) := by
  have hx := S.1
  have hb := S.2.1
  have hown := S.2.2.2.1
  have hts := S.2.2.2.2
  obtain ⟨hs, ht, hc, hT, hL⟩ := hO
  have hac := hAc.1
  have hal : ac &&& lp < 2 ^ 24 := Nat.lt_of_le_of_lt Nat.and_le_left hac
  refine lv_iconst (v := nI (0)) hx hb dX0_note_0 (by decide) ?_
  refine lv_istore_n (lv' := [(2, .int (nI (0))), (0, .ref (o)), (1, .int (nI (tn)))]) hx hb dX0_note_1 rfl hl (by decide) rfl (fun ls hl => ?_)
  have L2 : ∀ (n : Nat) (pn : Nat) (e1 : Nat → Int) (l1 : Nat → Int), (pn ≤ 4) → (sw_RsI Sz St Ct T tn pn e1 l1) → 4 - pn < n → ∀ (H : Heap) (locs : List Loc), va_P D vwCl (wX o ad kc Sz St Ct T L lk fp fo lp dn ac ea la ne nl e1 l1) H → va_D A (wX o ad kc Sz St Ct T L lk fp fo lp dn ac ea la ne nl e1 l1) → va_S A H0 H locs → ∀ (ls : Array Slot), lv_has ls 7 [(0, .ref (o)), (1, .int (nI (tn))), (2, .int (nI (pn)))] → W p l e R s m args below meth c H locs 0 0 Q (F0 m 2 ls []) := by
    intro n
    induction n with
    | zero => intro pn e1 l1 _ _ hm; exact absurd hm (Nat.not_lt_zero _)
    | succ n ihL2 =>
      intro pn e1 l1 hp hI hmL2 H locs hP hD hS ls hl
      refine lv_iload_n hx hb dX0_note_2 rfl (lv_at hl 2 rfl) ?_
      refine lv_iconst (v := nI (4)) hx hb dX0_note_3 (by decide) ?_
      refine sw_cge (tgt := 148) hx hb dX0_note_4 (by decide) (by omega) (by omega) (fun h4 => ?_) (fun h4 => ?_)
      · exact ret _ _ (e1, l1) _ _ dX0_note_148 (by rw [show pn = 4 by omega] at hI; exact sw_Rs_of hI) hP hD hS
      · have hsp := hs pn
        refine lv_bipush (v := nI (60)) hx hb dX0_note_7 (by decide) ?_
        refine lv_istore_n (lv' := [(3, .int (nI (60))), (0, .ref (o)), (1, .int (nI (tn))), (2, .int (nI (pn)))]) hx hb dX0_note_9 rfl hl (by decide) rfl (fun ls hl => ?_)
        refine lv_iconst (v := zI (-1)) hx hb dX0_note_10 (by decide) ?_
        refine lv_istore (lv' := [(4, .int (zI (-1))), (3, .int (nI (60))), (0, .ref (o)), (1, .int (nI (tn))), (2, .int (nI (pn)))]) hx hb dX0_note_11 hl (by decide) rfl (fun ls hl => ?_)
        refine lv_iconst (v := nI (0)) hx hb dX0_note_13 (by decide) ?_
        refine lv_istore (lv' := [(5, .int (nI (0))), (4, .int (zI (-1))), (3, .int (nI (60))), (0, .ref (o)), (1, .int (nI (tn))), (2, .int (nI (pn)))]) hx hb dX0_note_14 hl (by decide) rfl (fun ls hl => ?_)
        have L16 : ∀ (n : Nat) (kn : Nat) (le : Nat) (gr : Int), (kn ≤ Sz pn) → (sw_lN (sw_nQ St Ct T ac lp (tn + 1) pn kn) le) → (sw_hi (sw_nQ St Ct T ac lp (tn + 1) pn kn) gr) → Sz pn - kn < n → ∀ (H : Heap) (locs : List Loc), va_P D vwCl (wX o ad kc Sz St Ct T L lk fp fo lp dn ac ea la ne nl e1 l1) H → va_D A (wX o ad kc Sz St Ct T L lk fp fo lp dn ac ea la ne nl e1 l1) → va_S A H0 H locs → ∀ (ls : Array Slot), lv_has ls 7 [(0, .ref (o)), (1, .int (nI (tn))), (2, .int (nI (pn))), (3, .int (nI (le))), (4, .int (zI (gr))), (5, .int (nI (kn)))] → W p l e R s m args below meth c H locs 0 0 Q (F0 m 16 ls []) := by
          intro n
          induction n with
          | zero => intro kn le gr _ _ _ hm; exact absurd hm (Nat.not_lt_zero _)
          | succ n ihL16 =>
            intro kn le gr hk hLe hGr hmL16 H locs hP hD hS ls hl
            have hle := sw_lN_le hLe
            have hgr : -1 ≤ gr ∧ gr ≤ 60 := by have q := sw_hi_bd hGr (n := 60) (fun b hb => by obtain ⟨i, -, -, -, -, q⟩ := hb; have := sw_P_lt q; omega); omega
            refine lv_iload hx hb dX0_note_16 (lv_at hl 5 rfl) ?_
            refine lv_aload_n hx hb dX0_note_18 rfl (lv_at hl 0 rfl) ?_
            refine va_get (D := D) (ci := 0) (v := .ref (ad 0)) (C := RX0) (T := TX0) (N := 17) hx hb hts in_X0 hown hK hP 0 rfl rfl 0 (by decide) (hts _ q30) (fun _ h9 => h9) rfl dX0_note_19 ?_
            refine lv_iload_n hx hb dX0_note_22 rfl (lv_at hl 2 rfl) ?_
            refine sw_bld hx hb hK hP 1 0 rfl rfl (by omega) (by decide) (v := nI (Sz pn)) rfl dX0_note_23 ?_
            refine sw_cge (tgt := 108) hx hb dX0_note_24 (by decide) (by omega) (by omega) (fun h24 => ?_) (fun h24 => ?_)
            · have hQe := sw_nQ_e hc hs h4 (show kn = Sz pn by omega) hLk hAc
              have hH := sw_hi_iff hQe hGr
              refine lv_aload_n hx hb dX0_note_108 rfl (lv_at hl 0 rfl) ?_
              refine va_get (D := D) (ci := 0) (v := .ref (ad 9)) (C := RX0) (T := TX0) (N := 17) hx hb hts in_X0 hown hK hP 0 rfl rfl 15 (by decide) (hts _ q45) (fun _ h9 => h9) rfl dX0_note_109 ?_
              refine lv_iload_n hx hb dX0_note_112 rfl (lv_at hl 1 rfl) ?_
              refine lv_iconst (v := nI (4)) hx hb dX0_note_113 (by decide) ?_
              refine sw_mul hx hb dX0_note_114 ?_
              refine lv_iload_n hx hb dX0_note_115 rfl (lv_at hl 2 rfl) ?_
              refine sw_add hx hb dX0_note_116 ?_
              refine lv_iload hx hb dX0_note_117 (lv_at hl 4 rfl) ?_
              refine sw_zge (tgt := 126) hx hb dX0_note_119 (by decide) (zI_toInt (z := gr) (by omega) (by omega)) (fun h119 => ?_) (fun h119 => ?_)
              · have hI' := sw_RsI_s h4 (sw_lo_iff hQe (sw_lo_of hLe hGr h119)) hH hI
                refine lv_iload_n hx hb dX0_note_126 rfl (lv_at hl 3 rfl) ?_
                refine lv_i2b (v := nI (le)) hx hb dX0_note_127 (sw_byN _ (by omega)) ?_
                refine sw_bst hx hb hK hP hD hS 10 9 rfl rfl (by omega) (by decide) (sw_naN (by omega)) (sw_updZN _ _ _) dX0_note_128 (fun H locs hP hD hS => ?_)
                have hP : va_P D vwCl (wX o ad kc Sz St Ct T L lk fp fo lp dn ac ea la ne nl (va_up e1 ((tn * 4) + pn) (((le : Nat) : Int))) l1) H := hP
                have hD : va_D A (wX o ad kc Sz St Ct T L lk fp fo lp dn ac ea la ne nl (va_up e1 ((tn * 4) + pn) (((le : Nat) : Int))) l1) := hD
                refine lv_aload_n hx hb dX0_note_129 rfl (lv_at hl 0 rfl) ?_
                refine va_get (D := D) (ci := 0) (v := .ref (ad 10)) (C := RX0) (T := TX0) (N := 17) hx hb hts in_X0 hown hK hP 0 rfl rfl 16 (by decide) (hts _ q46) (fun _ h9 => h9) rfl dX0_note_130 ?_
                refine lv_iload_n hx hb dX0_note_133 rfl (lv_at hl 1 rfl) ?_
                refine lv_iconst (v := nI (4)) hx hb dX0_note_134 (by decide) ?_
                refine sw_mul hx hb dX0_note_135 ?_
                refine lv_iload_n hx hb dX0_note_136 rfl (lv_at hl 2 rfl) ?_
                refine sw_add hx hb dX0_note_137 ?_
                refine lv_iload hx hb dX0_note_138 (lv_at hl 4 rfl) ?_
                refine lv_i2b (v := zI (gr)) hx hb dX0_note_140 (sw_byZ (by omega) (by omega)) ?_
                refine sw_bst hx hb hK hP hD hS 11 10 rfl rfl (by omega) (by decide) (sw_naZ (by omega) (by omega)) (sw_updZ _ _ _) dX0_note_141 (fun H locs hP hD hS => ?_)
                have hP : va_P D vwCl (wX o ad kc Sz St Ct T L lk fp fo lp dn ac ea la ne nl (va_up e1 ((tn * 4) + pn) (((le : Nat) : Int))) (va_up l1 ((tn * 4) + pn) gr)) H := hP
                have hD : va_D A (wX o ad kc Sz St Ct T L lk fp fo lp dn ac ea la ne nl (va_up e1 ((tn * 4) + pn) (((le : Nat) : Int))) (va_up l1 ((tn * 4) + pn) gr)) := hD
                refine lv_iinc (k := 2) (v := nI (pn + 1)) (lv' := [(2, .int (nI (pn + 1))), (0, .ref (o)), (1, .int (nI (tn))), (3, .int (nI (le))), (4, .int (zI (gr))), (5, .int (nI (kn)))]) hx hb dX0_note_142 hl rfl (nI_add _ 1) (by decide) rfl (fun ls hl => ?_)
                refine lv_goto (tgt := 2) hx hb dX0_note_145 (by decide) ?_
                exact ihL2 (pn + 1) (va_up e1 ((tn * 4) + pn) (((le : Nat) : Int))) (va_up l1 ((tn * 4) + pn) gr) (by omega) hI' (by omega) _ _ hP hD hS _ (lv_sub hl [1, 2, 0] rfl)
              · have hI' := sw_RsI_s h4 (sw_lo_iff hQe (sw_lo_m1 hGr h119)) hH hI
                refine lv_iconst (v := zI (-1)) hx hb dX0_note_122 (by decide) ?_
                refine lv_goto (tgt := 127) hx hb dX0_note_123 (by decide) ?_
                refine lv_i2b (v := zI (-1)) hx hb dX0_note_127 (sw_byZ (by omega) (by omega)) ?_
                refine sw_bst hx hb hK hP hD hS 10 9 rfl rfl (by omega) (by decide) (sw_naZ (by omega) (by omega)) (sw_updZ _ _ _) dX0_note_128 (fun H locs hP hD hS => ?_)
                have hP : va_P D vwCl (wX o ad kc Sz St Ct T L lk fp fo lp dn ac ea la ne nl (va_up e1 ((tn * 4) + pn) (-1)) l1) H := hP
                have hD : va_D A (wX o ad kc Sz St Ct T L lk fp fo lp dn ac ea la ne nl (va_up e1 ((tn * 4) + pn) (-1)) l1) := hD
                refine lv_aload_n hx hb dX0_note_129 rfl (lv_at hl 0 rfl) ?_
                refine va_get (D := D) (ci := 0) (v := .ref (ad 10)) (C := RX0) (T := TX0) (N := 17) hx hb hts in_X0 hown hK hP 0 rfl rfl 16 (by decide) (hts _ q46) (fun _ h9 => h9) rfl dX0_note_130 ?_
                refine lv_iload_n hx hb dX0_note_133 rfl (lv_at hl 1 rfl) ?_
                refine lv_iconst (v := nI (4)) hx hb dX0_note_134 (by decide) ?_
                refine sw_mul hx hb dX0_note_135 ?_
                refine lv_iload_n hx hb dX0_note_136 rfl (lv_at hl 2 rfl) ?_
                refine sw_add hx hb dX0_note_137 ?_
                refine lv_iload hx hb dX0_note_138 (lv_at hl 4 rfl) ?_
                refine lv_i2b (v := zI (gr)) hx hb dX0_note_140 (sw_byZ (by omega) (by omega)) ?_
                refine sw_bst hx hb hK hP hD hS 11 10 rfl rfl (by omega) (by decide) (sw_naZ (by omega) (by omega)) (sw_updZ _ _ _) dX0_note_141 (fun H locs hP hD hS => ?_)
                have hP : va_P D vwCl (wX o ad kc Sz St Ct T L lk fp fo lp dn ac ea la ne nl (va_up e1 ((tn * 4) + pn) (-1)) (va_up l1 ((tn * 4) + pn) gr)) H := hP
                have hD : va_D A (wX o ad kc Sz St Ct T L lk fp fo lp dn ac ea la ne nl (va_up e1 ((tn * 4) + pn) (-1)) (va_up l1 ((tn * 4) + pn) gr)) := hD
                refine lv_iinc (k := 2) (v := nI (pn + 1)) (lv' := [(2, .int (nI (pn + 1))), (0, .ref (o)), (1, .int (nI (tn))), (3, .int (nI (le))), (4, .int (zI (gr))), (5, .int (nI (kn)))]) hx hb dX0_note_142 hl rfl (nI_add _ 1) (by decide) rfl (fun ls hl => ?_)
                refine lv_goto (tgt := 2) hx hb dX0_note_145 (by decide) ?_
                exact ihL2 (pn + 1) (va_up e1 ((tn * 4) + pn) (-1)) (va_up l1 ((tn * 4) + pn) gr) (by omega) hI' (by omega) _ _ hP hD hS _ (lv_sub hl [1, 2, 0] rfl)
            · refine lv_iload_n hx hb dX0_note_27 rfl (lv_at hl 2 rfl) ?_
              refine lv_bipush (v := nI (6)) hx hb dX0_note_28 (by decide) ?_
              refine sw_mul hx hb dX0_note_30 ?_
              refine lv_iload hx hb dX0_note_31 (lv_at hl 5 rfl) ?_
              refine sw_add hx hb dX0_note_33 ?_
              refine lv_istore (lv' := [(6, .int (nI ((pn * 6) + kn))), (0, .ref (o)), (1, .int (nI (tn))), (2, .int (nI (pn))), (3, .int (nI (le))), (4, .int (zI (gr))), (5, .int (nI (kn)))]) hx hb dX0_note_34 hl (by decide) rfl (fun ls hl => ?_)
              refine lv_aload_n hx hb dX0_note_36 rfl (lv_at hl 1 rfl) ?_
              refine va_get (D := D) (ci := 0) (v := .int (nI (ac))) (C := RX0) (T := TX0) (N := 17) hx hb hts in_X0 hown hK hP 0 rfl rfl 10 (by decide) (hts _ q40) (fun _ h9 => h9) rfl dX0_note_37 ?_
              refine lv_aload_n hx hb dX0_note_40 rfl (lv_at hl 1 rfl) ?_
              refine va_get (D := D) (ci := 0) (v := .int (nI (lp))) (C := RX0) (T := TX0) (N := 17) hx hb hts in_X0 hown hK hP 0 rfl rfl 8 (by decide) (hts _ q38) (fun _ h9 => h9) rfl dX0_note_41 ?_
              refine sw_and hx hb dX0_note_44 ?_
              refine lv_iload hx hb dX0_note_45 (lv_at hl 0 rfl) ?_
              refine sw_shr hx hb dX0_note_47 (by omega) (by omega) ?_
              refine lv_iconst (v := nI (1)) hx hb dX0_note_48 (by decide) ?_
              refine sw_and1 hx hb dX0_note_49 ?_
              refine sw_ifeq (tgt := 102) hx hb dX0_note_50 (by decide) (by omega) (fun h50 => ?_) (fun h50 => ?_)
              · have hLe' := sw_lN_iff (sw_nQ_s0 h50) hLe
                have hGr' := sw_hi_iff (sw_nQ_s0 h50) hGr
                refine lv_iinc (k := 6) (v := nI (kn + 1)) (lv' := [(5, .int (nI (kn + 1))), (6, .int (nI ((pn * 6) + kn))), (0, .ref (o)), (1, .int (nI (tn))), (2, .int (nI (pn))), (3, .int (nI (le))), (4, .int (zI (gr)))]) hx hb dX0_note_102 hl rfl (nI_add _ 1) (by decide) rfl (fun ls hl => ?_)
                refine lv_goto (tgt := 16) hx hb dX0_note_105 (by decide) ?_
                exact ihL16 (kn + 1) (le) (gr) (by omega) hLe' hGr' (by omega) _ _ hP hD hS _ (lv_sub hl [2, 3, 4, 5, 6, 0] rfl)
              · have hbi := (sw_tb _ _).mpr h50
                rw [Nat.testBit_and, Bool.and_eq_true] at hbi
                have hAi := (hAc.2 (pn * 6 + kn) (by omega)).2 hbi.1
                have hle2 := sw_lN_le hAi.1
                have hgr2 := sw_hi_bd hAi.2 (fun b hb => Nat.le_of_lt (sw_P_lt hb))
                have hLe0 := sw_lN_iff (sw_nQ_s1 h50) (sw_lN_or hLe hAi.1)
                have hGr0 := sw_hi_iff (sw_nQ_s1 h50) (sw_hi_or hGr hAi.2)
                refine lv_aload_n hx hb dX0_note_53 rfl (lv_at hl 1 rfl) ?_
                refine va_get (D := D) (ci := 0) (v := .ref (ad 5)) (C := RX0) (T := TX0) (N := 17) hx hb hts in_X0 hown hK hP 0 rfl rfl 11 (by decide) (hts _ q41) (fun _ h9 => h9) rfl dX0_note_54 ?_
                refine lv_iload hx hb dX0_note_57 (lv_at hl 0 rfl) ?_
                refine sw_bld hx hb hK hP 6 5 rfl rfl (by omega) (by decide) (v := nI (ea ((pn * 6) + kn))) rfl dX0_note_59 ?_
                refine lv_iload_n hx hb dX0_note_60 rfl (lv_at hl 4 rfl) ?_
                refine sw_cge (tgt := 74) hx hb dX0_note_61 (by decide) (by omega) (by omega) (fun h61 => ?_) (fun h61 => ?_)
                · rw [if_neg (by omega)] at hLe0
                  have hLe' := hLe0
                  refine lv_iload_n hx hb dX0_note_74 rfl (lv_at hl 4 rfl) ?_
                  refine lv_istore_n (lv' := [(3, .int (nI (le))), (6, .int (nI ((pn * 6) + kn))), (0, .ref (o)), (1, .int (nI (tn))), (2, .int (nI (pn))), (4, .int (zI (gr))), (5, .int (nI (kn)))]) hx hb dX0_note_75 rfl hl (by decide) rfl (fun ls hl => ?_)
                  refine lv_aload_n hx hb dX0_note_76 rfl (lv_at hl 2 rfl) ?_
                  refine va_get (D := D) (ci := 0) (v := .ref (ad 6)) (C := RX0) (T := TX0) (N := 17) hx hb hts in_X0 hown hK hP 0 rfl rfl 12 (by decide) (hts _ q42) (fun _ h9 => h9) rfl dX0_note_77 ?_
                  refine lv_iload hx hb dX0_note_80 (lv_at hl 1 rfl) ?_
                  refine sw_bld hx hb hK hP 7 6 rfl rfl (by omega) (by decide) (v := zI (la ((pn * 6) + kn))) rfl dX0_note_82 ?_
                  refine lv_iload hx hb dX0_note_83 (lv_at hl 5 rfl) ?_
                  refine sw_dle (tgt := 98) hx hb dX0_note_85 (by decide) (zI_toInt (z := la ((pn * 6) + kn)) (by omega) (by omega)) (zI_toInt (z := gr) (by omega) (by omega)) (fun h85 => ?_) (fun h85 => ?_)
                  · rw [if_neg (by omega)] at hGr0
                    have hGr' := hGr0
                    refine lv_iload hx hb dX0_note_98 (lv_at hl 5 rfl) ?_
                    refine lv_istore (lv' := [(4, .int (zI (gr))), (3, .int (nI (le))), (6, .int (nI ((pn * 6) + kn))), (0, .ref (o)), (1, .int (nI (tn))), (2, .int (nI (pn))), (5, .int (nI (kn)))]) hx hb dX0_note_100 hl (by decide) rfl (fun ls hl => ?_)
                    refine lv_iinc (k := 6) (v := nI (kn + 1)) (lv' := [(5, .int (nI (kn + 1))), (4, .int (zI (gr))), (3, .int (nI (le))), (6, .int (nI ((pn * 6) + kn))), (0, .ref (o)), (1, .int (nI (tn))), (2, .int (nI (pn)))]) hx hb dX0_note_102 hl rfl (nI_add _ 1) (by decide) rfl (fun ls hl => ?_)
                    refine lv_goto (tgt := 16) hx hb dX0_note_105 (by decide) ?_
                    exact ihL16 (kn + 1) (le) (gr) (by omega) hLe' hGr' (by omega) _ _ hP hD hS _ (lv_sub hl [4, 5, 6, 2, 1, 0] rfl)
                  · rw [if_pos h85] at hGr0
                    have hGr' := hGr0
                    refine lv_aload_n hx hb dX0_note_88 rfl (lv_at hl 2 rfl) ?_
                    refine va_get (D := D) (ci := 0) (v := .ref (ad 6)) (C := RX0) (T := TX0) (N := 17) hx hb hts in_X0 hown hK hP 0 rfl rfl 12 (by decide) (hts _ q42) (fun _ h9 => h9) rfl dX0_note_89 ?_
                    refine lv_iload hx hb dX0_note_92 (lv_at hl 1 rfl) ?_
                    refine sw_bld hx hb hK hP 7 6 rfl rfl (by omega) (by decide) (v := zI (la ((pn * 6) + kn))) rfl dX0_note_94 ?_
                    refine lv_goto (tgt := 100) hx hb dX0_note_95 (by decide) ?_
                    refine lv_istore (lv' := [(4, .int (zI (la ((pn * 6) + kn)))), (3, .int (nI (le))), (6, .int (nI ((pn * 6) + kn))), (0, .ref (o)), (1, .int (nI (tn))), (2, .int (nI (pn))), (5, .int (nI (kn)))]) hx hb dX0_note_100 hl (by decide) rfl (fun ls hl => ?_)
                    refine lv_iinc (k := 6) (v := nI (kn + 1)) (lv' := [(5, .int (nI (kn + 1))), (4, .int (zI (la ((pn * 6) + kn)))), (3, .int (nI (le))), (6, .int (nI ((pn * 6) + kn))), (0, .ref (o)), (1, .int (nI (tn))), (2, .int (nI (pn)))]) hx hb dX0_note_102 hl rfl (nI_add _ 1) (by decide) rfl (fun ls hl => ?_)
                    refine lv_goto (tgt := 16) hx hb dX0_note_105 (by decide) ?_
                    exact ihL16 (kn + 1) (le) (la ((pn * 6) + kn)) (by omega) hLe' hGr' (by omega) _ _ hP hD hS _ (lv_sub hl [4, 5, 6, 2, 1, 0] rfl)
                · rw [if_pos h61] at hLe0
                  have hLe' := hLe0
                  refine lv_aload_n hx hb dX0_note_64 rfl (lv_at hl 1 rfl) ?_
                  refine va_get (D := D) (ci := 0) (v := .ref (ad 5)) (C := RX0) (T := TX0) (N := 17) hx hb hts in_X0 hown hK hP 0 rfl rfl 11 (by decide) (hts _ q41) (fun _ h9 => h9) rfl dX0_note_65 ?_
                  refine lv_iload hx hb dX0_note_68 (lv_at hl 0 rfl) ?_
                  refine sw_bld hx hb hK hP 6 5 rfl rfl (by omega) (by decide) (v := nI (ea ((pn * 6) + kn))) rfl dX0_note_70 ?_
                  refine lv_goto (tgt := 75) hx hb dX0_note_71 (by decide) ?_
                  refine lv_istore_n (lv' := [(3, .int (nI (ea ((pn * 6) + kn)))), (6, .int (nI ((pn * 6) + kn))), (0, .ref (o)), (1, .int (nI (tn))), (2, .int (nI (pn))), (4, .int (zI (gr))), (5, .int (nI (kn)))]) hx hb dX0_note_75 rfl hl (by decide) rfl (fun ls hl => ?_)
                  refine lv_aload_n hx hb dX0_note_76 rfl (lv_at hl 2 rfl) ?_
                  refine va_get (D := D) (ci := 0) (v := .ref (ad 6)) (C := RX0) (T := TX0) (N := 17) hx hb hts in_X0 hown hK hP 0 rfl rfl 12 (by decide) (hts _ q42) (fun _ h9 => h9) rfl dX0_note_77 ?_
                  refine lv_iload hx hb dX0_note_80 (lv_at hl 1 rfl) ?_
                  refine sw_bld hx hb hK hP 7 6 rfl rfl (by omega) (by decide) (v := zI (la ((pn * 6) + kn))) rfl dX0_note_82 ?_
                  refine lv_iload hx hb dX0_note_83 (lv_at hl 5 rfl) ?_
                  refine sw_dle (tgt := 98) hx hb dX0_note_85 (by decide) (zI_toInt (z := la ((pn * 6) + kn)) (by omega) (by omega)) (zI_toInt (z := gr) (by omega) (by omega)) (fun h85 => ?_) (fun h85 => ?_)
                  · rw [if_neg (by omega)] at hGr0
                    have hGr' := hGr0
                    refine lv_iload hx hb dX0_note_98 (lv_at hl 5 rfl) ?_
                    refine lv_istore (lv' := [(4, .int (zI (gr))), (3, .int (nI (ea ((pn * 6) + kn)))), (6, .int (nI ((pn * 6) + kn))), (0, .ref (o)), (1, .int (nI (tn))), (2, .int (nI (pn))), (5, .int (nI (kn)))]) hx hb dX0_note_100 hl (by decide) rfl (fun ls hl => ?_)
                    refine lv_iinc (k := 6) (v := nI (kn + 1)) (lv' := [(5, .int (nI (kn + 1))), (4, .int (zI (gr))), (3, .int (nI (ea ((pn * 6) + kn)))), (6, .int (nI ((pn * 6) + kn))), (0, .ref (o)), (1, .int (nI (tn))), (2, .int (nI (pn)))]) hx hb dX0_note_102 hl rfl (nI_add _ 1) (by decide) rfl (fun ls hl => ?_)
                    refine lv_goto (tgt := 16) hx hb dX0_note_105 (by decide) ?_
                    exact ihL16 (kn + 1) (ea ((pn * 6) + kn)) (gr) (by omega) hLe' hGr' (by omega) _ _ hP hD hS _ (lv_sub hl [4, 5, 6, 2, 1, 0] rfl)
                  · rw [if_pos h85] at hGr0
                    have hGr' := hGr0
                    refine lv_aload_n hx hb dX0_note_88 rfl (lv_at hl 2 rfl) ?_
                    refine va_get (D := D) (ci := 0) (v := .ref (ad 6)) (C := RX0) (T := TX0) (N := 17) hx hb hts in_X0 hown hK hP 0 rfl rfl 12 (by decide) (hts _ q42) (fun _ h9 => h9) rfl dX0_note_89 ?_
                    refine lv_iload hx hb dX0_note_92 (lv_at hl 1 rfl) ?_
                    refine sw_bld hx hb hK hP 7 6 rfl rfl (by omega) (by decide) (v := zI (la ((pn * 6) + kn))) rfl dX0_note_94 ?_
                    refine lv_goto (tgt := 100) hx hb dX0_note_95 (by decide) ?_
                    refine lv_istore (lv' := [(4, .int (zI (la ((pn * 6) + kn)))), (3, .int (nI (ea ((pn * 6) + kn)))), (6, .int (nI ((pn * 6) + kn))), (0, .ref (o)), (1, .int (nI (tn))), (2, .int (nI (pn))), (5, .int (nI (kn)))]) hx hb dX0_note_100 hl (by decide) rfl (fun ls hl => ?_)
                    refine lv_iinc (k := 6) (v := nI (kn + 1)) (lv' := [(5, .int (nI (kn + 1))), (4, .int (zI (la ((pn * 6) + kn)))), (3, .int (nI (ea ((pn * 6) + kn)))), (6, .int (nI ((pn * 6) + kn))), (0, .ref (o)), (1, .int (nI (tn))), (2, .int (nI (pn)))]) hx hb dX0_note_102 hl rfl (nI_add _ 1) (by decide) rfl (fun ls hl => ?_)
                    refine lv_goto (tgt := 16) hx hb dX0_note_105 (by decide) ?_
                    exact ihL16 (kn + 1) (ea ((pn * 6) + kn)) (la ((pn * 6) + kn)) (by omega) hLe' hGr' (by omega) _ _ hP hD hS _ (lv_sub hl [4, 5, 6, 2, 1, 0] rfl)
        exact L16 (Sz pn - (0) + 1) (0) (60) (-1) (by omega) sw_nQ_0.1 sw_nQ_0.2 (Nat.lt_succ_self _) _ _ hP hD hS _ (lv_sub hl [3, 4, 5, 2, 1, 0] rfl)
  exact L2 (4 - (0) + 1) (0) (eA) (lA) (by omega) (sw_RsI_of hRs) (Nat.lt_succ_self _) _ _ hP hD hS _ (lv_sub hl [1, 2, 0] rfl)
set_option maxRecDepth 100000 in
theorem mX0_note (l : Launch) {D : va_G} {o : Nat} {ad : Nat → Nat} {kc : Nat → ClassId} {Sz : Nat → Nat} {St : Nat → Nat} {Ct : Nat → Nat} {T : Nat → Nat} {L : Nat} {lk : Nat} {fp : Nat} {fo : Nat → Nat} {lp : Nat} {dn : Nat} {ac : Nat} {ea : Nat → Nat} {la : Nat → Int} {ne : Nat → Nat} {nl : Nat → Int} {eA : Nat → Int} {lA : Nat → Int} {tn : Nat} (htn : tn < 60) (hO : sw_Ok Sz St Ct T L) (hLk : sw_Lk Sz Ct fp fo lp) (hAc : sw_Ac Sz St Ct T (tn + 1) ac ea la) (hRs : sw_Rs Sz St Ct T tn eA lA) (sz : Nat) : Met l yX0_note (ws_ yX0_note cX0_note 7 (none)) ({ frames := 0, cells := 0, slots := 0, locals := 0 }) (sw_M D vwCl (wX o ad kc Sz St Ct T L lk fp fo lp dn ac ea la ne nl eA lA) (tyX kc) sz [.ref o, .int (nI (tn))]) (va_Qv (fun (u : (Nat → Int) × (Nat → Int)) => sw_Rs Sz St Ct T (tn + 1) u.1 u.2) (sw_B D vwCl (tyX kc) (va_A (wX o ad kc Sz St Ct T L lk fp fo lp dn ac ea la ne nl eA lA) sz) (fun u : (Nat → Int) × (Nat → Int) => wX o ad kc Sz St Ct T L lk fp fo lp dn ac ea la ne nl (u.1) (u.2))) (va_A (wX o ad kc Sz St Ct T L lk fp fo lp dn ac ea la ne nl eA lA) sz)) 0 0 (va_A (wX o ad kc Sz St Ct T L lk fp fo lp dn ac ea la ne nl eA lA) sz) := sw_metV (by decide) (Nat.le_of_ble_eq_true rfl) (fun p e s m below meth c Q ls A S hK hP hD hA hl ret => bX0_note S (Nat.le_refl _) (Nat.le_refl _) hK hP hD va_S.rf hA htn hO hLk hAc hRs ret hl) sz
set_option maxHeartbeats 4000000 in
set_option maxRecDepth 100000 in
theorem bX0_goThrough {D : va_G} {o : Nat} {ad : Nat → Nat} {kc : Nat → ClassId} {Sz : Nat → Nat} {St : Nat → Nat} {Ct : Nat → Nat} {T : Nat → Nat} {L : Nat} {lk : Nat} {fp : Nat} {fo : Nat → Nat} {lp : Nat} {dn : Nat} {ac : Nat} {ea : Nat → Nat} {la : Nat → Int} {ne : Nat → Nat} {nl : Nat → Int} {eA : Nat → Int} {lA : Nat → Int} (S : CallFix p m c cX0_goThrough 2 s args lw_all RX0) (hRf : 3 ≤ R.frames) (hRl : 72 ≤ R.locals) (hK : va_K D vwCl (tyX kc) s) (hP : va_P D vwCl (wX o ad kc Sz St Ct T L lk fp fo lp dn ac ea la ne nl eA lA) H) (hD : va_D A (wX o ad kc Sz St Ct T L lk fp fo lp dn ac ea la ne nl eA lA)) (hS : va_S A H0 H locs) (hA : ∀ q, H0.size ≤ q → A q) (hO : sw_Ok Sz St Ct T L) (hCa : sw_Ca Sz St Ct T L lk fp fo lp dn ac ea la eA lA) (ret : ∀ (pc : Nat) (ls : Array Slot) (u : Nat × Nat × (Nat → Nat) × Nat × Nat × Nat × (Nat → Nat) × (Nat → Int) × (Nat → Nat) × (Nat → Int) × (Nat → Int) × (Nat → Int)) (H1 : Heap) (locs1 : List Loc), decode cX0_goThrough pc = .ok (.return_, 1) → (u.1 = 1 ∧ sw_Lk Sz Ct u.2.1 u.2.2.1 u.2.2.2.1 ∧ u.2.2.2.2.1 = L ∧ sw_Ac Sz St Ct T L u.2.2.2.2.2.1 u.2.2.2.2.2.2.1 u.2.2.2.2.2.2.2.1 ∧ sw_Rs Sz St Ct T L u.2.2.2.2.2.2.2.2.2.2.1 u.2.2.2.2.2.2.2.2.2.2.2) → va_P D vwCl ((fun u : Nat × Nat × (Nat → Nat) × Nat × Nat × Nat × (Nat → Nat) × (Nat → Int) × (Nat → Nat) × (Nat → Int) × (Nat → Int) × (Nat → Int) => wX o ad kc Sz St Ct T L (u.1) (u.2.1) (u.2.2.1) (u.2.2.2.1) (u.2.2.2.2.1) (u.2.2.2.2.2.1) (u.2.2.2.2.2.2.1) (u.2.2.2.2.2.2.2.1) (u.2.2.2.2.2.2.2.2.1) (u.2.2.2.2.2.2.2.2.2.1) (u.2.2.2.2.2.2.2.2.2.2.1) (u.2.2.2.2.2.2.2.2.2.2.2)) u) H1 → va_D A ((fun u : Nat × Nat × (Nat → Nat) × Nat × Nat × Nat × (Nat → Nat) × (Nat → Int) × (Nat → Nat) × (Nat → Int) × (Nat → Int) × (Nat → Int) => wX o ad kc Sz St Ct T L (u.1) (u.2.1) (u.2.2.1) (u.2.2.2.1) (u.2.2.2.2.1) (u.2.2.2.2.2.1) (u.2.2.2.2.2.2.1) (u.2.2.2.2.2.2.2.1) (u.2.2.2.2.2.2.2.2.1) (u.2.2.2.2.2.2.2.2.2.1) (u.2.2.2.2.2.2.2.2.2.2.1) (u.2.2.2.2.2.2.2.2.2.2.2)) u) → va_S A H0 H1 locs1 → W p l e R s m args below meth c H1 locs1 0 0 Q (F0 m pc ls [])) (hl : lv_has ls 2 [(0, .ref (o))]) : W p l e R s m args below meth c H locs 0 0 Q (F0 m 0 ls []) := by
  have hx := S.1
  have hb := S.2.1
  have hown := S.2.2.2.1
  have hts := S.2.2.2.2
  have hO2 := hO
  obtain ⟨hs, ht, hc, hT, hL⟩ := hO
  obtain ⟨hlk, hdn, hAc0, hRs0⟩ := hCa
  refine lv_aload_n hx hb dX0_goThrough_0 rfl (lv_at hl 0 rfl) ?_
  refine sw_cvV (As := []) (rest := []) (C := RX0) (ci := 0) (q0 := 0) S (fun sz => (mX0_link l hs hc hlk sz)) (cwV 0 hts (lw_V q123 q125 qs4 q20 q126) rfl rfl rfl (by decide +kernel) ⟨Nat.le_trans (Nat.le_of_ble_eq_true rfl) hRf, Nat.le_trans (Nat.le_of_ble_eq_true rfl) hRl⟩) hK hP hD hS hA rfl rfl rfl rfl hl.1 rfl (Nat.le_of_ble_eq_true rfl) dX0_goThrough_1 ⟨Nat.zero_le _, Nat.zero_le _⟩ (fun u H locs hr hP hD hS => ?_)
  obtain ⟨lk_1, fp_1, fo_1, lp_1⟩ := u
  have hP : va_P D vwCl (wX o ad kc Sz St Ct T L lk_1 fp_1 fo_1 lp_1 dn ac ea la ne nl eA lA) H := hP
  have hD : va_D A (wX o ad kc Sz St Ct T L lk_1 fp_1 fo_1 lp_1 dn ac ea la ne nl eA lA) := hD
  have hr1 : lk_1 = 1 ∧ sw_Lk Sz Ct fp_1 fo_1 lp_1 := hr
  have L4 : ∀ (n : Nat) (d1 : Nat) (a1 : Nat) (e1 : Nat → Nat) (l1 : Nat → Int) (n1 : Nat → Nat) (m1 : Nat → Int) (E1 : Nat → Int) (G1 : Nat → Int), (d1 ≤ L) → (sw_Ac Sz St Ct T d1 a1 e1 l1) → (sw_Rs Sz St Ct T d1 E1 G1) → L - d1 < n → ∀ (H : Heap) (locs : List Loc), va_P D vwCl (wX o ad kc Sz St Ct T L lk_1 fp_1 fo_1 lp_1 d1 a1 e1 l1 n1 m1 E1 G1) H → va_D A (wX o ad kc Sz St Ct T L lk_1 fp_1 fo_1 lp_1 d1 a1 e1 l1 n1 m1 E1 G1) → va_S A H0 H locs → ∀ (ls : Array Slot), lv_has ls 2 [(0, .ref (o))] → W p l e R s m args below meth c H locs 0 0 Q (F0 m 4 ls []) := by
    intro n
    induction n with
    | zero => intro d1 a1 e1 l1 n1 m1 E1 G1 _ _ _ hm; exact absurd hm (Nat.not_lt_zero _)
    | succ n ihL4 =>
      intro d1 a1 e1 l1 n1 m1 E1 G1 hd hAc hRs hmL4 H locs hP hD hS ls hl
      refine lv_aload_n hx hb dX0_goThrough_4 rfl (lv_at hl 0 rfl) ?_
      refine va_get (D := D) (ci := 0) (v := .int (nI (d1))) (C := RX0) (T := TX0) (N := 17) hx hb hts in_X0 hown hK hP 0 rfl rfl 9 (by decide) (hts _ q39) (fun _ h9 => h9) rfl dX0_goThrough_5 ?_
      refine lv_aload_n hx hb dX0_goThrough_8 rfl (lv_at hl 0 rfl) ?_
      refine va_get (D := D) (ci := 0) (v := .int (nI (L))) (C := RX0) (T := TX0) (N := 17) hx hb hts in_X0 hown hK hP 0 rfl rfl 4 (by decide) (hts _ q34) (fun _ h9 => h9) rfl dX0_goThrough_9 ?_
      refine sw_cge (tgt := 55) hx hb dX0_goThrough_12 (by decide) (by omega) (by omega) (fun h12 => ?_) (fun h12 => ?_)
      · exact ret _ _ (lk_1, fp_1, fo_1, lp_1, d1, a1, e1, l1, n1, m1, E1, G1) _ _ dX0_goThrough_55 (⟨hr1.1, hr1.2, show d1 = L by omega, by rw [show d1 = L by omega] at hAc; exact hAc, by rw [show d1 = L by omega] at hRs; exact hRs⟩) hP hD hS
      · refine lv_aload_n hx hb dX0_goThrough_15 rfl (lv_at hl 0 rfl) ?_
        refine va_get (D := D) (ci := 0) (v := .ref (ad 3)) (C := RX0) (T := TX0) (N := 17) hx hb hts in_X0 hown hK hP 0 rfl rfl 3 (by decide) (hts _ q33) (fun _ h9 => h9) rfl dX0_goThrough_16 ?_
        refine lv_aload_n hx hb dX0_goThrough_19 rfl (lv_at hl 0 rfl) ?_
        refine va_get (D := D) (ci := 0) (v := .int (nI (d1))) (C := RX0) (T := TX0) (N := 17) hx hb hts in_X0 hown hK hP 0 rfl rfl 9 (by decide) (hts _ q39) (fun _ h9 => h9) rfl dX0_goThrough_20 ?_
        refine sw_bld hx hb hK hP 4 3 rfl rfl (by omega) (by decide) (v := nI (T d1)) rfl dX0_goThrough_23 ?_
        refine lv_istore_n (lv' := [(1, .int (nI (T d1))), (0, .ref (o))]) hx hb dX0_goThrough_24 rfl hl (by decide) rfl (fun ls hl => ?_)
        refine lv_aload_n hx hb dX0_goThrough_25 rfl (lv_at hl 1 rfl) ?_
        refine lv_iload_n hx hb dX0_goThrough_26 rfl (lv_at hl 0 rfl) ?_
        refine lv_aload_n hx hb dX0_goThrough_27 rfl (lv_at hl 1 rfl) ?_
        refine va_get (D := D) (ci := 0) (v := .int (nI (d1))) (C := RX0) (T := TX0) (N := 17) hx hb hts in_X0 hown hK hP 0 rfl rfl 9 (by decide) (hts _ q39) (fun _ h9 => h9) rfl dX0_goThrough_28 ?_
        refine sw_cvV (As := [.int (nI (T d1)), .int (nI (d1))]) (rest := []) (C := RX0) (ci := 0) (q0 := 0) S (fun sz => (mX0_advance l rfl (by omega) hO2 hr1.2 hAc sz)) (cwV 2 hts (lw_V q143 q145 qs9 q20 q146) rfl rfl rfl (by decide +kernel) ⟨Nat.le_trans (Nat.le_of_ble_eq_true rfl) hRf, Nat.le_trans (Nat.le_of_ble_eq_true rfl) hRl⟩) hK hP hD hS hA rfl rfl rfl rfl hl.1 rfl (Nat.le_of_ble_eq_true rfl) dX0_goThrough_31 ⟨Nat.zero_le _, Nat.zero_le _⟩ (fun u H locs hr hP hD hS => ?_)
        obtain ⟨ac_31, ea_31, la_31, ne_31, nl_31⟩ := u
        have hP : va_P D vwCl (wX o ad kc Sz St Ct T L lk_1 fp_1 fo_1 lp_1 d1 ac_31 ea_31 la_31 ne_31 nl_31 E1 G1) H := hP
        have hD : va_D A (wX o ad kc Sz St Ct T L lk_1 fp_1 fo_1 lp_1 d1 ac_31 ea_31 la_31 ne_31 nl_31 E1 G1) := hD
        have hAc2 : sw_Ac Sz St Ct T (d1 + 1) ac_31 ea_31 la_31 := hr
        refine lv_aload_n hx hb dX0_goThrough_34 rfl (lv_at hl 1 rfl) ?_
        refine lv_aload_n hx hb dX0_goThrough_35 rfl (lv_at hl 1 rfl) ?_
        refine va_get (D := D) (ci := 0) (v := .int (nI (d1))) (C := RX0) (T := TX0) (N := 17) hx hb hts in_X0 hown hK hP 0 rfl rfl 9 (by decide) (hts _ q39) (fun _ h9 => h9) rfl dX0_goThrough_36 ?_
        refine sw_cvV (As := [.int (nI (d1))]) (rest := []) (C := RX0) (ci := 0) (q0 := 0) S (fun sz => (mX0_note l (by omega) hO2 hr1.2 hAc2 hRs sz)) (cwV 1 hts (lw_V q159 q161 qs13 q20 q162) rfl rfl rfl (by decide +kernel) ⟨Nat.le_trans (Nat.le_of_ble_eq_true rfl) hRf, Nat.le_trans (Nat.le_of_ble_eq_true rfl) hRl⟩) hK hP hD hS hA rfl rfl rfl rfl hl.1 rfl (Nat.le_of_ble_eq_true rfl) dX0_goThrough_39 ⟨Nat.zero_le _, Nat.zero_le _⟩ (fun u H locs hr hP hD hS => ?_)
        obtain ⟨eA_39, lA_39⟩ := u
        have hP : va_P D vwCl (wX o ad kc Sz St Ct T L lk_1 fp_1 fo_1 lp_1 d1 ac_31 ea_31 la_31 ne_31 nl_31 eA_39 lA_39) H := hP
        have hD : va_D A (wX o ad kc Sz St Ct T L lk_1 fp_1 fo_1 lp_1 d1 ac_31 ea_31 la_31 ne_31 nl_31 eA_39 lA_39) := hD
        have hRs2 : sw_Rs Sz St Ct T (d1 + 1) eA_39 lA_39 := hr
        refine lv_aload_n hx hb dX0_goThrough_42 rfl (lv_at hl 1 rfl) ?_
        refine lv_dup hx hb dX0_goThrough_43 rfl ?_
        refine va_get (D := D) (ci := 0) (v := .int (nI (d1))) (C := RX0) (T := TX0) (N := 17) hx hb hts in_X0 hown hK hP 0 rfl rfl 9 (by decide) (hts _ q39) (fun _ h9 => h9) rfl dX0_goThrough_44 ?_
        refine lv_iconst (v := nI (1)) hx hb dX0_goThrough_47 (by decide) ?_
        refine sw_add hx hb dX0_goThrough_48 ?_
        refine va_put (D := D) (ci := 0) (v := .int (nI (d1 + 1))) (ty := .int) (C := RX0) (T := TX0) (N := 17) hx hb hts in_X0 tyX0 tyX0_ok nmX0 hown hK hP hD hS 0 rfl rfl 9 (by decide) (hts _ q39) (fun _ h9 => h9) rfl (by decide +kernel) rfl rfl (Nat.le_of_ble_eq_true rfl) dX0_goThrough_49 (fun H locs hP hD hS => ?_)
        have hP : va_P D vwCl (wX o ad kc Sz St Ct T L lk_1 fp_1 fo_1 lp_1 (d1 + 1) ac_31 ea_31 la_31 ne_31 nl_31 eA_39 lA_39) H := hP
        have hD : va_D A (wX o ad kc Sz St Ct T L lk_1 fp_1 fo_1 lp_1 (d1 + 1) ac_31 ea_31 la_31 ne_31 nl_31 eA_39 lA_39) := hD
        refine lv_goto (tgt := 4) hx hb dX0_goThrough_52 (by decide) ?_
        exact ihL4 (d1 + 1) (ac_31) (ea_31) (la_31) (ne_31) (nl_31) (eA_39) (lA_39) (by omega) hAc2 hRs2 (by omega) _ _ hP hD hS _ (lv_sub hl [1] rfl)
  exact L4 (L - (dn) + 1) (dn) (ac) (ea) (la) (ne) (nl) (eA) (lA) (by omega) hAc0 hRs0 (Nat.lt_succ_self _) _ _ hP hD hS _ (lv_sub hl [0] rfl)
set_option maxRecDepth 100000 in
theorem mX0_goThrough (l : Launch) {D : va_G} {o : Nat} {ad : Nat → Nat} {kc : Nat → ClassId} {Sz : Nat → Nat} {St : Nat → Nat} {Ct : Nat → Nat} {T : Nat → Nat} {L : Nat} {lk : Nat} {fp : Nat} {fo : Nat → Nat} {lp : Nat} {dn : Nat} {ac : Nat} {ea : Nat → Nat} {la : Nat → Int} {ne : Nat → Nat} {nl : Nat → Int} {eA : Nat → Int} {lA : Nat → Int} (hO : sw_Ok Sz St Ct T L) (hCa : sw_Ca Sz St Ct T L lk fp fo lp dn ac ea la eA lA) (sz : Nat) : Met l yX0_goThrough (ws_ yX0_goThrough cX0_goThrough 2 (none)) ({ frames := 3, cells := 0, slots := 0, locals := 72 }) (sw_M D vwCl (wX o ad kc Sz St Ct T L lk fp fo lp dn ac ea la ne nl eA lA) (tyX kc) sz [.ref o]) (va_Qv (fun (u : Nat × Nat × (Nat → Nat) × Nat × Nat × Nat × (Nat → Nat) × (Nat → Int) × (Nat → Nat) × (Nat → Int) × (Nat → Int) × (Nat → Int)) => u.1 = 1 ∧ sw_Lk Sz Ct u.2.1 u.2.2.1 u.2.2.2.1 ∧ u.2.2.2.2.1 = L ∧ sw_Ac Sz St Ct T L u.2.2.2.2.2.1 u.2.2.2.2.2.2.1 u.2.2.2.2.2.2.2.1 ∧ sw_Rs Sz St Ct T L u.2.2.2.2.2.2.2.2.2.2.1 u.2.2.2.2.2.2.2.2.2.2.2) (sw_B D vwCl (tyX kc) (va_A (wX o ad kc Sz St Ct T L lk fp fo lp dn ac ea la ne nl eA lA) sz) (fun u : Nat × Nat × (Nat → Nat) × Nat × Nat × Nat × (Nat → Nat) × (Nat → Int) × (Nat → Nat) × (Nat → Int) × (Nat → Int) × (Nat → Int) => wX o ad kc Sz St Ct T L (u.1) (u.2.1) (u.2.2.1) (u.2.2.2.1) (u.2.2.2.2.1) (u.2.2.2.2.2.1) (u.2.2.2.2.2.2.1) (u.2.2.2.2.2.2.2.1) (u.2.2.2.2.2.2.2.2.1) (u.2.2.2.2.2.2.2.2.2.1) (u.2.2.2.2.2.2.2.2.2.2.1) (u.2.2.2.2.2.2.2.2.2.2.2))) (va_A (wX o ad kc Sz St Ct T L lk fp fo lp dn ac ea la ne nl eA lA) sz)) 0 0 (va_A (wX o ad kc Sz St Ct T L lk fp fo lp dn ac ea la ne nl eA lA) sz) := sw_metV (by decide) (Nat.le_of_ble_eq_true rfl) (fun p e s m below meth c Q ls A S hK hP hD hA hl ret => bX0_goThrough S (Nat.le_refl _) (Nat.le_refl _) hK hP hD va_S.rf hA hO hCa ret hl) sz
end SWB
end
section
/-! the answers, one relation each -/
noncomputable def sw_cnt (P : Nat → Prop) : Nat → Nat
  | 0 => 0
  | n + 1 => sw_cnt P n + @ite Nat (P n) (Classical.propDecidable _) 1 0
theorem sw_cnt_1 {P : Nat → Prop} {n : Nat} (h : P n) : sw_cnt P (n + 1) = sw_cnt P n + 1 := by
  show sw_cnt P n + @ite Nat (P n) (Classical.propDecidable _) 1 0 = _
  rw [if_pos h]
theorem sw_cnt_n {P : Nat → Prop} {n : Nat} (h : ¬ P n) : sw_cnt P (n + 1) = sw_cnt P n := by
  show sw_cnt P n + @ite Nat (P n) (Classical.propDecidable _) 1 0 = _
  rw [if_neg h, Nat.add_zero]
theorem sw_cnt_le {P : Nat → Prop} : ∀ n, sw_cnt P n ≤ n
  | 0 => Nat.le_refl _
  | n + 1 => by
    have := sw_cnt_le (P := P) n
    by_cases h : P n
    · rw [sw_cnt_1 h]; omega
    · rw [sw_cnt_n h]; omega
theorem sw_cnt_congr {P P' : Nat → Prop} : ∀ n, (∀ t, t < n → (P t ↔ P' t)) → sw_cnt P n = sw_cnt P' n
  | 0, _ => rfl
  | n + 1, h => by
    have := sw_cnt_congr n (fun t ht => h t (by omega))
    by_cases q : P n
    · rw [sw_cnt_1 q, sw_cnt_1 ((h n (by omega)).mp q), this]
    · rw [sw_cnt_n q, sw_cnt_n (fun z => q ((h n (by omega)).mpr z)), this]
def sw_mx (P : Nat → Prop) (x : Nat) : Prop := (∀ n, P n → n ≤ x) ∧ (x = 0 ∨ P x)
theorem sw_mx_uniq {P P' : Nat → Prop} {x y : Nat} (hP : ∀ n, P n ↔ P' n) (h : sw_mx P x) (h' : sw_mx P' y) : x = y := by
  obtain ⟨h1, h2⟩ := h
  obtain ⟨g1, g2⟩ := h'
  have a : x ≤ y := by
    rcases h2 with q | q
    · omega
    · exact g1 x ((hP x).mp q)
  have b : y ≤ x := by
    rcases g2 with q | q
    · omega
    · exact h1 y ((hP y).mpr q)
  omega
theorem sw_set_none {P : Nat → Prop} {n : Nat} (h : ∀ j, ¬ P j) : sw_set n P 0 := fun j => by
  rw [Nat.zero_testBit]
  constructor
  · intro q; cases q
  · rintro ⟨-, q⟩; exact absurd q (h j)
def sw_endP (Sz St Ct T : Nat → Nat) (L : Nat) (zt : Int) (p : Nat) : Prop := ∃ t : Nat, zt = (t : Int) ∧ t < L ∧ ∃ b, sw_Eb Sz St Ct T p t b
theorem sw_endP_iff {Sz St Ct T : Nat → Nat} {L tn p : Nat} (h : tn < L) : sw_endP Sz St Ct T L (tn : Int) p ↔ ∃ b, sw_Eb Sz St Ct T p tn b := by
  constructor
  · rintro ⟨t, e, -, hb⟩
    obtain rfl : tn = t := by omega
    exact hb
  · intro hb
    exact ⟨tn, rfl, h, hb⟩
def sw_psh (Sz St Ct : Nat → Nat) (zs : Int) (T : Nat → Nat) (L : Nat) (r : Int32) (T' : Nat → Nat) (L' : Nat) : Prop :=
  (¬ (0 ≤ zs ∧ zs ≤ 3) ∧ r = zI (-1) ∧ T' = T ∧ L' = L) ∨
  ∃ sn : Nat, zs = sn ∧ sn ≤ 3 ∧ ((60 ≤ L ∧ r = zI (-2) ∧ T' = T ∧ L' = L) ∨ (L < 60 ∧ T' = va_up T L sn ∧ L' = L + 1 ∧ ∃ x, r = nI x ∧ sw_set 4 (sw_endP Sz St Ct T' L' (L : Int)) x))
theorem sw_Ok_push {Sz St Ct T : Nat → Nat} {L sn : Nat} (hO : sw_Ok Sz St Ct T L) (hs : sn ≤ 3) (hL : L < 60) : sw_Ok Sz St Ct (va_up T L sn) (L + 1) := by
  obtain ⟨o1, o2, o3, o4, o5⟩ := hO
  exact ⟨o1, o2, o3, sw_up_lt o4 (by omega), by omega⟩
theorem sw_Ca_push {Sz St Ct T : Nat → Nat} {L lk fp : Nat} {fo : Nat → Nat} {lp dn ac : Nat} {ea : Nat → Nat} {la eA lA : Nat → Int} (sn : Nat) (h : sw_Ca Sz St Ct T L lk fp fo lp dn ac ea la eA lA) : sw_Ca Sz St Ct (va_up T L sn) (L + 1) lk fp fo lp dn ac ea la eA lA := by
  obtain ⟨h1, h2, h3, h4⟩ := h
  have e : ∀ x, x < dn → T x = va_up T L sn x := fun x hx => (sw_un (by omega)).symm
  exact ⟨h1, by omega, sw_Ac_congr e h3, sw_Rs_congr e h4⟩
def sw_endR (Sz St Ct T : Nat → Nat) (L : Nat) (zp : Int) (r : Int32) : Prop := (∃ pn : Nat, zp = pn ∧ pn < 4 ∧ r = nI (sw_cnt (fun t => ∃ b, sw_Eb Sz St Ct T pn t b) L)) ∨ (¬ (0 ≤ zp ∧ zp < 4) ∧ r = nI 0)
def sw_feR (Sz St Ct T : Nat → Nat) (L : Nat) (zp : Int) (r : Int32) : Prop := (∃ pn : Nat, zp = pn ∧ pn < 4 ∧ ∃ z, r = zI z ∧ sw_lo (fun t => t < L ∧ ∃ b, sw_Eb Sz St Ct T pn t b) z) ∨ (¬ (0 ≤ zp ∧ zp < 4) ∧ r = zI (-1))
def sw_eaR (Sz St Ct T : Nat → Nat) (L : Nat) (zp zt : Int) (r : Int32) : Prop := (∃ pn tn : Nat, zp = pn ∧ zt = tn ∧ pn < 4 ∧ tn < L ∧ ∃ z, r = zI z ∧ sw_lo (sw_Eb Sz St Ct T pn tn) z) ∨ (¬ (0 ≤ zp ∧ zp < 4 ∧ 0 ≤ zt ∧ zt < (L : Int)) ∧ r = zI (-1))
def sw_laR (Sz St Ct T : Nat → Nat) (L : Nat) (zp zt : Int) (r : Int32) : Prop := (∃ pn tn : Nat, zp = pn ∧ zt = tn ∧ pn < 4 ∧ tn < L ∧ ∃ z, r = zI z ∧ sw_hi (sw_Eb Sz St Ct T pn tn) z) ∨ (¬ (0 ≤ zp ∧ zp < 4 ∧ 0 ≤ zt ∧ zt < (L : Int)) ∧ r = zI (-1))
def sw_lonP (Sz St Ct T : Nat → Nat) (zp : Int) (n len : Nat) : Prop := ∃ pn b t : Nat, zp = pn ∧ pn < 4 ∧ t < n ∧ sw_Eb Sz St Ct T pn t b ∧ len = t + 1 - b
def sw_coR (Sz St Ct T : Nat → Nat) (L : Nat) (zp : Int) (r : Int32) : Prop := (∃ pn : Nat, zp = pn ∧ pn < 4 ∧ ∃ x, r = nI x ∧ sw_set 4 (fun s => ∃ b, sw_Eb Sz St Ct (va_up T L s) pn L b) x) ∨ (¬ (0 ≤ zp ∧ zp < 4) ∧ r = nI 0)
/-- earliest, seen from longest -/
theorem sw_ea_lon {Sz St Ct T : Nat → Nat} {L ti : Nat} {zp : Int} {r : Int32} (ht : ti < L) (h : sw_eaR Sz St Ct T L zp (ti : Int) r) : ∃ z, r = zI z ∧ sw_lo (fun b => ∃ pn : Nat, zp = pn ∧ pn < 4 ∧ sw_Eb Sz St Ct T pn ti b) z := by
  rcases h with ⟨pn, tn, e1, e2, h1, h2, z, rfl, hz⟩ | ⟨h1, rfl⟩
  · obtain rfl : ti = tn := by omega
    refine ⟨z, rfl, sw_lo_iff (fun b => ?_) hz⟩
    constructor
    · intro hb
      exact ⟨pn, e1, h1, hb⟩
    · rintro ⟨q, e, -, hb⟩
      obtain rfl : pn = q := by omega
      exact hb
  · refine ⟨-1, rfl, Or.inl ⟨rfl, ?_⟩⟩
    rintro b ⟨q, e, e2, -⟩
    exact h1 (by omega)
theorem sw_lon_n {Sz St Ct T : Nat → Nat} {ti x : Nat} {zp z : Int} (hz : sw_lo (fun b => ∃ pn : Nat, zp = pn ∧ pn < 4 ∧ sw_Eb Sz St Ct T pn ti b) z) (h0 : z < 0) (h : sw_mx (sw_lonP Sz St Ct T zp ti) x) : sw_mx (sw_lonP Sz St Ct T zp (ti + 1)) x := by
  have hn : ∀ b, ¬ ∃ pn : Nat, zp = pn ∧ pn < 4 ∧ sw_Eb Sz St Ct T pn ti b := by
    rcases hz with ⟨-, q⟩ | ⟨b, e, -⟩
    · exact q
    · omega
  refine ⟨?_, ?_⟩
  · rintro n ⟨pn, b, t, h1, h2, h3, h4, h5⟩
    by_cases e : t = ti
    · subst e
      exact absurd ⟨pn, h1, h2, h4⟩ (hn b)
    · exact h.1 n ⟨pn, b, t, h1, h2, by omega, h4, h5⟩
  · rcases h.2 with q | ⟨pn, b, t, h1, h2, h3, h4⟩
    · exact Or.inl q
    · exact Or.inr ⟨pn, b, t, h1, h2, by omega, h4⟩
theorem sw_lon_s {Sz St Ct T : Nat → Nat} {ti x fv y : Nat} {zp : Int} (hz : sw_lo (fun b => ∃ pn : Nat, zp = pn ∧ pn < 4 ∧ sw_Eb Sz St Ct T pn ti b) (fv : Int)) (hy : (ti + 1 - fv ≤ x ∧ y = x) ∨ (x < ti + 1 - fv ∧ y = ti + 1 - fv)) (h : sw_mx (sw_lonP Sz St Ct T zp ti) x) : sw_mx (sw_lonP Sz St Ct T zp (ti + 1)) y := by
  obtain ⟨pf, hf, hb⟩ : (∃ pn : Nat, zp = pn ∧ pn < 4 ∧ sw_Eb Sz St Ct T pn ti fv) ∧ (∀ c, (∃ pn : Nat, zp = pn ∧ pn < 4 ∧ sw_Eb Sz St Ct T pn ti c) → fv ≤ c) ∧ True := by
    rcases hz with ⟨e, -⟩ | ⟨b, e, h1, h2⟩
    · omega
    · obtain rfl : fv = b := by omega
      exact ⟨h1, h2, trivial⟩
  refine ⟨?_, ?_⟩
  · rintro n ⟨pn, b, t, h1, h2, h3, h4, h5⟩
    by_cases e : t = ti
    · subst e
      have := hf b ⟨pn, h1, h2, h4⟩
      omega
    · have := h.1 n ⟨pn, b, t, h1, h2, by omega, h4, h5⟩
      omega
  · rcases hy with ⟨-, rfl⟩ | ⟨-, rfl⟩
    · rcases h.2 with q | ⟨pn, b, t, h1, h2, h3, h4⟩
      · exact Or.inl q
      · exact Or.inr ⟨pn, b, t, h1, h2, by omega, h4⟩
    · obtain ⟨pn, h1, h2, h3⟩ := pf
      exact Or.inr ⟨pn, fv, ti, h1, h2, by omega, h3, rfl⟩
theorem sw_lon_0 {Sz St Ct T : Nat → Nat} {zp : Int} : sw_mx (sw_lonP Sz St Ct T zp 0) 0 := by
  refine ⟨?_, Or.inl rfl⟩
  rintro n ⟨pn, b, t, -, -, h, -⟩
  exact absurd h (Nat.not_lt_zero _)
theorem sw_lon_le {Sz St Ct T : Nat → Nat} {zp : Int} {n x : Nat} (h : sw_mx (sw_lonP Sz St Ct T zp n) x) : x ≤ n := by
  rcases h.2 with q | ⟨pn, b, t, h1, h2, h3, h4, h5⟩ <;> omega
theorem sw_lon_fv {Sz St Ct T : Nat → Nat} {ti fv : Nat} {zp : Int} (hz : sw_lo (fun b => ∃ pn : Nat, zp = pn ∧ pn < 4 ∧ sw_Eb Sz St Ct T pn ti b) (fv : Int)) : fv ≤ ti := by
  rcases hz with ⟨e, -⟩ | ⟨b, e, ⟨pn, -, -, h1⟩, h2⟩
  · omega
  · have := h1.1
    omega
theorem sw_own : ∀ pn, pn < 4 → 63 * 2 ^ (pn * 6) < 2 ^ 32 := by decide
theorem sw_own_bit (k j : Nat) : (63 * 2 ^ k).testBit j = true ↔ k ≤ j ∧ j < k + 6 := by
  rw [← Nat.shiftLeft_eq, Nat.testBit_shiftLeft, show (63 : Nat) = 2 ^ 6 - 1 by decide, Nat.testBit_two_pow_sub_one, Bool.and_eq_true, decide_eq_true_iff, decide_eq_true_iff]
  omega
theorem sw_comp {Sz St Ct T : Nat → Nat} {L fp ac lp x sn pn : Nat} {fo ea : Nat → Nat} {la : Nat → Int} (hc : ∀ i, Ct i ≤ 3) (hs : ∀ j, Sz j ≤ 6) (hp : pn < 4) (hL : sw_Lk Sz Ct fp fo lp) (hA : sw_Ac Sz St Ct T L ac ea la) (hx : sw_on Sz St fp ac fo sn x) : (x &&& lp) &&& 63 * 2 ^ (pn * 6) ≠ 0 ↔ ∃ b, sw_Eb Sz St Ct (va_up T L sn) pn L b := by
  have hA' : sw_Ac Sz St Ct (va_up T L sn) L ac ea la := sw_Ac_congr (fun t ht => (sw_un (by omega)).symm) hA
  have hx' : sw_on Sz St fp ac fo ((va_up T L sn) L) x := by rw [sw_us]; exact hx
  have key := fun j => sw_on_ex (j := j) hc hL hA' hx'
  constructor
  · intro h
    obtain ⟨j, hj⟩ := Nat.exists_testBit_of_ne_zero h
    rw [Nat.testBit_and, Bool.and_eq_true, Nat.testBit_and, Bool.and_eq_true, sw_own_bit] at hj
    obtain ⟨⟨h1, h2⟩, h3, h4⟩ := hj
    obtain ⟨hok, b, hb⟩ := (key j).mp h1
    have hl := ((hL.2.2.2.1 j).mp h2).2
    have hbt := sw_P_lt hb
    have e : j / 6 = pn := by omega
    rw [e] at hl
    exact ⟨b, by omega, (sw_E_via hc hs hbt).mpr ⟨j, h3, sw_ok_in hok e, hb, hl⟩⟩
  · rintro ⟨b, h0, hb⟩ hz
    obtain ⟨i, h1, h2, h3, h4⟩ := (sw_E_via hc hs (by omega)).mp hb
    obtain ⟨q1, q2⟩ := sw_ok_range hp (hs pn) h1 h2
    have hsp := hs pn
    have : ((x &&& lp) &&& 63 * 2 ^ (pn * 6)).testBit i = true := by
      rw [Nat.testBit_and, Bool.and_eq_true, Nat.testBit_and, Bool.and_eq_true, sw_own_bit]
      refine ⟨⟨(key i).mpr ⟨q1, b, h3⟩, (hL.2.2.2.1 i).mpr ⟨q1, ?_⟩⟩, h1, by omega⟩
      rw [q2]
      exact h4
    rw [hz, Nat.zero_testBit] at this
    cases this
end
section
section SWB
variable {p : Program} {l : Launch} {e : Env} {R : Room} {s : State} {m : MethodId} {args : Array Value} {below : List Frame} {meth : Method} {c : Code} {H : Heap} {locs : List Loc} {Q : State → Prop} {ls : Array Slot} {A : Nat → Prop} {H0 : Heap}
set_option maxHeartbeats 4000000 in
set_option maxRecDepth 100000 in
theorem bX0_endingAt {D : va_G} {o : Nat} {ad : Nat → Nat} {kc : Nat → ClassId} {Sz : Nat → Nat} {St : Nat → Nat} {Ct : Nat → Nat} {T : Nat → Nat} {L : Nat} {lk : Nat} {fp : Nat} {fo : Nat → Nat} {lp : Nat} {dn : Nat} {ac : Nat} {ea : Nat → Nat} {la : Nat → Int} {ne : Nat → Nat} {nl : Nat → Int} {eA : Nat → Int} {lA : Nat → Int} {zt : Int} (S : CallFix p m c cX0_endingAt 4 s args lw_all RX0) (hRf : 4 ≤ R.frames) (hRl : 93 ≤ R.locals) (hK : va_K D vwCl (tyX kc) s) (hP : va_P D vwCl (wX o ad kc Sz St Ct T L lk fp fo lp dn ac ea la ne nl eA lA) H) (hD : va_D A (wX o ad kc Sz St Ct T L lk fp fo lp dn ac ea la ne nl eA lA)) (hS : va_S A H0 H locs) (hA : ∀ q, H0.size ≤ q → A q) (hlzt : -2147483648 ≤ zt) (huzt : zt < 2147483648) (hO : sw_Ok Sz St Ct T L) (hCa : sw_Ca Sz St Ct T L lk fp fo lp dn ac ea la eA lA) (ret : ∀ (pc : Nat) (ls : Array Slot) (r : Int32) (u : Nat × Nat × (Nat → Nat) × Nat × Nat × Nat × (Nat → Nat) × (Nat → Int) × (Nat → Nat) × (Nat → Int) × (Nat → Int) × (Nat → Int)) (H1 : Heap) (locs1 : List Loc), decode cX0_endingAt pc = .ok (.ireturn, 1) → ((∃ x, r = nI x ∧ sw_set 4 (sw_endP Sz St Ct T L zt) x) ∧ sw_Ca Sz St Ct T L u.1 u.2.1 u.2.2.1 u.2.2.2.1 u.2.2.2.2.1 u.2.2.2.2.2.1 u.2.2.2.2.2.2.1 u.2.2.2.2.2.2.2.1 u.2.2.2.2.2.2.2.2.2.2.1 u.2.2.2.2.2.2.2.2.2.2.2) → va_P D vwCl ((fun u : Nat × Nat × (Nat → Nat) × Nat × Nat × Nat × (Nat → Nat) × (Nat → Int) × (Nat → Nat) × (Nat → Int) × (Nat → Int) × (Nat → Int) => wX o ad kc Sz St Ct T L (u.1) (u.2.1) (u.2.2.1) (u.2.2.2.1) (u.2.2.2.2.1) (u.2.2.2.2.2.1) (u.2.2.2.2.2.2.1) (u.2.2.2.2.2.2.2.1) (u.2.2.2.2.2.2.2.2.1) (u.2.2.2.2.2.2.2.2.2.1) (u.2.2.2.2.2.2.2.2.2.2.1) (u.2.2.2.2.2.2.2.2.2.2.2)) u) H1 → va_D A ((fun u : Nat × Nat × (Nat → Nat) × Nat × Nat × Nat × (Nat → Nat) × (Nat → Int) × (Nat → Nat) × (Nat → Int) × (Nat → Int) × (Nat → Int) => wX o ad kc Sz St Ct T L (u.1) (u.2.1) (u.2.2.1) (u.2.2.2.1) (u.2.2.2.2.1) (u.2.2.2.2.2.1) (u.2.2.2.2.2.2.1) (u.2.2.2.2.2.2.2.1) (u.2.2.2.2.2.2.2.2.1) (u.2.2.2.2.2.2.2.2.2.1) (u.2.2.2.2.2.2.2.2.2.2.1) (u.2.2.2.2.2.2.2.2.2.2.2)) u) → va_S A H0 H1 locs1 → W p l e R s m args below meth c H1 locs1 0 0 Q (F0 m pc ls [.int r])) (hl : lv_has ls 4 [(0, .ref (o)), (1, .int (zI (zt)))]) : W p l e R s m args below meth c H locs 0 0 Q (F0 m 0 ls []) := by
  have hx := S.1
  have hb := S.2.1
  have hown := S.2.2.2.1
  have hts := S.2.2.2.2
  have hO2 := hO
  obtain ⟨hs, ht, hc, hT, hL⟩ := hO
  refine lv_aload_n hx hb dX0_endingAt_0 rfl (lv_at hl 0 rfl) ?_
  refine lv_iload_n hx hb dX0_endingAt_1 rfl (lv_at hl 1 rfl) ?_
  refine sw_cvR (As := [.int (zI (zt))]) (rest := []) (C := RX0) (ci := 0) (q0 := 0) S (mX0_isPlace l hlzt huzt hL) (cwV 1 hts (lw_V q115 q117 qs2 q20 q118) rfl rfl rfl (by decide +kernel) ⟨Nat.le_trans (Nat.le_of_ble_eq_true rfl) hRf, Nat.le_trans (Nat.le_of_ble_eq_true rfl) hRl⟩) hK hP rfl rfl rfl rfl hl.1 rfl (Nat.le_of_ble_eq_true rfl) dX0_endingAt_2 ⟨Nat.zero_le _, Nat.zero_le _⟩ (fun r hr => ?_)
  rcases hr with ⟨rfl, hr2⟩ | ⟨rfl, hr2⟩
  · obtain ⟨tn, rfl⟩ := Int.eq_ofNat_of_zero_le hr2.1
    have hl : lv_has ls 4 [(0, .ref (o)), (1, .int (nI (tn)))] := by rw [show zI ((tn : Int)) = nI (tn) from zI_n tn] at hl; exact hl
    refine sw_ifne (tgt := 10) hx hb dX0_endingAt_5 (by decide) (by decide) (fun _ => ?_) (fun q => absurd q (by decide))
    refine lv_aload_n hx hb dX0_endingAt_10 rfl (lv_at hl 0 rfl) ?_
    refine sw_cvV (As := []) (rest := []) (C := RX0) (ci := 0) (q0 := 0) S (fun sz => (mX0_goThrough l hO2 hCa sz)) (cwV 0 hts (lw_V q119 q121 qs3 q20 q122) rfl rfl rfl (by decide +kernel) ⟨Nat.le_trans (Nat.le_of_ble_eq_true rfl) hRf, Nat.le_trans (Nat.le_of_ble_eq_true rfl) hRl⟩) hK hP hD hS hA rfl rfl rfl rfl hl.1 rfl (Nat.le_of_ble_eq_true rfl) dX0_endingAt_11 ⟨Nat.zero_le _, Nat.zero_le _⟩ (fun u H locs hr hP hD hS => ?_)
    obtain ⟨lk_11, fp_11, fo_11, lp_11, dn_11, ac_11, ea_11, la_11, ne_11, nl_11, eA_11, lA_11⟩ := u
    have hP : va_P D vwCl (wX o ad kc Sz St Ct T L lk_11 fp_11 fo_11 lp_11 dn_11 ac_11 ea_11 la_11 ne_11 nl_11 eA_11 lA_11) H := hP
    have hD : va_D A (wX o ad kc Sz St Ct T L lk_11 fp_11 fo_11 lp_11 dn_11 ac_11 ea_11 la_11 ne_11 nl_11 eA_11 lA_11) := hD
    obtain ⟨hg1, hg2, hg3, hg4, hg5⟩ := hr
    have hg3 : dn_11 = L := hg3
    have hCa2 : sw_Ca Sz St Ct T L lk_11 fp_11 fo_11 lp_11 dn_11 ac_11 ea_11 la_11 eA_11 lA_11 := ⟨Or.inr ⟨hg1, hg2⟩, Nat.le_of_eq hg3, by rw [hg3]; exact hg4, by rw [hg3]; exact hg5⟩
    have hLk2 : sw_Lk Sz Ct fp_11 fo_11 lp_11 := hg2
    have hAcL : sw_Ac Sz St Ct T L ac_11 ea_11 la_11 := hg4
    have hRsL : sw_Rs Sz St Ct T L eA_11 lA_11 := hg5
    refine lv_iconst (v := nI (0)) hx hb dX0_endingAt_14 (by decide) ?_
    refine lv_istore_n (lv' := [(2, .int (nI (0))), (0, .ref (o)), (1, .int (nI (tn)))]) hx hb dX0_endingAt_15 rfl hl (by decide) rfl (fun ls hl => ?_)
    refine lv_iconst (v := nI (0)) hx hb dX0_endingAt_16 (by decide) ?_
    refine lv_istore_n (lv' := [(3, .int (nI (0))), (2, .int (nI (0))), (0, .ref (o)), (1, .int (nI (tn)))]) hx hb dX0_endingAt_17 rfl hl (by decide) rfl (fun ls hl => ?_)
    have L18 : ∀ (n : Nat) (x : Nat) (pn : Nat), (pn ≤ 4) → (sw_set pn (sw_endP Sz St Ct T L (tn : Int)) x) → 4 - pn < n → ∀ (H : Heap) (locs : List Loc), va_P D vwCl (wX o ad kc Sz St Ct T L lk_11 fp_11 fo_11 lp_11 dn_11 ac_11 ea_11 la_11 ne_11 nl_11 eA_11 lA_11) H → va_D A (wX o ad kc Sz St Ct T L lk_11 fp_11 fo_11 lp_11 dn_11 ac_11 ea_11 la_11 ne_11 nl_11 eA_11 lA_11) → va_S A H0 H locs → ∀ (ls : Array Slot), lv_has ls 4 [(0, .ref (o)), (1, .int (nI (tn))), (2, .int (nI (x))), (3, .int (nI (pn)))] → W p l e R s m args below meth c H locs 0 0 Q (F0 m 18 ls []) := by
      intro n
      induction n with
      | zero => intro x pn _ _ hm; exact absurd hm (Nat.not_lt_zero _)
      | succ n ihL18 =>
        intro x pn hp hI hmL18 H locs hP hD hS ls hl
        refine lv_iload_n hx hb dX0_endingAt_18 rfl (lv_at hl 3 rfl) ?_
        refine lv_iconst (v := nI (4)) hx hb dX0_endingAt_19 (by decide) ?_
        refine sw_cge (tgt := 52) hx hb dX0_endingAt_20 (by decide) (by omega) (by omega) (fun h20 => ?_) (fun h20 => ?_)
        · refine lv_iload_n hx hb dX0_endingAt_52 rfl (lv_at hl 2 rfl) ?_
          exact ret _ _ _ (lk_11, fp_11, fo_11, lp_11, dn_11, ac_11, ea_11, la_11, ne_11, nl_11, eA_11, lA_11) _ _ dX0_endingAt_53 (⟨⟨x, rfl, by rw [show pn = 4 by omega] at hI; exact hI⟩, hCa2⟩) hP hD hS
        · have hh := (hRsL tn pn (by omega) (by omega)).2
          have hbd := sw_hi_bd hh (fun b hb => hb.1)
          refine lv_iload_n hx hb dX0_endingAt_23 rfl (lv_at hl 2 rfl) ?_
          refine lv_aload_n hx hb dX0_endingAt_24 rfl (lv_at hl 0 rfl) ?_
          refine va_get (D := D) (ci := 0) (v := .ref (ad 10)) (C := RX0) (T := TX0) (N := 17) hx hb hts in_X0 hown hK hP 0 rfl rfl 16 (by decide) (hts _ q46) (fun _ h9 => h9) rfl dX0_endingAt_25 ?_
          refine lv_iload_n hx hb dX0_endingAt_28 rfl (lv_at hl 1 rfl) ?_
          refine lv_iconst (v := nI (4)) hx hb dX0_endingAt_29 (by decide) ?_
          refine sw_mul hx hb dX0_endingAt_30 ?_
          refine lv_iload_n hx hb dX0_endingAt_31 rfl (lv_at hl 3 rfl) ?_
          refine sw_add hx hb dX0_endingAt_32 ?_
          refine sw_bld hx hb hK hP 11 10 rfl rfl (by omega) (by decide) (v := zI (lA_11 ((tn * 4) + pn))) rfl dX0_endingAt_33 ?_
          refine sw_zlt (tgt := 43) hx hb dX0_endingAt_34 (by decide) (zI_toInt (z := lA_11 ((tn * 4) + pn)) (by omega) (by omega)) (fun h34 => ?_) (fun h34 => ?_)
          · have hI' := sw_set_n' (P := sw_endP Sz St Ct T L (tn : Int)) (n := pn) (fun q => by have := (sw_hi_ge hh).mpr ((sw_endP_iff (by omega)).mp q); omega) hI
            refine lv_iconst (v := nI (0)) hx hb dX0_endingAt_43 (by decide) ?_
            refine sw_or hx hb dX0_endingAt_44 ?_
            refine lv_istore_n (lv' := [(2, .int (nI (x ||| 0))), (0, .ref (o)), (1, .int (nI (tn))), (3, .int (nI (pn)))]) hx hb dX0_endingAt_45 rfl hl (by decide) rfl (fun ls hl => ?_)
            refine lv_iinc (k := 3) (v := nI (pn + 1)) (lv' := [(3, .int (nI (pn + 1))), (2, .int (nI (x ||| 0))), (0, .ref (o)), (1, .int (nI (tn)))]) hx hb dX0_endingAt_46 hl rfl (nI_add _ 1) (by decide) rfl (fun ls hl => ?_)
            refine lv_goto (tgt := 18) hx hb dX0_endingAt_49 (by decide) ?_
            exact ihL18 (x ||| 0) (pn + 1) (by omega) hI' (by omega) _ _ hP hD hS _ (lv_sub hl [2, 3, 1, 0] rfl)
          · have hI' := sw_set_1 (P := sw_endP Sz St Ct T L (tn : Int)) (n := pn) ((sw_endP_iff (by omega)).mpr ((sw_hi_ge hh).mp h34)) hI
            refine lv_iconst (v := nI (1)) hx hb dX0_endingAt_37 (by decide) ?_
            refine lv_iload_n hx hb dX0_endingAt_38 rfl (lv_at hl 3 rfl) ?_
            refine sw_shl hx hb dX0_endingAt_39 (by omega) (sw_sh (by omega) (by omega)) ?_
            refine lv_goto (tgt := 44) hx hb dX0_endingAt_40 (by decide) ?_
            refine sw_or hx hb dX0_endingAt_44 ?_
            refine lv_istore_n (lv' := [(2, .int (nI (x ||| (1 * 2 ^ pn)))), (0, .ref (o)), (1, .int (nI (tn))), (3, .int (nI (pn)))]) hx hb dX0_endingAt_45 rfl hl (by decide) rfl (fun ls hl => ?_)
            refine lv_iinc (k := 3) (v := nI (pn + 1)) (lv' := [(3, .int (nI (pn + 1))), (2, .int (nI (x ||| (1 * 2 ^ pn)))), (0, .ref (o)), (1, .int (nI (tn)))]) hx hb dX0_endingAt_46 hl rfl (nI_add _ 1) (by decide) rfl (fun ls hl => ?_)
            refine lv_goto (tgt := 18) hx hb dX0_endingAt_49 (by decide) ?_
            exact ihL18 (x ||| (1 * 2 ^ pn)) (pn + 1) (by omega) hI' (by omega) _ _ hP hD hS _ (lv_sub hl [2, 3, 1, 0] rfl)
    exact L18 (4 - (0) + 1) (0) (0) (by omega) sw_set_0 (Nat.lt_succ_self _) _ _ hP hD hS _ (lv_sub hl [2, 3, 1, 0] rfl)
  · refine sw_ifne (tgt := 10) hx hb dX0_endingAt_5 (by decide) (by decide) (fun q => absurd rfl q) (fun _ => ?_)
    refine lv_iconst (v := nI (0)) hx hb dX0_endingAt_8 (by decide) ?_
    exact ret _ _ _ (lk, fp, fo, lp, dn, ac, ea, la, ne, nl, eA, lA) _ _ dX0_endingAt_9 (⟨⟨0, rfl, sw_set_none (fun j q => by obtain ⟨t, e, h1, -⟩ := q; exact hr2 (by omega))⟩, hCa⟩) hP hD hS
set_option maxRecDepth 100000 in
theorem mX0_endingAt (l : Launch) {D : va_G} {o : Nat} {ad : Nat → Nat} {kc : Nat → ClassId} {Sz : Nat → Nat} {St : Nat → Nat} {Ct : Nat → Nat} {T : Nat → Nat} {L : Nat} {lk : Nat} {fp : Nat} {fo : Nat → Nat} {lp : Nat} {dn : Nat} {ac : Nat} {ea : Nat → Nat} {la : Nat → Int} {ne : Nat → Nat} {nl : Nat → Int} {eA : Nat → Int} {lA : Nat → Int} {zt : Int} (hlzt : -2147483648 ≤ zt) (huzt : zt < 2147483648) (hO : sw_Ok Sz St Ct T L) (hCa : sw_Ca Sz St Ct T L lk fp fo lp dn ac ea la eA lA) (sz : Nat) : Met l yX0_endingAt (ws_ yX0_endingAt cX0_endingAt 4 (some .int)) ({ frames := 4, cells := 0, slots := 0, locals := 93 }) (sw_M D vwCl (wX o ad kc Sz St Ct T L lk fp fo lp dn ac ea la ne nl eA lA) (tyX kc) sz [.ref o, .int (zI (zt))]) (va_Qi (fun (r : Int32) (u : Nat × Nat × (Nat → Nat) × Nat × Nat × Nat × (Nat → Nat) × (Nat → Int) × (Nat → Nat) × (Nat → Int) × (Nat → Int) × (Nat → Int)) => (∃ x, r = nI x ∧ sw_set 4 (sw_endP Sz St Ct T L zt) x) ∧ sw_Ca Sz St Ct T L u.1 u.2.1 u.2.2.1 u.2.2.2.1 u.2.2.2.2.1 u.2.2.2.2.2.1 u.2.2.2.2.2.2.1 u.2.2.2.2.2.2.2.1 u.2.2.2.2.2.2.2.2.2.2.1 u.2.2.2.2.2.2.2.2.2.2.2) (sw_B D vwCl (tyX kc) (va_A (wX o ad kc Sz St Ct T L lk fp fo lp dn ac ea la ne nl eA lA) sz) (fun u : Nat × Nat × (Nat → Nat) × Nat × Nat × Nat × (Nat → Nat) × (Nat → Int) × (Nat → Nat) × (Nat → Int) × (Nat → Int) × (Nat → Int) => wX o ad kc Sz St Ct T L (u.1) (u.2.1) (u.2.2.1) (u.2.2.2.1) (u.2.2.2.2.1) (u.2.2.2.2.2.1) (u.2.2.2.2.2.2.1) (u.2.2.2.2.2.2.2.1) (u.2.2.2.2.2.2.2.2.1) (u.2.2.2.2.2.2.2.2.2.1) (u.2.2.2.2.2.2.2.2.2.2.1) (u.2.2.2.2.2.2.2.2.2.2.2))) (va_A (wX o ad kc Sz St Ct T L lk fp fo lp dn ac ea la ne nl eA lA) sz)) 0 0 (va_A (wX o ad kc Sz St Ct T L lk fp fo lp dn ac ea la ne nl eA lA) sz) := sw_metI (by decide) (Nat.le_of_ble_eq_true rfl) (fun p e s m below meth c Q ls A S hK hP hD hA hl ret => bX0_endingAt S (Nat.le_refl _) (Nat.le_refl _) hK hP hD va_S.rf hA hlzt huzt hO hCa ret hl) sz
set_option maxHeartbeats 4000000 in
set_option maxRecDepth 100000 in
theorem bX0_push {D : va_G} {o : Nat} {ad : Nat → Nat} {kc : Nat → ClassId} {Sz : Nat → Nat} {St : Nat → Nat} {Ct : Nat → Nat} {T : Nat → Nat} {L : Nat} {lk : Nat} {fp : Nat} {fo : Nat → Nat} {lp : Nat} {dn : Nat} {ac : Nat} {ea : Nat → Nat} {la : Nat → Int} {ne : Nat → Nat} {nl : Nat → Int} {eA : Nat → Int} {lA : Nat → Int} {zs : Int} (S : CallFix p m c cX0_push 2 s args lw_all RX0) (hRf : 5 ≤ R.frames) (hRl : 116 ≤ R.locals) (hK : va_K D vwCl (tyX kc) s) (hP : va_P D vwCl (wX o ad kc Sz St Ct T L lk fp fo lp dn ac ea la ne nl eA lA) H) (hD : va_D A (wX o ad kc Sz St Ct T L lk fp fo lp dn ac ea la ne nl eA lA)) (hS : va_S A H0 H locs) (hA : ∀ q, H0.size ≤ q → A q) (hlzs : -2147483648 ≤ zs) (huzs : zs < 2147483648) (hO : sw_Ok Sz St Ct T L) (hCa : sw_Ca Sz St Ct T L lk fp fo lp dn ac ea la eA lA) (ret : ∀ (pc : Nat) (ls : Array Slot) (r : Int32) (u : (Nat → Nat) × Nat × Nat × Nat × (Nat → Nat) × Nat × Nat × Nat × (Nat → Nat) × (Nat → Int) × (Nat → Nat) × (Nat → Int) × (Nat → Int) × (Nat → Int)) (H1 : Heap) (locs1 : List Loc), decode cX0_push pc = .ok (.ireturn, 1) → (sw_psh Sz St Ct zs T L r u.1 u.2.1 ∧ sw_Ca Sz St Ct u.1 u.2.1 u.2.2.1 u.2.2.2.1 u.2.2.2.2.1 u.2.2.2.2.2.1 u.2.2.2.2.2.2.1 u.2.2.2.2.2.2.2.1 u.2.2.2.2.2.2.2.2.1 u.2.2.2.2.2.2.2.2.2.1 u.2.2.2.2.2.2.2.2.2.2.2.2.1 u.2.2.2.2.2.2.2.2.2.2.2.2.2) → va_P D vwCl ((fun u : (Nat → Nat) × Nat × Nat × Nat × (Nat → Nat) × Nat × Nat × Nat × (Nat → Nat) × (Nat → Int) × (Nat → Nat) × (Nat → Int) × (Nat → Int) × (Nat → Int) => wX o ad kc Sz St Ct (u.1) (u.2.1) (u.2.2.1) (u.2.2.2.1) (u.2.2.2.2.1) (u.2.2.2.2.2.1) (u.2.2.2.2.2.2.1) (u.2.2.2.2.2.2.2.1) (u.2.2.2.2.2.2.2.2.1) (u.2.2.2.2.2.2.2.2.2.1) (u.2.2.2.2.2.2.2.2.2.2.1) (u.2.2.2.2.2.2.2.2.2.2.2.1) (u.2.2.2.2.2.2.2.2.2.2.2.2.1) (u.2.2.2.2.2.2.2.2.2.2.2.2.2)) u) H1 → va_D A ((fun u : (Nat → Nat) × Nat × Nat × Nat × (Nat → Nat) × Nat × Nat × Nat × (Nat → Nat) × (Nat → Int) × (Nat → Nat) × (Nat → Int) × (Nat → Int) × (Nat → Int) => wX o ad kc Sz St Ct (u.1) (u.2.1) (u.2.2.1) (u.2.2.2.1) (u.2.2.2.2.1) (u.2.2.2.2.2.1) (u.2.2.2.2.2.2.1) (u.2.2.2.2.2.2.2.1) (u.2.2.2.2.2.2.2.2.1) (u.2.2.2.2.2.2.2.2.2.1) (u.2.2.2.2.2.2.2.2.2.2.1) (u.2.2.2.2.2.2.2.2.2.2.2.1) (u.2.2.2.2.2.2.2.2.2.2.2.2.1) (u.2.2.2.2.2.2.2.2.2.2.2.2.2)) u) → va_S A H0 H1 locs1 → W p l e R s m args below meth c H1 locs1 0 0 Q (F0 m pc ls [.int r])) (hl : lv_has ls 2 [(0, .ref (o)), (1, .int (zI (zs)))]) : W p l e R s m args below meth c H locs 0 0 Q (F0 m 0 ls []) := by
  have hx := S.1
  have hb := S.2.1
  have hown := S.2.2.2.1
  have hts := S.2.2.2.2
  have hO2 := hO
  obtain ⟨hs, ht, hc, hT, hL⟩ := hO
  refine lv_iload_n hx hb dX0_push_0 rfl (lv_at hl 1 rfl) ?_
  refine sw_zlt (tgt := 9) hx hb dX0_push_1 (by decide) (zI_toInt (z := zs) (by omega) (by omega)) (fun h1 => ?_) (fun h1 => ?_)
  · refine lv_iconst (v := zI (-1)) hx hb dX0_push_9 (by decide) ?_
    exact ret _ _ _ (T, L, lk, fp, fo, lp, dn, ac, ea, la, ne, nl, eA, lA) _ _ dX0_push_10 (⟨Or.inl ⟨by omega, rfl, rfl, rfl⟩, hCa⟩) hP hD hS
  · refine lv_iload_n hx hb dX0_push_4 rfl (lv_at hl 1 rfl) ?_
    refine lv_iconst (v := nI (3)) hx hb dX0_push_5 (by decide) ?_
    refine sw_dle (tgt := 11) hx hb dX0_push_6 (by decide) (zI_toInt (z := zs) (by omega) (by omega)) (nI_toInt (show (3) < 2 ^ 31 by omega)) (fun h6 => ?_) (fun h6 => ?_)
    · obtain ⟨sn, rfl⟩ := Int.eq_ofNat_of_zero_le h1
      have hl : lv_has ls 2 [(0, .ref (o)), (1, .int (nI (sn)))] := by rw [show zI ((sn : Int)) = nI (sn) from zI_n sn] at hl; exact hl
      refine lv_aload_n hx hb dX0_push_11 rfl (lv_at hl 0 rfl) ?_
      refine va_get (D := D) (ci := 0) (v := .int (nI (L))) (C := RX0) (T := TX0) (N := 17) hx hb hts in_X0 hown hK hP 0 rfl rfl 4 (by decide) (hts _ q34) (fun _ h9 => h9) rfl dX0_push_12 ?_
      refine lv_bipush (v := nI (60)) hx hb dX0_push_15 (by decide) ?_
      refine sw_clt (tgt := 23) hx hb dX0_push_17 (by decide) (by omega) (by omega) (fun h17 => ?_) (fun h17 => ?_)
      · refine lv_aload_n hx hb dX0_push_23 rfl (lv_at hl 0 rfl) ?_
        refine va_get (D := D) (ci := 0) (v := .ref (ad 3)) (C := RX0) (T := TX0) (N := 17) hx hb hts in_X0 hown hK hP 0 rfl rfl 3 (by decide) (hts _ q33) (fun _ h9 => h9) rfl dX0_push_24 ?_
        refine lv_aload_n hx hb dX0_push_27 rfl (lv_at hl 0 rfl) ?_
        refine va_get (D := D) (ci := 0) (v := .int (nI (L))) (C := RX0) (T := TX0) (N := 17) hx hb hts in_X0 hown hK hP 0 rfl rfl 4 (by decide) (hts _ q34) (fun _ h9 => h9) rfl dX0_push_28 ?_
        refine lv_iload_n hx hb dX0_push_31 rfl (lv_at hl 1 rfl) ?_
        refine lv_i2b (v := nI (sn)) hx hb dX0_push_32 (sw_byN _ (by omega)) ?_
        refine sw_bst hx hb hK hP hD hS 4 3 rfl rfl (by omega) (by decide) (sw_naN (by omega)) (sw_updN _ _ _) dX0_push_33 (fun H locs hP hD hS => ?_)
        have hP : va_P D vwCl (wX o ad kc Sz St Ct (va_up T L sn) L lk fp fo lp dn ac ea la ne nl eA lA) H := hP
        have hD : va_D A (wX o ad kc Sz St Ct (va_up T L sn) L lk fp fo lp dn ac ea la ne nl eA lA) := hD
        refine lv_aload_n hx hb dX0_push_34 rfl (lv_at hl 0 rfl) ?_
        refine lv_dup hx hb dX0_push_35 rfl ?_
        refine va_get (D := D) (ci := 0) (v := .int (nI (L))) (C := RX0) (T := TX0) (N := 17) hx hb hts in_X0 hown hK hP 0 rfl rfl 4 (by decide) (hts _ q34) (fun _ h9 => h9) rfl dX0_push_36 ?_
        refine lv_iconst (v := nI (1)) hx hb dX0_push_39 (by decide) ?_
        refine sw_add hx hb dX0_push_40 ?_
        refine va_put (D := D) (ci := 0) (v := .int (nI (L + 1))) (ty := .int) (C := RX0) (T := TX0) (N := 17) hx hb hts in_X0 tyX0 tyX0_ok nmX0 hown hK hP hD hS 0 rfl rfl 4 (by decide) (hts _ q34) (fun _ h9 => h9) rfl (by decide +kernel) rfl rfl (Nat.le_of_ble_eq_true rfl) dX0_push_41 (fun H locs hP hD hS => ?_)
        have hP : va_P D vwCl (wX o ad kc Sz St Ct (va_up T L sn) (L + 1) lk fp fo lp dn ac ea la ne nl eA lA) H := hP
        have hD : va_D A (wX o ad kc Sz St Ct (va_up T L sn) (L + 1) lk fp fo lp dn ac ea la ne nl eA lA) := hD
        refine lv_aload_n hx hb dX0_push_44 rfl (lv_at hl 0 rfl) ?_
        refine lv_aload_n hx hb dX0_push_45 rfl (lv_at hl 0 rfl) ?_
        refine va_get (D := D) (ci := 0) (v := .int (nI (L + 1))) (C := RX0) (T := TX0) (N := 17) hx hb hts in_X0 hown hK hP 0 rfl rfl 4 (by decide) (hts _ q34) (fun _ h9 => h9) rfl dX0_push_46 ?_
        refine lv_iconst (v := nI (1)) hx hb dX0_push_49 (by decide) ?_
        refine sw_sub hx hb dX0_push_50 (by omega) ?_
        refine sw_top (y := zI ((L : Int))) ((congrArg nI (Nat.add_sub_cancel (n := L) (m := 1))).trans (zI_n L).symm) ?_
        refine sw_cvI (As := [.int (zI ((L : Int)))]) (rest := []) (C := RX0) (ci := 0) (q0 := 0) S (fun sz => (mX0_endingAt l (by omega) (by omega) (sw_Ok_push hO2 (by omega) h17) (sw_Ca_push sn hCa) sz)) (cwV 1 hts (lw_V q111 q112 q113 q20 q114) rfl rfl rfl (by decide +kernel) ⟨Nat.le_trans (Nat.le_of_ble_eq_true rfl) hRf, Nat.le_trans (Nat.le_of_ble_eq_true rfl) hRl⟩) hK hP hD hS hA rfl rfl rfl rfl hl.1 rfl (Nat.le_of_ble_eq_true rfl) dX0_push_51 ⟨Nat.zero_le _, Nat.zero_le _⟩ (fun r u H locs hr hP hD hS => ?_)
        obtain ⟨lk_51, fp_51, fo_51, lp_51, dn_51, ac_51, ea_51, la_51, ne_51, nl_51, eA_51, lA_51⟩ := u
        have hP : va_P D vwCl (wX o ad kc Sz St Ct (va_up T L sn) (L + 1) lk_51 fp_51 fo_51 lp_51 dn_51 ac_51 ea_51 la_51 ne_51 nl_51 eA_51 lA_51) H := hP
        have hD : va_D A (wX o ad kc Sz St Ct (va_up T L sn) (L + 1) lk_51 fp_51 fo_51 lp_51 dn_51 ac_51 ea_51 la_51 ne_51 nl_51 eA_51 lA_51) := hD
        exact ret _ _ _ (va_up T L sn, L + 1, lk_51, fp_51, fo_51, lp_51, dn_51, ac_51, ea_51, la_51, ne_51, nl_51, eA_51, lA_51) _ _ dX0_push_54 (⟨Or.inr ⟨sn, rfl, by omega, Or.inr ⟨h17, rfl, rfl, hr.1⟩⟩, hr.2⟩) hP hD hS
      · refine lv_bipush (v := zI (-2)) hx hb dX0_push_20 (by decide) ?_
        exact ret _ _ _ (T, L, lk, fp, fo, lp, dn, ac, ea, la, ne, nl, eA, lA) _ _ dX0_push_22 (⟨Or.inr ⟨sn, rfl, by omega, Or.inl ⟨h17, rfl, rfl, rfl⟩⟩, hCa⟩) hP hD hS
    · refine lv_iconst (v := zI (-1)) hx hb dX0_push_9 (by decide) ?_
      exact ret _ _ _ (T, L, lk, fp, fo, lp, dn, ac, ea, la, ne, nl, eA, lA) _ _ dX0_push_10 (⟨Or.inl ⟨by omega, rfl, rfl, rfl⟩, hCa⟩) hP hD hS
set_option maxRecDepth 100000 in
theorem mX0_push (l : Launch) {D : va_G} {o : Nat} {ad : Nat → Nat} {kc : Nat → ClassId} {Sz : Nat → Nat} {St : Nat → Nat} {Ct : Nat → Nat} {T : Nat → Nat} {L : Nat} {lk : Nat} {fp : Nat} {fo : Nat → Nat} {lp : Nat} {dn : Nat} {ac : Nat} {ea : Nat → Nat} {la : Nat → Int} {ne : Nat → Nat} {nl : Nat → Int} {eA : Nat → Int} {lA : Nat → Int} {zs : Int} (hlzs : -2147483648 ≤ zs) (huzs : zs < 2147483648) (hO : sw_Ok Sz St Ct T L) (hCa : sw_Ca Sz St Ct T L lk fp fo lp dn ac ea la eA lA) (sz : Nat) : Met l yX0_push (ws_ yX0_push cX0_push 2 (some .int)) ({ frames := 5, cells := 0, slots := 0, locals := 116 }) (sw_M D vwCl (wX o ad kc Sz St Ct T L lk fp fo lp dn ac ea la ne nl eA lA) (tyX kc) sz [.ref o, .int (zI (zs))]) (va_Qi (fun (r : Int32) (u : (Nat → Nat) × Nat × Nat × Nat × (Nat → Nat) × Nat × Nat × Nat × (Nat → Nat) × (Nat → Int) × (Nat → Nat) × (Nat → Int) × (Nat → Int) × (Nat → Int)) => sw_psh Sz St Ct zs T L r u.1 u.2.1 ∧ sw_Ca Sz St Ct u.1 u.2.1 u.2.2.1 u.2.2.2.1 u.2.2.2.2.1 u.2.2.2.2.2.1 u.2.2.2.2.2.2.1 u.2.2.2.2.2.2.2.1 u.2.2.2.2.2.2.2.2.1 u.2.2.2.2.2.2.2.2.2.1 u.2.2.2.2.2.2.2.2.2.2.2.2.1 u.2.2.2.2.2.2.2.2.2.2.2.2.2) (sw_B D vwCl (tyX kc) (va_A (wX o ad kc Sz St Ct T L lk fp fo lp dn ac ea la ne nl eA lA) sz) (fun u : (Nat → Nat) × Nat × Nat × Nat × (Nat → Nat) × Nat × Nat × Nat × (Nat → Nat) × (Nat → Int) × (Nat → Nat) × (Nat → Int) × (Nat → Int) × (Nat → Int) => wX o ad kc Sz St Ct (u.1) (u.2.1) (u.2.2.1) (u.2.2.2.1) (u.2.2.2.2.1) (u.2.2.2.2.2.1) (u.2.2.2.2.2.2.1) (u.2.2.2.2.2.2.2.1) (u.2.2.2.2.2.2.2.2.1) (u.2.2.2.2.2.2.2.2.2.1) (u.2.2.2.2.2.2.2.2.2.2.1) (u.2.2.2.2.2.2.2.2.2.2.2.1) (u.2.2.2.2.2.2.2.2.2.2.2.2.1) (u.2.2.2.2.2.2.2.2.2.2.2.2.2))) (va_A (wX o ad kc Sz St Ct T L lk fp fo lp dn ac ea la ne nl eA lA) sz)) 0 0 (va_A (wX o ad kc Sz St Ct T L lk fp fo lp dn ac ea la ne nl eA lA) sz) := sw_metI (by decide) (Nat.le_of_ble_eq_true rfl) (fun p e s m below meth c Q ls A S hK hP hD hA hl ret => bX0_push S (Nat.le_refl _) (Nat.le_refl _) hK hP hD va_S.rf hA hlzs huzs hO hCa ret hl) sz
set_option maxHeartbeats 4000000 in
set_option maxRecDepth 100000 in
theorem bX0_reset {D : va_G} {o : Nat} {ad : Nat → Nat} {kc : Nat → ClassId} {Sz : Nat → Nat} {St : Nat → Nat} {Ct : Nat → Nat} {T : Nat → Nat} {L : Nat} {lk : Nat} {fp : Nat} {fo : Nat → Nat} {lp : Nat} {dn : Nat} {ac : Nat} {ea : Nat → Nat} {la : Nat → Int} {ne : Nat → Nat} {nl : Nat → Int} {eA : Nat → Int} {lA : Nat → Int} (S : CallFix p m c cX0_reset 1 s args lw_all RX0) (hRf : 1 ≤ R.frames) (hRl : 20 ≤ R.locals) (hK : va_K D vwCl (tyX kc) s) (hP : va_P D vwCl (wX o ad kc Sz St Ct T L lk fp fo lp dn ac ea la ne nl eA lA) H) (hD : va_D A (wX o ad kc Sz St Ct T L lk fp fo lp dn ac ea la ne nl eA lA)) (hS : va_S A H0 H locs) (hA : ∀ q, H0.size ≤ q → A q) (hlk : lk = 0 ∨ (lk = 1 ∧ sw_Lk Sz Ct fp fo lp)) (ret : ∀ (pc : Nat) (ls : Array Slot) (u : Unit) (H1 : Heap) (locs1 : List Loc), decode cX0_reset pc = .ok (.return_, 1) → (sw_Ca Sz St Ct T 0 lk fp fo lp 0 0 ea la eA lA) → va_P D vwCl ((fun _ : Unit => wX o ad kc Sz St Ct T 0 lk fp fo lp 0 0 ea la ne nl eA lA) u) H1 → va_D A ((fun _ : Unit => wX o ad kc Sz St Ct T 0 lk fp fo lp 0 0 ea la ne nl eA lA) u) → va_S A H0 H1 locs1 → W p l e R s m args below meth c H1 locs1 0 0 Q (F0 m pc ls [])) (hl : lv_has ls 1 [(0, .ref (o))]) : W p l e R s m args below meth c H locs 0 0 Q (F0 m 0 ls []) := by
  have hx := S.1
  have hb := S.2.1
  have hown := S.2.2.2.1
  have hts := S.2.2.2.2
  refine lv_aload_n hx hb dX0_reset_0 rfl (lv_at hl 0 rfl) ?_
  refine lv_iconst (v := nI (0)) hx hb dX0_reset_1 (by decide) ?_
  refine va_put (D := D) (ci := 0) (v := .int (nI (0))) (ty := .int) (C := RX0) (T := TX0) (N := 17) hx hb hts in_X0 tyX0 tyX0_ok nmX0 hown hK hP hD hS 0 rfl rfl 4 (by decide) (hts _ q34) (fun _ h9 => h9) rfl (by decide +kernel) rfl rfl (Nat.le_of_ble_eq_true rfl) dX0_reset_2 (fun H locs hP hD hS => ?_)
  have hP : va_P D vwCl (wX o ad kc Sz St Ct T 0 lk fp fo lp dn ac ea la ne nl eA lA) H := hP
  have hD : va_D A (wX o ad kc Sz St Ct T 0 lk fp fo lp dn ac ea la ne nl eA lA) := hD
  refine lv_aload_n hx hb dX0_reset_5 rfl (lv_at hl 0 rfl) ?_
  refine sw_cvV (As := []) (rest := []) (C := RX0) (ci := 0) (q0 := 0) S (fun sz => (mX0_startOver l  sz)) (cwV 0 hts (lw_V q95 q97 qs1 q20 q98) rfl rfl rfl (by decide +kernel) ⟨Nat.le_trans (Nat.le_of_ble_eq_true rfl) hRf, Nat.le_trans (Nat.le_of_ble_eq_true rfl) hRl⟩) hK hP hD hS hA rfl rfl rfl rfl hl.1 rfl (Nat.le_of_ble_eq_true rfl) dX0_reset_6 ⟨Nat.zero_le _, Nat.zero_le _⟩ (fun u H locs hr hP hD hS => ?_)
  have hP : va_P D vwCl (wX o ad kc Sz St Ct T 0 lk fp fo lp 0 0 ea la ne nl eA lA) H := hP
  have hD : va_D A (wX o ad kc Sz St Ct T 0 lk fp fo lp 0 0 ea la ne nl eA lA) := hD
  exact ret _ _ () _ _ dX0_reset_9 (sw_Ca_0 hlk) hP hD hS
set_option maxRecDepth 100000 in
theorem mX0_reset (l : Launch) {D : va_G} {o : Nat} {ad : Nat → Nat} {kc : Nat → ClassId} {Sz : Nat → Nat} {St : Nat → Nat} {Ct : Nat → Nat} {T : Nat → Nat} {L : Nat} {lk : Nat} {fp : Nat} {fo : Nat → Nat} {lp : Nat} {dn : Nat} {ac : Nat} {ea : Nat → Nat} {la : Nat → Int} {ne : Nat → Nat} {nl : Nat → Int} {eA : Nat → Int} {lA : Nat → Int} (hlk : lk = 0 ∨ (lk = 1 ∧ sw_Lk Sz Ct fp fo lp)) (sz : Nat) : Met l yX0_reset (ws_ yX0_reset cX0_reset 1 (none)) ({ frames := 1, cells := 0, slots := 0, locals := 20 }) (sw_M D vwCl (wX o ad kc Sz St Ct T L lk fp fo lp dn ac ea la ne nl eA lA) (tyX kc) sz [.ref o]) (va_Qv (fun (u : Unit) => sw_Ca Sz St Ct T 0 lk fp fo lp 0 0 ea la eA lA) (sw_B D vwCl (tyX kc) (va_A (wX o ad kc Sz St Ct T L lk fp fo lp dn ac ea la ne nl eA lA) sz) (fun _ : Unit => wX o ad kc Sz St Ct T 0 lk fp fo lp 0 0 ea la ne nl eA lA)) (va_A (wX o ad kc Sz St Ct T L lk fp fo lp dn ac ea la ne nl eA lA) sz)) 0 0 (va_A (wX o ad kc Sz St Ct T L lk fp fo lp dn ac ea la ne nl eA lA) sz) := sw_metV (by decide) (Nat.le_of_ble_eq_true rfl) (fun p e s m below meth c Q ls A S hK hP hD hA hl ret => bX0_reset S (Nat.le_refl _) (Nat.le_refl _) hK hP hD va_S.rf hA hlk ret hl) sz
set_option maxHeartbeats 4000000 in
set_option maxRecDepth 100000 in
theorem bX0_ends {D : va_G} {o : Nat} {ad : Nat → Nat} {kc : Nat → ClassId} {Sz : Nat → Nat} {St : Nat → Nat} {Ct : Nat → Nat} {T : Nat → Nat} {L : Nat} {lk : Nat} {fp : Nat} {fo : Nat → Nat} {lp : Nat} {dn : Nat} {ac : Nat} {ea : Nat → Nat} {la : Nat → Int} {ne : Nat → Nat} {nl : Nat → Int} {eA : Nat → Int} {lA : Nat → Int} {zp : Int} (S : CallFix p m c cX0_ends 4 s args lw_all RX0) (hRf : 4 ≤ R.frames) (hRl : 93 ≤ R.locals) (hK : va_K D vwCl (tyX kc) s) (hP : va_P D vwCl (wX o ad kc Sz St Ct T L lk fp fo lp dn ac ea la ne nl eA lA) H) (hD : va_D A (wX o ad kc Sz St Ct T L lk fp fo lp dn ac ea la ne nl eA lA)) (hS : va_S A H0 H locs) (hA : ∀ q, H0.size ≤ q → A q) (hlzp : -2147483648 ≤ zp) (huzp : zp < 2147483648) (hO : sw_Ok Sz St Ct T L) (hCa : sw_Ca Sz St Ct T L lk fp fo lp dn ac ea la eA lA) (ret : ∀ (pc : Nat) (ls : Array Slot) (r : Int32) (u : Nat × Nat × (Nat → Nat) × Nat × Nat × Nat × (Nat → Nat) × (Nat → Int) × (Nat → Nat) × (Nat → Int) × (Nat → Int) × (Nat → Int)) (H1 : Heap) (locs1 : List Loc), decode cX0_ends pc = .ok (.ireturn, 1) → (sw_endR Sz St Ct T L zp r ∧ sw_Ca Sz St Ct T L u.1 u.2.1 u.2.2.1 u.2.2.2.1 u.2.2.2.2.1 u.2.2.2.2.2.1 u.2.2.2.2.2.2.1 u.2.2.2.2.2.2.2.1 u.2.2.2.2.2.2.2.2.2.2.1 u.2.2.2.2.2.2.2.2.2.2.2) → va_P D vwCl ((fun u : Nat × Nat × (Nat → Nat) × Nat × Nat × Nat × (Nat → Nat) × (Nat → Int) × (Nat → Nat) × (Nat → Int) × (Nat → Int) × (Nat → Int) => wX o ad kc Sz St Ct T L (u.1) (u.2.1) (u.2.2.1) (u.2.2.2.1) (u.2.2.2.2.1) (u.2.2.2.2.2.1) (u.2.2.2.2.2.2.1) (u.2.2.2.2.2.2.2.1) (u.2.2.2.2.2.2.2.2.1) (u.2.2.2.2.2.2.2.2.2.1) (u.2.2.2.2.2.2.2.2.2.2.1) (u.2.2.2.2.2.2.2.2.2.2.2)) u) H1 → va_D A ((fun u : Nat × Nat × (Nat → Nat) × Nat × Nat × Nat × (Nat → Nat) × (Nat → Int) × (Nat → Nat) × (Nat → Int) × (Nat → Int) × (Nat → Int) => wX o ad kc Sz St Ct T L (u.1) (u.2.1) (u.2.2.1) (u.2.2.2.1) (u.2.2.2.2.1) (u.2.2.2.2.2.1) (u.2.2.2.2.2.2.1) (u.2.2.2.2.2.2.2.1) (u.2.2.2.2.2.2.2.2.1) (u.2.2.2.2.2.2.2.2.2.1) (u.2.2.2.2.2.2.2.2.2.2.1) (u.2.2.2.2.2.2.2.2.2.2.2)) u) → va_S A H0 H1 locs1 → W p l e R s m args below meth c H1 locs1 0 0 Q (F0 m pc ls [.int r])) (hl : lv_has ls 4 [(0, .ref (o)), (1, .int (zI (zp)))]) : W p l e R s m args below meth c H locs 0 0 Q (F0 m 0 ls []) := by
  have hx := S.1
  have hb := S.2.1
  have hown := S.2.2.2.1
  have hts := S.2.2.2.2
  have hO2 := hO
  obtain ⟨hs, ht, hc, hT, hL⟩ := hO
  refine lv_iload_n hx hb dX0_ends_0 rfl (lv_at hl 1 rfl) ?_
  refine sw_csR (As := [.int (zI (zp))]) (rest := []) S (mX0_isPattern l hlzp huzp) (va_cwS 1 hts (lw_S q88 q89 q20 q90) rfl rfl rfl (by decide +kernel) ⟨Nat.le_trans (Nat.le_of_ble_eq_true rfl) hRf, Nat.le_trans (Nat.le_of_ble_eq_true rfl) hRl⟩) rfl hl.1 rfl (Nat.le_of_ble_eq_true rfl) dX0_ends_1 ⟨Nat.zero_le _, Nat.zero_le _⟩ (fun r hr => ?_)
  rcases hr with ⟨rfl, hr1⟩ | ⟨rfl, hr1⟩
  · obtain ⟨pn, rfl⟩ := Int.eq_ofNat_of_zero_le hr1.1
    have hl : lv_has ls 4 [(0, .ref (o)), (1, .int (nI (pn)))] := by rw [show zI ((pn : Int)) = nI (pn) from zI_n pn] at hl; exact hl
    refine sw_ifne (tgt := 9) hx hb dX0_ends_4 (by decide) (by decide) (fun _ => ?_) (fun q => absurd q (by decide))
    refine lv_aload_n hx hb dX0_ends_9 rfl (lv_at hl 0 rfl) ?_
    refine sw_cvV (As := []) (rest := []) (C := RX0) (ci := 0) (q0 := 0) S (fun sz => (mX0_goThrough l hO2 hCa sz)) (cwV 0 hts (lw_V q119 q121 qs3 q20 q122) rfl rfl rfl (by decide +kernel) ⟨Nat.le_trans (Nat.le_of_ble_eq_true rfl) hRf, Nat.le_trans (Nat.le_of_ble_eq_true rfl) hRl⟩) hK hP hD hS hA rfl rfl rfl rfl hl.1 rfl (Nat.le_of_ble_eq_true rfl) dX0_ends_10 ⟨Nat.zero_le _, Nat.zero_le _⟩ (fun u H locs hr hP hD hS => ?_)
    obtain ⟨lk_10, fp_10, fo_10, lp_10, dn_10, ac_10, ea_10, la_10, ne_10, nl_10, eA_10, lA_10⟩ := u
    have hP : va_P D vwCl (wX o ad kc Sz St Ct T L lk_10 fp_10 fo_10 lp_10 dn_10 ac_10 ea_10 la_10 ne_10 nl_10 eA_10 lA_10) H := hP
    have hD : va_D A (wX o ad kc Sz St Ct T L lk_10 fp_10 fo_10 lp_10 dn_10 ac_10 ea_10 la_10 ne_10 nl_10 eA_10 lA_10) := hD
    obtain ⟨hg1, hg2, hg3, hg4, hg5⟩ := hr
    have hg3 : dn_10 = L := hg3
    have hCa2 : sw_Ca Sz St Ct T L lk_10 fp_10 fo_10 lp_10 dn_10 ac_10 ea_10 la_10 eA_10 lA_10 := ⟨Or.inr ⟨hg1, hg2⟩, Nat.le_of_eq hg3, by rw [hg3]; exact hg4, by rw [hg3]; exact hg5⟩
    have hLk2 : sw_Lk Sz Ct fp_10 fo_10 lp_10 := hg2
    have hAcL : sw_Ac Sz St Ct T L ac_10 ea_10 la_10 := hg4
    have hRsL : sw_Rs Sz St Ct T L eA_10 lA_10 := hg5
    refine lv_iconst (v := nI (0)) hx hb dX0_ends_13 (by decide) ?_
    refine lv_istore_n (lv' := [(2, .int (nI (0))), (0, .ref (o)), (1, .int (nI (pn)))]) hx hb dX0_ends_14 rfl hl (by decide) rfl (fun ls hl => ?_)
    refine lv_iconst (v := nI (0)) hx hb dX0_ends_15 (by decide) ?_
    refine lv_istore_n (lv' := [(3, .int (nI (0))), (2, .int (nI (0))), (0, .ref (o)), (1, .int (nI (pn)))]) hx hb dX0_ends_16 rfl hl (by decide) rfl (fun ls hl => ?_)
    have L17 : ∀ (n : Nat) (x : Nat) (ti : Nat), (ti ≤ L) → (x = sw_cnt (fun t => ∃ b, sw_Eb Sz St Ct T pn t b) ti) → L - ti < n → ∀ (H : Heap) (locs : List Loc), va_P D vwCl (wX o ad kc Sz St Ct T L lk_10 fp_10 fo_10 lp_10 dn_10 ac_10 ea_10 la_10 ne_10 nl_10 eA_10 lA_10) H → va_D A (wX o ad kc Sz St Ct T L lk_10 fp_10 fo_10 lp_10 dn_10 ac_10 ea_10 la_10 ne_10 nl_10 eA_10 lA_10) → va_S A H0 H locs → ∀ (ls : Array Slot), lv_has ls 4 [(0, .ref (o)), (1, .int (nI (pn))), (2, .int (nI (x))), (3, .int (nI (ti)))] → W p l e R s m args below meth c H locs 0 0 Q (F0 m 17 ls []) := by
      intro n
      induction n with
      | zero => intro x ti _ _ hm; exact absurd hm (Nat.not_lt_zero _)
      | succ n ihL17 =>
        intro x ti hti hI hmL17 H locs hP hD hS ls hl
        have hcl := sw_cnt_le (P := fun t => ∃ b, sw_Eb Sz St Ct T pn t b) ti
        refine lv_iload_n hx hb dX0_ends_17 rfl (lv_at hl 3 rfl) ?_
        refine lv_aload_n hx hb dX0_ends_18 rfl (lv_at hl 0 rfl) ?_
        refine va_get (D := D) (ci := 0) (v := .int (nI (L))) (C := RX0) (T := TX0) (N := 17) hx hb hts in_X0 hown hK hP 0 rfl rfl 4 (by decide) (hts _ q34) (fun _ h9 => h9) rfl dX0_ends_19 ?_
        refine sw_cge (tgt := 52) hx hb dX0_ends_22 (by decide) (by omega) (by omega) (fun h22 => ?_) (fun h22 => ?_)
        · refine lv_iload_n hx hb dX0_ends_52 rfl (lv_at hl 2 rfl) ?_
          exact ret _ _ _ (lk_10, fp_10, fo_10, lp_10, dn_10, ac_10, ea_10, la_10, ne_10, nl_10, eA_10, lA_10) _ _ dX0_ends_53 (⟨Or.inl ⟨pn, rfl, by omega, by rw [hI, show ti = L by omega]⟩, hCa2⟩) hP hD hS
        · have hh := (hRsL ti pn (by omega) (by omega)).2
          have hbd := sw_hi_bd hh (fun b hb => hb.1)
          refine lv_iload_n hx hb dX0_ends_25 rfl (lv_at hl 2 rfl) ?_
          refine lv_aload_n hx hb dX0_ends_26 rfl (lv_at hl 0 rfl) ?_
          refine va_get (D := D) (ci := 0) (v := .ref (ad 10)) (C := RX0) (T := TX0) (N := 17) hx hb hts in_X0 hown hK hP 0 rfl rfl 16 (by decide) (hts _ q46) (fun _ h9 => h9) rfl dX0_ends_27 ?_
          refine lv_iload_n hx hb dX0_ends_30 rfl (lv_at hl 3 rfl) ?_
          refine lv_iconst (v := nI (4)) hx hb dX0_ends_31 (by decide) ?_
          refine sw_mul hx hb dX0_ends_32 ?_
          refine lv_iload_n hx hb dX0_ends_33 rfl (lv_at hl 1 rfl) ?_
          refine sw_add hx hb dX0_ends_34 ?_
          refine sw_bld hx hb hK hP 11 10 rfl rfl (by omega) (by decide) (v := zI (lA_10 ((ti * 4) + pn))) rfl dX0_ends_35 ?_
          refine sw_zlt (tgt := 43) hx hb dX0_ends_36 (by decide) (zI_toInt (z := lA_10 ((ti * 4) + pn)) (by omega) (by omega)) (fun h36 => ?_) (fun h36 => ?_)
          · have hI' : x + 0 = sw_cnt (fun t => ∃ b, sw_Eb Sz St Ct T pn t b) (ti + 1) := by rw [sw_cnt_n (fun q => by have := (sw_hi_ge hh).mpr q; omega)]; exact hI
            refine lv_iconst (v := nI (0)) hx hb dX0_ends_43 (by decide) ?_
            refine sw_add hx hb dX0_ends_44 ?_
            refine lv_istore_n (lv' := [(2, .int (nI (x + 0))), (0, .ref (o)), (1, .int (nI (pn))), (3, .int (nI (ti)))]) hx hb dX0_ends_45 rfl hl (by decide) rfl (fun ls hl => ?_)
            refine lv_iinc (k := 3) (v := nI (ti + 1)) (lv' := [(3, .int (nI (ti + 1))), (2, .int (nI (x + 0))), (0, .ref (o)), (1, .int (nI (pn)))]) hx hb dX0_ends_46 hl rfl (nI_add _ 1) (by decide) rfl (fun ls hl => ?_)
            refine lv_goto (tgt := 17) hx hb dX0_ends_49 (by decide) ?_
            exact ihL17 (x + 0) (ti + 1) (by omega) hI' (by omega) _ _ hP hD hS _ (lv_sub hl [2, 3, 1, 0] rfl)
          · have hI' : x + 1 = sw_cnt (fun t => ∃ b, sw_Eb Sz St Ct T pn t b) (ti + 1) := by rw [sw_cnt_1 ((sw_hi_ge hh).mp h36), hI]
            refine lv_iconst (v := nI (1)) hx hb dX0_ends_39 (by decide) ?_
            refine lv_goto (tgt := 44) hx hb dX0_ends_40 (by decide) ?_
            refine sw_add hx hb dX0_ends_44 ?_
            refine lv_istore_n (lv' := [(2, .int (nI (x + 1))), (0, .ref (o)), (1, .int (nI (pn))), (3, .int (nI (ti)))]) hx hb dX0_ends_45 rfl hl (by decide) rfl (fun ls hl => ?_)
            refine lv_iinc (k := 3) (v := nI (ti + 1)) (lv' := [(3, .int (nI (ti + 1))), (2, .int (nI (x + 1))), (0, .ref (o)), (1, .int (nI (pn)))]) hx hb dX0_ends_46 hl rfl (nI_add _ 1) (by decide) rfl (fun ls hl => ?_)
            refine lv_goto (tgt := 17) hx hb dX0_ends_49 (by decide) ?_
            exact ihL17 (x + 1) (ti + 1) (by omega) hI' (by omega) _ _ hP hD hS _ (lv_sub hl [2, 3, 1, 0] rfl)
    exact L17 (L - (0) + 1) (0) (0) (by omega) rfl (Nat.lt_succ_self _) _ _ hP hD hS _ (lv_sub hl [2, 3, 1, 0] rfl)
  · refine sw_ifne (tgt := 9) hx hb dX0_ends_4 (by decide) (by decide) (fun q => absurd rfl q) (fun _ => ?_)
    refine lv_iconst (v := nI (0)) hx hb dX0_ends_7 (by decide) ?_
    exact ret _ _ _ (lk, fp, fo, lp, dn, ac, ea, la, ne, nl, eA, lA) _ _ dX0_ends_8 (⟨Or.inr ⟨hr1, rfl⟩, hCa⟩) hP hD hS
set_option maxRecDepth 100000 in
theorem mX0_ends (l : Launch) {D : va_G} {o : Nat} {ad : Nat → Nat} {kc : Nat → ClassId} {Sz : Nat → Nat} {St : Nat → Nat} {Ct : Nat → Nat} {T : Nat → Nat} {L : Nat} {lk : Nat} {fp : Nat} {fo : Nat → Nat} {lp : Nat} {dn : Nat} {ac : Nat} {ea : Nat → Nat} {la : Nat → Int} {ne : Nat → Nat} {nl : Nat → Int} {eA : Nat → Int} {lA : Nat → Int} {zp : Int} (hlzp : -2147483648 ≤ zp) (huzp : zp < 2147483648) (hO : sw_Ok Sz St Ct T L) (hCa : sw_Ca Sz St Ct T L lk fp fo lp dn ac ea la eA lA) (sz : Nat) : Met l yX0_ends (ws_ yX0_ends cX0_ends 4 (some .int)) ({ frames := 4, cells := 0, slots := 0, locals := 93 }) (sw_M D vwCl (wX o ad kc Sz St Ct T L lk fp fo lp dn ac ea la ne nl eA lA) (tyX kc) sz [.ref o, .int (zI (zp))]) (va_Qi (fun (r : Int32) (u : Nat × Nat × (Nat → Nat) × Nat × Nat × Nat × (Nat → Nat) × (Nat → Int) × (Nat → Nat) × (Nat → Int) × (Nat → Int) × (Nat → Int)) => sw_endR Sz St Ct T L zp r ∧ sw_Ca Sz St Ct T L u.1 u.2.1 u.2.2.1 u.2.2.2.1 u.2.2.2.2.1 u.2.2.2.2.2.1 u.2.2.2.2.2.2.1 u.2.2.2.2.2.2.2.1 u.2.2.2.2.2.2.2.2.2.2.1 u.2.2.2.2.2.2.2.2.2.2.2) (sw_B D vwCl (tyX kc) (va_A (wX o ad kc Sz St Ct T L lk fp fo lp dn ac ea la ne nl eA lA) sz) (fun u : Nat × Nat × (Nat → Nat) × Nat × Nat × Nat × (Nat → Nat) × (Nat → Int) × (Nat → Nat) × (Nat → Int) × (Nat → Int) × (Nat → Int) => wX o ad kc Sz St Ct T L (u.1) (u.2.1) (u.2.2.1) (u.2.2.2.1) (u.2.2.2.2.1) (u.2.2.2.2.2.1) (u.2.2.2.2.2.2.1) (u.2.2.2.2.2.2.2.1) (u.2.2.2.2.2.2.2.2.1) (u.2.2.2.2.2.2.2.2.2.1) (u.2.2.2.2.2.2.2.2.2.2.1) (u.2.2.2.2.2.2.2.2.2.2.2))) (va_A (wX o ad kc Sz St Ct T L lk fp fo lp dn ac ea la ne nl eA lA) sz)) 0 0 (va_A (wX o ad kc Sz St Ct T L lk fp fo lp dn ac ea la ne nl eA lA) sz) := sw_metI (by decide) (Nat.le_of_ble_eq_true rfl) (fun p e s m below meth c Q ls A S hK hP hD hA hl ret => bX0_ends S (Nat.le_refl _) (Nat.le_refl _) hK hP hD va_S.rf hA hlzp huzp hO hCa ret hl) sz
set_option maxHeartbeats 4000000 in
set_option maxRecDepth 100000 in
theorem bX0_firstEnd {D : va_G} {o : Nat} {ad : Nat → Nat} {kc : Nat → ClassId} {Sz : Nat → Nat} {St : Nat → Nat} {Ct : Nat → Nat} {T : Nat → Nat} {L : Nat} {lk : Nat} {fp : Nat} {fo : Nat → Nat} {lp : Nat} {dn : Nat} {ac : Nat} {ea : Nat → Nat} {la : Nat → Int} {ne : Nat → Nat} {nl : Nat → Int} {eA : Nat → Int} {lA : Nat → Int} {zp : Int} (S : CallFix p m c cX0_firstEnd 3 s args lw_all RX0) (hRf : 4 ≤ R.frames) (hRl : 93 ≤ R.locals) (hK : va_K D vwCl (tyX kc) s) (hP : va_P D vwCl (wX o ad kc Sz St Ct T L lk fp fo lp dn ac ea la ne nl eA lA) H) (hD : va_D A (wX o ad kc Sz St Ct T L lk fp fo lp dn ac ea la ne nl eA lA)) (hS : va_S A H0 H locs) (hA : ∀ q, H0.size ≤ q → A q) (hlzp : -2147483648 ≤ zp) (huzp : zp < 2147483648) (hO : sw_Ok Sz St Ct T L) (hCa : sw_Ca Sz St Ct T L lk fp fo lp dn ac ea la eA lA) (ret : ∀ (pc : Nat) (ls : Array Slot) (r : Int32) (u : Nat × Nat × (Nat → Nat) × Nat × Nat × Nat × (Nat → Nat) × (Nat → Int) × (Nat → Nat) × (Nat → Int) × (Nat → Int) × (Nat → Int)) (H1 : Heap) (locs1 : List Loc), decode cX0_firstEnd pc = .ok (.ireturn, 1) → (sw_feR Sz St Ct T L zp r ∧ sw_Ca Sz St Ct T L u.1 u.2.1 u.2.2.1 u.2.2.2.1 u.2.2.2.2.1 u.2.2.2.2.2.1 u.2.2.2.2.2.2.1 u.2.2.2.2.2.2.2.1 u.2.2.2.2.2.2.2.2.2.2.1 u.2.2.2.2.2.2.2.2.2.2.2) → va_P D vwCl ((fun u : Nat × Nat × (Nat → Nat) × Nat × Nat × Nat × (Nat → Nat) × (Nat → Int) × (Nat → Nat) × (Nat → Int) × (Nat → Int) × (Nat → Int) => wX o ad kc Sz St Ct T L (u.1) (u.2.1) (u.2.2.1) (u.2.2.2.1) (u.2.2.2.2.1) (u.2.2.2.2.2.1) (u.2.2.2.2.2.2.1) (u.2.2.2.2.2.2.2.1) (u.2.2.2.2.2.2.2.2.1) (u.2.2.2.2.2.2.2.2.2.1) (u.2.2.2.2.2.2.2.2.2.2.1) (u.2.2.2.2.2.2.2.2.2.2.2)) u) H1 → va_D A ((fun u : Nat × Nat × (Nat → Nat) × Nat × Nat × Nat × (Nat → Nat) × (Nat → Int) × (Nat → Nat) × (Nat → Int) × (Nat → Int) × (Nat → Int) => wX o ad kc Sz St Ct T L (u.1) (u.2.1) (u.2.2.1) (u.2.2.2.1) (u.2.2.2.2.1) (u.2.2.2.2.2.1) (u.2.2.2.2.2.2.1) (u.2.2.2.2.2.2.2.1) (u.2.2.2.2.2.2.2.2.1) (u.2.2.2.2.2.2.2.2.2.1) (u.2.2.2.2.2.2.2.2.2.2.1) (u.2.2.2.2.2.2.2.2.2.2.2)) u) → va_S A H0 H1 locs1 → W p l e R s m args below meth c H1 locs1 0 0 Q (F0 m pc ls [.int r])) (hl : lv_has ls 3 [(0, .ref (o)), (1, .int (zI (zp)))]) : W p l e R s m args below meth c H locs 0 0 Q (F0 m 0 ls []) := by
  have hx := S.1
  have hb := S.2.1
  have hown := S.2.2.2.1
  have hts := S.2.2.2.2
  have hO2 := hO
  obtain ⟨hs, ht, hc, hT, hL⟩ := hO
  refine lv_iload_n hx hb dX0_firstEnd_0 rfl (lv_at hl 1 rfl) ?_
  refine sw_csR (As := [.int (zI (zp))]) (rest := []) S (mX0_isPattern l hlzp huzp) (va_cwS 1 hts (lw_S q88 q89 q20 q90) rfl rfl rfl (by decide +kernel) ⟨Nat.le_trans (Nat.le_of_ble_eq_true rfl) hRf, Nat.le_trans (Nat.le_of_ble_eq_true rfl) hRl⟩) rfl hl.1 rfl (Nat.le_of_ble_eq_true rfl) dX0_firstEnd_1 ⟨Nat.zero_le _, Nat.zero_le _⟩ (fun r hr => ?_)
  rcases hr with ⟨rfl, hr1⟩ | ⟨rfl, hr1⟩
  · obtain ⟨pn, rfl⟩ := Int.eq_ofNat_of_zero_le hr1.1
    have hl : lv_has ls 3 [(0, .ref (o)), (1, .int (nI (pn)))] := by rw [show zI ((pn : Int)) = nI (pn) from zI_n pn] at hl; exact hl
    refine sw_ifne (tgt := 9) hx hb dX0_firstEnd_4 (by decide) (by decide) (fun _ => ?_) (fun q => absurd q (by decide))
    refine lv_aload_n hx hb dX0_firstEnd_9 rfl (lv_at hl 0 rfl) ?_
    refine sw_cvV (As := []) (rest := []) (C := RX0) (ci := 0) (q0 := 0) S (fun sz => (mX0_goThrough l hO2 hCa sz)) (cwV 0 hts (lw_V q119 q121 qs3 q20 q122) rfl rfl rfl (by decide +kernel) ⟨Nat.le_trans (Nat.le_of_ble_eq_true rfl) hRf, Nat.le_trans (Nat.le_of_ble_eq_true rfl) hRl⟩) hK hP hD hS hA rfl rfl rfl rfl hl.1 rfl (Nat.le_of_ble_eq_true rfl) dX0_firstEnd_10 ⟨Nat.zero_le _, Nat.zero_le _⟩ (fun u H locs hr hP hD hS => ?_)
    obtain ⟨lk_10, fp_10, fo_10, lp_10, dn_10, ac_10, ea_10, la_10, ne_10, nl_10, eA_10, lA_10⟩ := u
    have hP : va_P D vwCl (wX o ad kc Sz St Ct T L lk_10 fp_10 fo_10 lp_10 dn_10 ac_10 ea_10 la_10 ne_10 nl_10 eA_10 lA_10) H := hP
    have hD : va_D A (wX o ad kc Sz St Ct T L lk_10 fp_10 fo_10 lp_10 dn_10 ac_10 ea_10 la_10 ne_10 nl_10 eA_10 lA_10) := hD
    obtain ⟨hg1, hg2, hg3, hg4, hg5⟩ := hr
    have hg3 : dn_10 = L := hg3
    have hCa2 : sw_Ca Sz St Ct T L lk_10 fp_10 fo_10 lp_10 dn_10 ac_10 ea_10 la_10 eA_10 lA_10 := ⟨Or.inr ⟨hg1, hg2⟩, Nat.le_of_eq hg3, by rw [hg3]; exact hg4, by rw [hg3]; exact hg5⟩
    have hLk2 : sw_Lk Sz Ct fp_10 fo_10 lp_10 := hg2
    have hAcL : sw_Ac Sz St Ct T L ac_10 ea_10 la_10 := hg4
    have hRsL : sw_Rs Sz St Ct T L eA_10 lA_10 := hg5
    refine lv_iconst (v := nI (0)) hx hb dX0_firstEnd_13 (by decide) ?_
    refine lv_istore_n (lv' := [(2, .int (nI (0))), (0, .ref (o)), (1, .int (nI (pn)))]) hx hb dX0_firstEnd_14 rfl hl (by decide) rfl (fun ls hl => ?_)
    have L15 : ∀ (n : Nat) (ti : Nat), (ti ≤ L) → (∀ t, t < ti → ¬ ∃ b, sw_Eb Sz St Ct T pn t b) → L - ti < n → ∀ (H : Heap) (locs : List Loc), va_P D vwCl (wX o ad kc Sz St Ct T L lk_10 fp_10 fo_10 lp_10 dn_10 ac_10 ea_10 la_10 ne_10 nl_10 eA_10 lA_10) H → va_D A (wX o ad kc Sz St Ct T L lk_10 fp_10 fo_10 lp_10 dn_10 ac_10 ea_10 la_10 ne_10 nl_10 eA_10 lA_10) → va_S A H0 H locs → ∀ (ls : Array Slot), lv_has ls 3 [(0, .ref (o)), (1, .int (nI (pn))), (2, .int (nI (ti)))] → W p l e R s m args below meth c H locs 0 0 Q (F0 m 15 ls []) := by
      intro n
      induction n with
      | zero => intro ti _ _ hm; exact absurd hm (Nat.not_lt_zero _)
      | succ n ihL15 =>
        intro ti hti hI hmL15 H locs hP hD hS ls hl
        refine lv_iload_n hx hb dX0_firstEnd_15 rfl (lv_at hl 2 rfl) ?_
        refine lv_aload_n hx hb dX0_firstEnd_16 rfl (lv_at hl 0 rfl) ?_
        refine va_get (D := D) (ci := 0) (v := .int (nI (L))) (C := RX0) (T := TX0) (N := 17) hx hb hts in_X0 hown hK hP 0 rfl rfl 4 (by decide) (hts _ q34) (fun _ h9 => h9) rfl dX0_firstEnd_17 ?_
        refine sw_cge (tgt := 44) hx hb dX0_firstEnd_20 (by decide) (by omega) (by omega) (fun h20 => ?_) (fun h20 => ?_)
        · refine lv_iconst (v := zI (-1)) hx hb dX0_firstEnd_44 (by decide) ?_
          exact ret _ _ _ (lk_10, fp_10, fo_10, lp_10, dn_10, ac_10, ea_10, la_10, ne_10, nl_10, eA_10, lA_10) _ _ dX0_firstEnd_45 (⟨Or.inl ⟨pn, rfl, by omega, -1, rfl, Or.inl ⟨rfl, fun b q => hI b (by omega) q.2⟩⟩, hCa2⟩) hP hD hS
        · have hh := (hRsL ti pn (by omega) (by omega)).2
          have hbd := sw_hi_bd hh (fun b hb => hb.1)
          refine lv_aload_n hx hb dX0_firstEnd_23 rfl (lv_at hl 0 rfl) ?_
          refine va_get (D := D) (ci := 0) (v := .ref (ad 10)) (C := RX0) (T := TX0) (N := 17) hx hb hts in_X0 hown hK hP 0 rfl rfl 16 (by decide) (hts _ q46) (fun _ h9 => h9) rfl dX0_firstEnd_24 ?_
          refine lv_iload_n hx hb dX0_firstEnd_27 rfl (lv_at hl 2 rfl) ?_
          refine lv_iconst (v := nI (4)) hx hb dX0_firstEnd_28 (by decide) ?_
          refine sw_mul hx hb dX0_firstEnd_29 ?_
          refine lv_iload_n hx hb dX0_firstEnd_30 rfl (lv_at hl 1 rfl) ?_
          refine sw_add hx hb dX0_firstEnd_31 ?_
          refine sw_bld hx hb hK hP 11 10 rfl rfl (by omega) (by decide) (v := zI (lA_10 ((ti * 4) + pn))) rfl dX0_firstEnd_32 ?_
          refine sw_zlt (tgt := 38) hx hb dX0_firstEnd_33 (by decide) (zI_toInt (z := lA_10 ((ti * 4) + pn)) (by omega) (by omega)) (fun h33 => ?_) (fun h33 => ?_)
          · refine lv_iinc (k := 2) (v := nI (ti + 1)) (lv' := [(2, .int (nI (ti + 1))), (0, .ref (o)), (1, .int (nI (pn)))]) hx hb dX0_firstEnd_38 hl rfl (nI_add _ 1) (by decide) rfl (fun ls hl => ?_)
            refine lv_goto (tgt := 15) hx hb dX0_firstEnd_41 (by decide) ?_
            exact ihL15 (ti + 1) (by omega) (fun t q => by by_cases e : t = ti; rw [e]; exact fun z => by { have := (sw_hi_ge hh).mpr z; omega }; exact hI t (by omega)) (by omega) _ _ hP hD hS _ (lv_sub hl [1, 2, 0] rfl)
          · refine lv_iload_n hx hb dX0_firstEnd_36 rfl (lv_at hl 2 rfl) ?_
            exact ret _ _ _ (lk_10, fp_10, fo_10, lp_10, dn_10, ac_10, ea_10, la_10, ne_10, nl_10, eA_10, lA_10) _ _ dX0_firstEnd_37 (⟨Or.inl ⟨pn, rfl, by omega, (ti : Int), (zI_n ti).symm, Or.inr ⟨ti, rfl, ⟨h20, (sw_hi_ge hh).mp h33⟩, fun c q => Classical.byContradiction (fun z => hI c (by omega) q.2)⟩⟩, hCa2⟩) hP hD hS
    exact L15 (L - (0) + 1) (0) (by omega) (fun t q => absurd q (Nat.not_lt_zero _)) (Nat.lt_succ_self _) _ _ hP hD hS _ (lv_sub hl [1, 2, 0] rfl)
  · refine sw_ifne (tgt := 9) hx hb dX0_firstEnd_4 (by decide) (by decide) (fun q => absurd rfl q) (fun _ => ?_)
    refine lv_iconst (v := zI (-1)) hx hb dX0_firstEnd_7 (by decide) ?_
    exact ret _ _ _ (lk, fp, fo, lp, dn, ac, ea, la, ne, nl, eA, lA) _ _ dX0_firstEnd_8 (⟨Or.inr ⟨hr1, rfl⟩, hCa⟩) hP hD hS
set_option maxRecDepth 100000 in
theorem mX0_firstEnd (l : Launch) {D : va_G} {o : Nat} {ad : Nat → Nat} {kc : Nat → ClassId} {Sz : Nat → Nat} {St : Nat → Nat} {Ct : Nat → Nat} {T : Nat → Nat} {L : Nat} {lk : Nat} {fp : Nat} {fo : Nat → Nat} {lp : Nat} {dn : Nat} {ac : Nat} {ea : Nat → Nat} {la : Nat → Int} {ne : Nat → Nat} {nl : Nat → Int} {eA : Nat → Int} {lA : Nat → Int} {zp : Int} (hlzp : -2147483648 ≤ zp) (huzp : zp < 2147483648) (hO : sw_Ok Sz St Ct T L) (hCa : sw_Ca Sz St Ct T L lk fp fo lp dn ac ea la eA lA) (sz : Nat) : Met l yX0_firstEnd (ws_ yX0_firstEnd cX0_firstEnd 3 (some .int)) ({ frames := 4, cells := 0, slots := 0, locals := 93 }) (sw_M D vwCl (wX o ad kc Sz St Ct T L lk fp fo lp dn ac ea la ne nl eA lA) (tyX kc) sz [.ref o, .int (zI (zp))]) (va_Qi (fun (r : Int32) (u : Nat × Nat × (Nat → Nat) × Nat × Nat × Nat × (Nat → Nat) × (Nat → Int) × (Nat → Nat) × (Nat → Int) × (Nat → Int) × (Nat → Int)) => sw_feR Sz St Ct T L zp r ∧ sw_Ca Sz St Ct T L u.1 u.2.1 u.2.2.1 u.2.2.2.1 u.2.2.2.2.1 u.2.2.2.2.2.1 u.2.2.2.2.2.2.1 u.2.2.2.2.2.2.2.1 u.2.2.2.2.2.2.2.2.2.2.1 u.2.2.2.2.2.2.2.2.2.2.2) (sw_B D vwCl (tyX kc) (va_A (wX o ad kc Sz St Ct T L lk fp fo lp dn ac ea la ne nl eA lA) sz) (fun u : Nat × Nat × (Nat → Nat) × Nat × Nat × Nat × (Nat → Nat) × (Nat → Int) × (Nat → Nat) × (Nat → Int) × (Nat → Int) × (Nat → Int) => wX o ad kc Sz St Ct T L (u.1) (u.2.1) (u.2.2.1) (u.2.2.2.1) (u.2.2.2.2.1) (u.2.2.2.2.2.1) (u.2.2.2.2.2.2.1) (u.2.2.2.2.2.2.2.1) (u.2.2.2.2.2.2.2.2.1) (u.2.2.2.2.2.2.2.2.2.1) (u.2.2.2.2.2.2.2.2.2.2.1) (u.2.2.2.2.2.2.2.2.2.2.2))) (va_A (wX o ad kc Sz St Ct T L lk fp fo lp dn ac ea la ne nl eA lA) sz)) 0 0 (va_A (wX o ad kc Sz St Ct T L lk fp fo lp dn ac ea la ne nl eA lA) sz) := sw_metI (by decide) (Nat.le_of_ble_eq_true rfl) (fun p e s m below meth c Q ls A S hK hP hD hA hl ret => bX0_firstEnd S (Nat.le_refl _) (Nat.le_refl _) hK hP hD va_S.rf hA hlzp huzp hO hCa ret hl) sz
set_option maxHeartbeats 4000000 in
set_option maxRecDepth 100000 in
theorem bX0_earliest {D : va_G} {o : Nat} {ad : Nat → Nat} {kc : Nat → ClassId} {Sz : Nat → Nat} {St : Nat → Nat} {Ct : Nat → Nat} {T : Nat → Nat} {L : Nat} {lk : Nat} {fp : Nat} {fo : Nat → Nat} {lp : Nat} {dn : Nat} {ac : Nat} {ea : Nat → Nat} {la : Nat → Int} {ne : Nat → Nat} {nl : Nat → Int} {eA : Nat → Int} {lA : Nat → Int} {zp : Int} {zt : Int} (S : CallFix p m c cX0_earliest 3 s args lw_all RX0) (hRf : 4 ≤ R.frames) (hRl : 93 ≤ R.locals) (hK : va_K D vwCl (tyX kc) s) (hP : va_P D vwCl (wX o ad kc Sz St Ct T L lk fp fo lp dn ac ea la ne nl eA lA) H) (hD : va_D A (wX o ad kc Sz St Ct T L lk fp fo lp dn ac ea la ne nl eA lA)) (hS : va_S A H0 H locs) (hA : ∀ q, H0.size ≤ q → A q) (hlzp : -2147483648 ≤ zp) (huzp : zp < 2147483648) (hlzt : -2147483648 ≤ zt) (huzt : zt < 2147483648) (hO : sw_Ok Sz St Ct T L) (hCa : sw_Ca Sz St Ct T L lk fp fo lp dn ac ea la eA lA) (ret : ∀ (pc : Nat) (ls : Array Slot) (r : Int32) (u : Nat × Nat × (Nat → Nat) × Nat × Nat × Nat × (Nat → Nat) × (Nat → Int) × (Nat → Nat) × (Nat → Int) × (Nat → Int) × (Nat → Int)) (H1 : Heap) (locs1 : List Loc), decode cX0_earliest pc = .ok (.ireturn, 1) → (sw_eaR Sz St Ct T L zp zt r ∧ sw_Ca Sz St Ct T L u.1 u.2.1 u.2.2.1 u.2.2.2.1 u.2.2.2.2.1 u.2.2.2.2.2.1 u.2.2.2.2.2.2.1 u.2.2.2.2.2.2.2.1 u.2.2.2.2.2.2.2.2.2.2.1 u.2.2.2.2.2.2.2.2.2.2.2) → va_P D vwCl ((fun u : Nat × Nat × (Nat → Nat) × Nat × Nat × Nat × (Nat → Nat) × (Nat → Int) × (Nat → Nat) × (Nat → Int) × (Nat → Int) × (Nat → Int) => wX o ad kc Sz St Ct T L (u.1) (u.2.1) (u.2.2.1) (u.2.2.2.1) (u.2.2.2.2.1) (u.2.2.2.2.2.1) (u.2.2.2.2.2.2.1) (u.2.2.2.2.2.2.2.1) (u.2.2.2.2.2.2.2.2.1) (u.2.2.2.2.2.2.2.2.2.1) (u.2.2.2.2.2.2.2.2.2.2.1) (u.2.2.2.2.2.2.2.2.2.2.2)) u) H1 → va_D A ((fun u : Nat × Nat × (Nat → Nat) × Nat × Nat × Nat × (Nat → Nat) × (Nat → Int) × (Nat → Nat) × (Nat → Int) × (Nat → Int) × (Nat → Int) => wX o ad kc Sz St Ct T L (u.1) (u.2.1) (u.2.2.1) (u.2.2.2.1) (u.2.2.2.2.1) (u.2.2.2.2.2.1) (u.2.2.2.2.2.2.1) (u.2.2.2.2.2.2.2.1) (u.2.2.2.2.2.2.2.2.1) (u.2.2.2.2.2.2.2.2.2.1) (u.2.2.2.2.2.2.2.2.2.2.1) (u.2.2.2.2.2.2.2.2.2.2.2)) u) → va_S A H0 H1 locs1 → W p l e R s m args below meth c H1 locs1 0 0 Q (F0 m pc ls [.int r])) (hl : lv_has ls 3 [(0, .ref (o)), (1, .int (zI (zp))), (2, .int (zI (zt)))]) : W p l e R s m args below meth c H locs 0 0 Q (F0 m 0 ls []) := by
  have hx := S.1
  have hb := S.2.1
  have hown := S.2.2.2.1
  have hts := S.2.2.2.2
  have hO2 := hO
  obtain ⟨hs, ht, hc, hT, hL⟩ := hO
  refine lv_iload_n hx hb dX0_earliest_0 rfl (lv_at hl 1 rfl) ?_
  refine sw_csR (As := [.int (zI (zp))]) (rest := []) S (mX0_isPattern l hlzp huzp) (va_cwS 1 hts (lw_S q88 q89 q20 q90) rfl rfl rfl (by decide +kernel) ⟨Nat.le_trans (Nat.le_of_ble_eq_true rfl) hRf, Nat.le_trans (Nat.le_of_ble_eq_true rfl) hRl⟩) rfl hl.1 rfl (Nat.le_of_ble_eq_true rfl) dX0_earliest_1 ⟨Nat.zero_le _, Nat.zero_le _⟩ (fun r hr => ?_)
  rcases hr with ⟨rfl, hr1⟩ | ⟨rfl, hr1⟩
  · refine sw_ifeq (tgt := 15) hx hb dX0_earliest_4 (by decide) (by decide) (fun q => absurd q (by decide)) (fun _ => ?_)
    refine lv_aload_n hx hb dX0_earliest_7 rfl (lv_at hl 0 rfl) ?_
    refine lv_iload_n hx hb dX0_earliest_8 rfl (lv_at hl 2 rfl) ?_
    refine sw_cvR (As := [.int (zI (zt))]) (rest := []) (C := RX0) (ci := 0) (q0 := 0) S (mX0_isPlace l hlzt huzt hL) (cwV 1 hts (lw_V q115 q117 qs2 q20 q118) rfl rfl rfl (by decide +kernel) ⟨Nat.le_trans (Nat.le_of_ble_eq_true rfl) hRf, Nat.le_trans (Nat.le_of_ble_eq_true rfl) hRl⟩) hK hP rfl rfl rfl rfl hl.1 rfl (Nat.le_of_ble_eq_true rfl) dX0_earliest_9 ⟨Nat.zero_le _, Nat.zero_le _⟩ (fun r hr => ?_)
    rcases hr with ⟨rfl, hr9⟩ | ⟨rfl, hr9⟩
    · obtain ⟨pn, rfl⟩ := Int.eq_ofNat_of_zero_le hr1.1
      have hl : lv_has ls 3 [(0, .ref (o)), (1, .int (nI (pn))), (2, .int (zI (zt)))] := by rw [show zI ((pn : Int)) = nI (pn) from zI_n pn] at hl; exact hl
      obtain ⟨tn, rfl⟩ := Int.eq_ofNat_of_zero_le hr9.1
      have hl : lv_has ls 3 [(0, .ref (o)), (1, .int (nI (pn))), (2, .int (nI (tn)))] := by rw [show zI ((tn : Int)) = nI (tn) from zI_n tn] at hl; exact hl
      refine sw_ifne (tgt := 17) hx hb dX0_earliest_12 (by decide) (by decide) (fun _ => ?_) (fun q => absurd q (by decide))
      refine lv_aload_n hx hb dX0_earliest_17 rfl (lv_at hl 0 rfl) ?_
      refine sw_cvV (As := []) (rest := []) (C := RX0) (ci := 0) (q0 := 0) S (fun sz => (mX0_goThrough l hO2 hCa sz)) (cwV 0 hts (lw_V q119 q121 qs3 q20 q122) rfl rfl rfl (by decide +kernel) ⟨Nat.le_trans (Nat.le_of_ble_eq_true rfl) hRf, Nat.le_trans (Nat.le_of_ble_eq_true rfl) hRl⟩) hK hP hD hS hA rfl rfl rfl rfl hl.1 rfl (Nat.le_of_ble_eq_true rfl) dX0_earliest_18 ⟨Nat.zero_le _, Nat.zero_le _⟩ (fun u H locs hr hP hD hS => ?_)
      obtain ⟨lk_18, fp_18, fo_18, lp_18, dn_18, ac_18, ea_18, la_18, ne_18, nl_18, eA_18, lA_18⟩ := u
      have hP : va_P D vwCl (wX o ad kc Sz St Ct T L lk_18 fp_18 fo_18 lp_18 dn_18 ac_18 ea_18 la_18 ne_18 nl_18 eA_18 lA_18) H := hP
      have hD : va_D A (wX o ad kc Sz St Ct T L lk_18 fp_18 fo_18 lp_18 dn_18 ac_18 ea_18 la_18 ne_18 nl_18 eA_18 lA_18) := hD
      obtain ⟨hg1, hg2, hg3, hg4, hg5⟩ := hr
      have hg3 : dn_18 = L := hg3
      have hCa2 : sw_Ca Sz St Ct T L lk_18 fp_18 fo_18 lp_18 dn_18 ac_18 ea_18 la_18 eA_18 lA_18 := ⟨Or.inr ⟨hg1, hg2⟩, Nat.le_of_eq hg3, by rw [hg3]; exact hg4, by rw [hg3]; exact hg5⟩
      have hLk2 : sw_Lk Sz Ct fp_18 fo_18 lp_18 := hg2
      have hAcL : sw_Ac Sz St Ct T L ac_18 ea_18 la_18 := hg4
      have hRsL : sw_Rs Sz St Ct T L eA_18 lA_18 := hg5
      refine lv_aload_n hx hb dX0_earliest_21 rfl (lv_at hl 0 rfl) ?_
      refine va_get (D := D) (ci := 0) (v := .ref (ad 9)) (C := RX0) (T := TX0) (N := 17) hx hb hts in_X0 hown hK hP 0 rfl rfl 15 (by decide) (hts _ q45) (fun _ h9 => h9) rfl dX0_earliest_22 ?_
      refine lv_iload_n hx hb dX0_earliest_25 rfl (lv_at hl 2 rfl) ?_
      refine lv_iconst (v := nI (4)) hx hb dX0_earliest_26 (by decide) ?_
      refine sw_mul hx hb dX0_earliest_27 ?_
      refine lv_iload_n hx hb dX0_earliest_28 rfl (lv_at hl 1 rfl) ?_
      refine sw_add hx hb dX0_earliest_29 ?_
      refine sw_bld hx hb hK hP 10 9 rfl rfl (by omega) (by decide) (v := zI (eA_18 ((tn * 4) + pn))) rfl dX0_earliest_30 ?_
      exact ret _ _ _ (lk_18, fp_18, fo_18, lp_18, dn_18, ac_18, ea_18, la_18, ne_18, nl_18, eA_18, lA_18) _ _ dX0_earliest_31 (⟨Or.inl ⟨pn, tn, rfl, rfl, by omega, by omega, _, rfl, (hRsL tn pn (by omega) (by omega)).1⟩, hCa2⟩) hP hD hS
    · refine sw_ifne (tgt := 17) hx hb dX0_earliest_12 (by decide) (by decide) (fun q => absurd rfl q) (fun _ => ?_)
      refine lv_iconst (v := zI (-1)) hx hb dX0_earliest_15 (by decide) ?_
      exact ret _ _ _ (lk, fp, fo, lp, dn, ac, ea, la, ne, nl, eA, lA) _ _ dX0_earliest_16 (⟨Or.inr ⟨by omega, rfl⟩, hCa⟩) hP hD hS
  · refine sw_ifeq (tgt := 15) hx hb dX0_earliest_4 (by decide) (by decide) (fun _ => ?_) (fun q => absurd rfl q)
    refine lv_iconst (v := zI (-1)) hx hb dX0_earliest_15 (by decide) ?_
    exact ret _ _ _ (lk, fp, fo, lp, dn, ac, ea, la, ne, nl, eA, lA) _ _ dX0_earliest_16 (⟨Or.inr ⟨by omega, rfl⟩, hCa⟩) hP hD hS
set_option maxRecDepth 100000 in
theorem mX0_earliest (l : Launch) {D : va_G} {o : Nat} {ad : Nat → Nat} {kc : Nat → ClassId} {Sz : Nat → Nat} {St : Nat → Nat} {Ct : Nat → Nat} {T : Nat → Nat} {L : Nat} {lk : Nat} {fp : Nat} {fo : Nat → Nat} {lp : Nat} {dn : Nat} {ac : Nat} {ea : Nat → Nat} {la : Nat → Int} {ne : Nat → Nat} {nl : Nat → Int} {eA : Nat → Int} {lA : Nat → Int} {zp : Int} {zt : Int} (hlzp : -2147483648 ≤ zp) (huzp : zp < 2147483648) (hlzt : -2147483648 ≤ zt) (huzt : zt < 2147483648) (hO : sw_Ok Sz St Ct T L) (hCa : sw_Ca Sz St Ct T L lk fp fo lp dn ac ea la eA lA) (sz : Nat) : Met l yX0_earliest (ws_ yX0_earliest cX0_earliest 3 (some .int)) ({ frames := 4, cells := 0, slots := 0, locals := 93 }) (sw_M D vwCl (wX o ad kc Sz St Ct T L lk fp fo lp dn ac ea la ne nl eA lA) (tyX kc) sz [.ref o, .int (zI (zp)), .int (zI (zt))]) (va_Qi (fun (r : Int32) (u : Nat × Nat × (Nat → Nat) × Nat × Nat × Nat × (Nat → Nat) × (Nat → Int) × (Nat → Nat) × (Nat → Int) × (Nat → Int) × (Nat → Int)) => sw_eaR Sz St Ct T L zp zt r ∧ sw_Ca Sz St Ct T L u.1 u.2.1 u.2.2.1 u.2.2.2.1 u.2.2.2.2.1 u.2.2.2.2.2.1 u.2.2.2.2.2.2.1 u.2.2.2.2.2.2.2.1 u.2.2.2.2.2.2.2.2.2.2.1 u.2.2.2.2.2.2.2.2.2.2.2) (sw_B D vwCl (tyX kc) (va_A (wX o ad kc Sz St Ct T L lk fp fo lp dn ac ea la ne nl eA lA) sz) (fun u : Nat × Nat × (Nat → Nat) × Nat × Nat × Nat × (Nat → Nat) × (Nat → Int) × (Nat → Nat) × (Nat → Int) × (Nat → Int) × (Nat → Int) => wX o ad kc Sz St Ct T L (u.1) (u.2.1) (u.2.2.1) (u.2.2.2.1) (u.2.2.2.2.1) (u.2.2.2.2.2.1) (u.2.2.2.2.2.2.1) (u.2.2.2.2.2.2.2.1) (u.2.2.2.2.2.2.2.2.1) (u.2.2.2.2.2.2.2.2.2.1) (u.2.2.2.2.2.2.2.2.2.2.1) (u.2.2.2.2.2.2.2.2.2.2.2))) (va_A (wX o ad kc Sz St Ct T L lk fp fo lp dn ac ea la ne nl eA lA) sz)) 0 0 (va_A (wX o ad kc Sz St Ct T L lk fp fo lp dn ac ea la ne nl eA lA) sz) := sw_metI (by decide) (Nat.le_of_ble_eq_true rfl) (fun p e s m below meth c Q ls A S hK hP hD hA hl ret => bX0_earliest S (Nat.le_refl _) (Nat.le_refl _) hK hP hD va_S.rf hA hlzp huzp hlzt huzt hO hCa ret hl) sz
set_option maxHeartbeats 4000000 in
set_option maxRecDepth 100000 in
theorem bX0_latest {D : va_G} {o : Nat} {ad : Nat → Nat} {kc : Nat → ClassId} {Sz : Nat → Nat} {St : Nat → Nat} {Ct : Nat → Nat} {T : Nat → Nat} {L : Nat} {lk : Nat} {fp : Nat} {fo : Nat → Nat} {lp : Nat} {dn : Nat} {ac : Nat} {ea : Nat → Nat} {la : Nat → Int} {ne : Nat → Nat} {nl : Nat → Int} {eA : Nat → Int} {lA : Nat → Int} {zp : Int} {zt : Int} (S : CallFix p m c cX0_latest 3 s args lw_all RX0) (hRf : 4 ≤ R.frames) (hRl : 93 ≤ R.locals) (hK : va_K D vwCl (tyX kc) s) (hP : va_P D vwCl (wX o ad kc Sz St Ct T L lk fp fo lp dn ac ea la ne nl eA lA) H) (hD : va_D A (wX o ad kc Sz St Ct T L lk fp fo lp dn ac ea la ne nl eA lA)) (hS : va_S A H0 H locs) (hA : ∀ q, H0.size ≤ q → A q) (hlzp : -2147483648 ≤ zp) (huzp : zp < 2147483648) (hlzt : -2147483648 ≤ zt) (huzt : zt < 2147483648) (hO : sw_Ok Sz St Ct T L) (hCa : sw_Ca Sz St Ct T L lk fp fo lp dn ac ea la eA lA) (ret : ∀ (pc : Nat) (ls : Array Slot) (r : Int32) (u : Nat × Nat × (Nat → Nat) × Nat × Nat × Nat × (Nat → Nat) × (Nat → Int) × (Nat → Nat) × (Nat → Int) × (Nat → Int) × (Nat → Int)) (H1 : Heap) (locs1 : List Loc), decode cX0_latest pc = .ok (.ireturn, 1) → (sw_laR Sz St Ct T L zp zt r ∧ sw_Ca Sz St Ct T L u.1 u.2.1 u.2.2.1 u.2.2.2.1 u.2.2.2.2.1 u.2.2.2.2.2.1 u.2.2.2.2.2.2.1 u.2.2.2.2.2.2.2.1 u.2.2.2.2.2.2.2.2.2.2.1 u.2.2.2.2.2.2.2.2.2.2.2) → va_P D vwCl ((fun u : Nat × Nat × (Nat → Nat) × Nat × Nat × Nat × (Nat → Nat) × (Nat → Int) × (Nat → Nat) × (Nat → Int) × (Nat → Int) × (Nat → Int) => wX o ad kc Sz St Ct T L (u.1) (u.2.1) (u.2.2.1) (u.2.2.2.1) (u.2.2.2.2.1) (u.2.2.2.2.2.1) (u.2.2.2.2.2.2.1) (u.2.2.2.2.2.2.2.1) (u.2.2.2.2.2.2.2.2.1) (u.2.2.2.2.2.2.2.2.2.1) (u.2.2.2.2.2.2.2.2.2.2.1) (u.2.2.2.2.2.2.2.2.2.2.2)) u) H1 → va_D A ((fun u : Nat × Nat × (Nat → Nat) × Nat × Nat × Nat × (Nat → Nat) × (Nat → Int) × (Nat → Nat) × (Nat → Int) × (Nat → Int) × (Nat → Int) => wX o ad kc Sz St Ct T L (u.1) (u.2.1) (u.2.2.1) (u.2.2.2.1) (u.2.2.2.2.1) (u.2.2.2.2.2.1) (u.2.2.2.2.2.2.1) (u.2.2.2.2.2.2.2.1) (u.2.2.2.2.2.2.2.2.1) (u.2.2.2.2.2.2.2.2.2.1) (u.2.2.2.2.2.2.2.2.2.2.1) (u.2.2.2.2.2.2.2.2.2.2.2)) u) → va_S A H0 H1 locs1 → W p l e R s m args below meth c H1 locs1 0 0 Q (F0 m pc ls [.int r])) (hl : lv_has ls 3 [(0, .ref (o)), (1, .int (zI (zp))), (2, .int (zI (zt)))]) : W p l e R s m args below meth c H locs 0 0 Q (F0 m 0 ls []) := by
  have hx := S.1
  have hb := S.2.1
  have hown := S.2.2.2.1
  have hts := S.2.2.2.2
  have hO2 := hO
  obtain ⟨hs, ht, hc, hT, hL⟩ := hO
  refine lv_iload_n hx hb dX0_latest_0 rfl (lv_at hl 1 rfl) ?_
  refine sw_csR (As := [.int (zI (zp))]) (rest := []) S (mX0_isPattern l hlzp huzp) (va_cwS 1 hts (lw_S q88 q89 q20 q90) rfl rfl rfl (by decide +kernel) ⟨Nat.le_trans (Nat.le_of_ble_eq_true rfl) hRf, Nat.le_trans (Nat.le_of_ble_eq_true rfl) hRl⟩) rfl hl.1 rfl (Nat.le_of_ble_eq_true rfl) dX0_latest_1 ⟨Nat.zero_le _, Nat.zero_le _⟩ (fun r hr => ?_)
  rcases hr with ⟨rfl, hr1⟩ | ⟨rfl, hr1⟩
  · refine sw_ifeq (tgt := 15) hx hb dX0_latest_4 (by decide) (by decide) (fun q => absurd q (by decide)) (fun _ => ?_)
    refine lv_aload_n hx hb dX0_latest_7 rfl (lv_at hl 0 rfl) ?_
    refine lv_iload_n hx hb dX0_latest_8 rfl (lv_at hl 2 rfl) ?_
    refine sw_cvR (As := [.int (zI (zt))]) (rest := []) (C := RX0) (ci := 0) (q0 := 0) S (mX0_isPlace l hlzt huzt hL) (cwV 1 hts (lw_V q115 q117 qs2 q20 q118) rfl rfl rfl (by decide +kernel) ⟨Nat.le_trans (Nat.le_of_ble_eq_true rfl) hRf, Nat.le_trans (Nat.le_of_ble_eq_true rfl) hRl⟩) hK hP rfl rfl rfl rfl hl.1 rfl (Nat.le_of_ble_eq_true rfl) dX0_latest_9 ⟨Nat.zero_le _, Nat.zero_le _⟩ (fun r hr => ?_)
    rcases hr with ⟨rfl, hr9⟩ | ⟨rfl, hr9⟩
    · obtain ⟨pn, rfl⟩ := Int.eq_ofNat_of_zero_le hr1.1
      have hl : lv_has ls 3 [(0, .ref (o)), (1, .int (nI (pn))), (2, .int (zI (zt)))] := by rw [show zI ((pn : Int)) = nI (pn) from zI_n pn] at hl; exact hl
      obtain ⟨tn, rfl⟩ := Int.eq_ofNat_of_zero_le hr9.1
      have hl : lv_has ls 3 [(0, .ref (o)), (1, .int (nI (pn))), (2, .int (nI (tn)))] := by rw [show zI ((tn : Int)) = nI (tn) from zI_n tn] at hl; exact hl
      refine sw_ifne (tgt := 17) hx hb dX0_latest_12 (by decide) (by decide) (fun _ => ?_) (fun q => absurd q (by decide))
      refine lv_aload_n hx hb dX0_latest_17 rfl (lv_at hl 0 rfl) ?_
      refine sw_cvV (As := []) (rest := []) (C := RX0) (ci := 0) (q0 := 0) S (fun sz => (mX0_goThrough l hO2 hCa sz)) (cwV 0 hts (lw_V q119 q121 qs3 q20 q122) rfl rfl rfl (by decide +kernel) ⟨Nat.le_trans (Nat.le_of_ble_eq_true rfl) hRf, Nat.le_trans (Nat.le_of_ble_eq_true rfl) hRl⟩) hK hP hD hS hA rfl rfl rfl rfl hl.1 rfl (Nat.le_of_ble_eq_true rfl) dX0_latest_18 ⟨Nat.zero_le _, Nat.zero_le _⟩ (fun u H locs hr hP hD hS => ?_)
      obtain ⟨lk_18, fp_18, fo_18, lp_18, dn_18, ac_18, ea_18, la_18, ne_18, nl_18, eA_18, lA_18⟩ := u
      have hP : va_P D vwCl (wX o ad kc Sz St Ct T L lk_18 fp_18 fo_18 lp_18 dn_18 ac_18 ea_18 la_18 ne_18 nl_18 eA_18 lA_18) H := hP
      have hD : va_D A (wX o ad kc Sz St Ct T L lk_18 fp_18 fo_18 lp_18 dn_18 ac_18 ea_18 la_18 ne_18 nl_18 eA_18 lA_18) := hD
      obtain ⟨hg1, hg2, hg3, hg4, hg5⟩ := hr
      have hg3 : dn_18 = L := hg3
      have hCa2 : sw_Ca Sz St Ct T L lk_18 fp_18 fo_18 lp_18 dn_18 ac_18 ea_18 la_18 eA_18 lA_18 := ⟨Or.inr ⟨hg1, hg2⟩, Nat.le_of_eq hg3, by rw [hg3]; exact hg4, by rw [hg3]; exact hg5⟩
      have hLk2 : sw_Lk Sz Ct fp_18 fo_18 lp_18 := hg2
      have hAcL : sw_Ac Sz St Ct T L ac_18 ea_18 la_18 := hg4
      have hRsL : sw_Rs Sz St Ct T L eA_18 lA_18 := hg5
      refine lv_aload_n hx hb dX0_latest_21 rfl (lv_at hl 0 rfl) ?_
      refine va_get (D := D) (ci := 0) (v := .ref (ad 10)) (C := RX0) (T := TX0) (N := 17) hx hb hts in_X0 hown hK hP 0 rfl rfl 16 (by decide) (hts _ q46) (fun _ h9 => h9) rfl dX0_latest_22 ?_
      refine lv_iload_n hx hb dX0_latest_25 rfl (lv_at hl 2 rfl) ?_
      refine lv_iconst (v := nI (4)) hx hb dX0_latest_26 (by decide) ?_
      refine sw_mul hx hb dX0_latest_27 ?_
      refine lv_iload_n hx hb dX0_latest_28 rfl (lv_at hl 1 rfl) ?_
      refine sw_add hx hb dX0_latest_29 ?_
      refine sw_bld hx hb hK hP 11 10 rfl rfl (by omega) (by decide) (v := zI (lA_18 ((tn * 4) + pn))) rfl dX0_latest_30 ?_
      exact ret _ _ _ (lk_18, fp_18, fo_18, lp_18, dn_18, ac_18, ea_18, la_18, ne_18, nl_18, eA_18, lA_18) _ _ dX0_latest_31 (⟨Or.inl ⟨pn, tn, rfl, rfl, by omega, by omega, _, rfl, (hRsL tn pn (by omega) (by omega)).2⟩, hCa2⟩) hP hD hS
    · refine sw_ifne (tgt := 17) hx hb dX0_latest_12 (by decide) (by decide) (fun q => absurd rfl q) (fun _ => ?_)
      refine lv_iconst (v := zI (-1)) hx hb dX0_latest_15 (by decide) ?_
      exact ret _ _ _ (lk, fp, fo, lp, dn, ac, ea, la, ne, nl, eA, lA) _ _ dX0_latest_16 (⟨Or.inr ⟨by omega, rfl⟩, hCa⟩) hP hD hS
  · refine sw_ifeq (tgt := 15) hx hb dX0_latest_4 (by decide) (by decide) (fun _ => ?_) (fun q => absurd rfl q)
    refine lv_iconst (v := zI (-1)) hx hb dX0_latest_15 (by decide) ?_
    exact ret _ _ _ (lk, fp, fo, lp, dn, ac, ea, la, ne, nl, eA, lA) _ _ dX0_latest_16 (⟨Or.inr ⟨by omega, rfl⟩, hCa⟩) hP hD hS
set_option maxRecDepth 100000 in
theorem mX0_latest (l : Launch) {D : va_G} {o : Nat} {ad : Nat → Nat} {kc : Nat → ClassId} {Sz : Nat → Nat} {St : Nat → Nat} {Ct : Nat → Nat} {T : Nat → Nat} {L : Nat} {lk : Nat} {fp : Nat} {fo : Nat → Nat} {lp : Nat} {dn : Nat} {ac : Nat} {ea : Nat → Nat} {la : Nat → Int} {ne : Nat → Nat} {nl : Nat → Int} {eA : Nat → Int} {lA : Nat → Int} {zp : Int} {zt : Int} (hlzp : -2147483648 ≤ zp) (huzp : zp < 2147483648) (hlzt : -2147483648 ≤ zt) (huzt : zt < 2147483648) (hO : sw_Ok Sz St Ct T L) (hCa : sw_Ca Sz St Ct T L lk fp fo lp dn ac ea la eA lA) (sz : Nat) : Met l yX0_latest (ws_ yX0_latest cX0_latest 3 (some .int)) ({ frames := 4, cells := 0, slots := 0, locals := 93 }) (sw_M D vwCl (wX o ad kc Sz St Ct T L lk fp fo lp dn ac ea la ne nl eA lA) (tyX kc) sz [.ref o, .int (zI (zp)), .int (zI (zt))]) (va_Qi (fun (r : Int32) (u : Nat × Nat × (Nat → Nat) × Nat × Nat × Nat × (Nat → Nat) × (Nat → Int) × (Nat → Nat) × (Nat → Int) × (Nat → Int) × (Nat → Int)) => sw_laR Sz St Ct T L zp zt r ∧ sw_Ca Sz St Ct T L u.1 u.2.1 u.2.2.1 u.2.2.2.1 u.2.2.2.2.1 u.2.2.2.2.2.1 u.2.2.2.2.2.2.1 u.2.2.2.2.2.2.2.1 u.2.2.2.2.2.2.2.2.2.2.1 u.2.2.2.2.2.2.2.2.2.2.2) (sw_B D vwCl (tyX kc) (va_A (wX o ad kc Sz St Ct T L lk fp fo lp dn ac ea la ne nl eA lA) sz) (fun u : Nat × Nat × (Nat → Nat) × Nat × Nat × Nat × (Nat → Nat) × (Nat → Int) × (Nat → Nat) × (Nat → Int) × (Nat → Int) × (Nat → Int) => wX o ad kc Sz St Ct T L (u.1) (u.2.1) (u.2.2.1) (u.2.2.2.1) (u.2.2.2.2.1) (u.2.2.2.2.2.1) (u.2.2.2.2.2.2.1) (u.2.2.2.2.2.2.2.1) (u.2.2.2.2.2.2.2.2.1) (u.2.2.2.2.2.2.2.2.2.1) (u.2.2.2.2.2.2.2.2.2.2.1) (u.2.2.2.2.2.2.2.2.2.2.2))) (va_A (wX o ad kc Sz St Ct T L lk fp fo lp dn ac ea la ne nl eA lA) sz)) 0 0 (va_A (wX o ad kc Sz St Ct T L lk fp fo lp dn ac ea la ne nl eA lA) sz) := sw_metI (by decide) (Nat.le_of_ble_eq_true rfl) (fun p e s m below meth c Q ls A S hK hP hD hA hl ret => bX0_latest S (Nat.le_refl _) (Nat.le_refl _) hK hP hD va_S.rf hA hlzp huzp hlzt huzt hO hCa ret hl) sz
set_option maxHeartbeats 4000000 in
set_option maxRecDepth 100000 in
theorem bX0_longest {D : va_G} {o : Nat} {ad : Nat → Nat} {kc : Nat → ClassId} {Sz : Nat → Nat} {St : Nat → Nat} {Ct : Nat → Nat} {T : Nat → Nat} {L : Nat} {lk : Nat} {fp : Nat} {fo : Nat → Nat} {lp : Nat} {dn : Nat} {ac : Nat} {ea : Nat → Nat} {la : Nat → Int} {ne : Nat → Nat} {nl : Nat → Int} {eA : Nat → Int} {lA : Nat → Int} {zp : Int} (S : CallFix p m c cX0_longest 5 s args lw_all RX0) (hRf : 5 ≤ R.frames) (hRl : 115 ≤ R.locals) (hK : va_K D vwCl (tyX kc) s) (hP : va_P D vwCl (wX o ad kc Sz St Ct T L lk fp fo lp dn ac ea la ne nl eA lA) H) (hD : va_D A (wX o ad kc Sz St Ct T L lk fp fo lp dn ac ea la ne nl eA lA)) (hS : va_S A H0 H locs) (hA : ∀ q, H0.size ≤ q → A q) (hlzp : -2147483648 ≤ zp) (huzp : zp < 2147483648) (hO : sw_Ok Sz St Ct T L) (hCa : sw_Ca Sz St Ct T L lk fp fo lp dn ac ea la eA lA) (ret : ∀ (pc : Nat) (ls : Array Slot) (r : Int32) (u : Nat × Nat × (Nat → Nat) × Nat × Nat × Nat × (Nat → Nat) × (Nat → Int) × (Nat → Nat) × (Nat → Int) × (Nat → Int) × (Nat → Int)) (H1 : Heap) (locs1 : List Loc), decode cX0_longest pc = .ok (.ireturn, 1) → ((∃ x, r = nI x ∧ sw_mx (sw_lonP Sz St Ct T zp L) x) ∧ sw_Ca Sz St Ct T L u.1 u.2.1 u.2.2.1 u.2.2.2.1 u.2.2.2.2.1 u.2.2.2.2.2.1 u.2.2.2.2.2.2.1 u.2.2.2.2.2.2.2.1 u.2.2.2.2.2.2.2.2.2.2.1 u.2.2.2.2.2.2.2.2.2.2.2) → va_P D vwCl ((fun u : Nat × Nat × (Nat → Nat) × Nat × Nat × Nat × (Nat → Nat) × (Nat → Int) × (Nat → Nat) × (Nat → Int) × (Nat → Int) × (Nat → Int) => wX o ad kc Sz St Ct T L (u.1) (u.2.1) (u.2.2.1) (u.2.2.2.1) (u.2.2.2.2.1) (u.2.2.2.2.2.1) (u.2.2.2.2.2.2.1) (u.2.2.2.2.2.2.2.1) (u.2.2.2.2.2.2.2.2.1) (u.2.2.2.2.2.2.2.2.2.1) (u.2.2.2.2.2.2.2.2.2.2.1) (u.2.2.2.2.2.2.2.2.2.2.2)) u) H1 → va_D A ((fun u : Nat × Nat × (Nat → Nat) × Nat × Nat × Nat × (Nat → Nat) × (Nat → Int) × (Nat → Nat) × (Nat → Int) × (Nat → Int) × (Nat → Int) => wX o ad kc Sz St Ct T L (u.1) (u.2.1) (u.2.2.1) (u.2.2.2.1) (u.2.2.2.2.1) (u.2.2.2.2.2.1) (u.2.2.2.2.2.2.1) (u.2.2.2.2.2.2.2.1) (u.2.2.2.2.2.2.2.2.1) (u.2.2.2.2.2.2.2.2.2.1) (u.2.2.2.2.2.2.2.2.2.2.1) (u.2.2.2.2.2.2.2.2.2.2.2)) u) → va_S A H0 H1 locs1 → W p l e R s m args below meth c H1 locs1 0 0 Q (F0 m pc ls [.int r])) (hl : lv_has ls 5 [(0, .ref (o)), (1, .int (zI (zp)))]) : W p l e R s m args below meth c H locs 0 0 Q (F0 m 0 ls []) := by
  have hx := S.1
  have hb := S.2.1
  have hown := S.2.2.2.1
  have hts := S.2.2.2.2
  have hO2 := hO
  obtain ⟨hs, ht, hc, hT, hL⟩ := hO
  refine lv_iconst (v := nI (0)) hx hb dX0_longest_0 (by decide) ?_
  refine lv_istore_n (lv' := [(2, .int (nI (0))), (0, .ref (o)), (1, .int (zI (zp)))]) hx hb dX0_longest_1 rfl hl (by decide) rfl (fun ls hl => ?_)
  refine lv_iconst (v := nI (0)) hx hb dX0_longest_2 (by decide) ?_
  refine lv_istore_n (lv' := [(3, .int (nI (0))), (2, .int (nI (0))), (0, .ref (o)), (1, .int (zI (zp)))]) hx hb dX0_longest_3 rfl hl (by decide) rfl (fun ls hl => ?_)
  have L4 : ∀ (n : Nat) (x : Nat) (ti : Nat) (lk1 : Nat) (fp1 : Nat) (fo1 : Nat → Nat) (lp1 : Nat) (dn1 : Nat) (ac1 : Nat) (ea1 : Nat → Nat) (la1 : Nat → Int) (ne1 : Nat → Nat) (nl1 : Nat → Int) (eA1 : Nat → Int) (lA1 : Nat → Int), (ti ≤ L) → (sw_mx (sw_lonP Sz St Ct T zp ti) x) → (sw_Ca Sz St Ct T L lk1 fp1 fo1 lp1 dn1 ac1 ea1 la1 eA1 lA1) → L - ti < n → ∀ (H : Heap) (locs : List Loc), va_P D vwCl (wX o ad kc Sz St Ct T L lk1 fp1 fo1 lp1 dn1 ac1 ea1 la1 ne1 nl1 eA1 lA1) H → va_D A (wX o ad kc Sz St Ct T L lk1 fp1 fo1 lp1 dn1 ac1 ea1 la1 ne1 nl1 eA1 lA1) → va_S A H0 H locs → ∀ (ls : Array Slot), lv_has ls 5 [(0, .ref (o)), (1, .int (zI (zp))), (2, .int (nI (x))), (3, .int (nI (ti)))] → W p l e R s m args below meth c H locs 0 0 Q (F0 m 4 ls []) := by
    intro n
    induction n with
    | zero => intro x ti lk1 fp1 fo1 lp1 dn1 ac1 ea1 la1 ne1 nl1 eA1 lA1 _ _ _ hm; exact absurd hm (Nat.not_lt_zero _)
    | succ n ihL4 =>
      intro x ti lk1 fp1 fo1 lp1 dn1 ac1 ea1 la1 ne1 nl1 eA1 lA1 hti hI hCa1 hmL4 H locs hP hD hS ls hl
      have hxl := sw_lon_le hI
      refine lv_iload_n hx hb dX0_longest_4 rfl (lv_at hl 3 rfl) ?_
      refine lv_aload_n hx hb dX0_longest_5 rfl (lv_at hl 0 rfl) ?_
      refine va_get (D := D) (ci := 0) (v := .int (nI (L))) (C := RX0) (T := TX0) (N := 17) hx hb hts in_X0 hown hK hP 0 rfl rfl 4 (by decide) (hts _ q34) (fun _ h9 => h9) rfl dX0_longest_6 ?_
      refine sw_cge (tgt := 48) hx hb dX0_longest_9 (by decide) (by omega) (by omega) (fun h9 => ?_) (fun h9 => ?_)
      · refine lv_iload_n hx hb dX0_longest_48 rfl (lv_at hl 2 rfl) ?_
        exact ret _ _ _ (lk1, fp1, fo1, lp1, dn1, ac1, ea1, la1, ne1, nl1, eA1, lA1) _ _ dX0_longest_49 (⟨⟨x, rfl, by rw [show ti = L by omega] at hI; exact hI⟩, hCa1⟩) hP hD hS
      · refine lv_aload_n hx hb dX0_longest_12 rfl (lv_at hl 0 rfl) ?_
        refine lv_iload_n hx hb dX0_longest_13 rfl (lv_at hl 1 rfl) ?_
        refine lv_iload_n hx hb dX0_longest_14 rfl (lv_at hl 3 rfl) ?_
        refine sw_top (y := zI ((ti : Int))) ((zI_n ti).symm) ?_
        refine sw_cvI (As := [.int (zI (zp)), .int (zI ((ti : Int)))]) (rest := []) (C := RX0) (ci := 0) (q0 := 0) S (fun sz => (mX0_earliest l hlzp huzp (by omega) (by omega) hO2 hCa1 sz)) (cwV 2 hts (lw_V q192 q181 q182 q20 q183) rfl rfl rfl (by decide +kernel) ⟨Nat.le_trans (Nat.le_of_ble_eq_true rfl) hRf, Nat.le_trans (Nat.le_of_ble_eq_true rfl) hRl⟩) hK hP hD hS hA rfl rfl rfl rfl hl.1 rfl (Nat.le_of_ble_eq_true rfl) dX0_longest_15 ⟨Nat.zero_le _, Nat.zero_le _⟩ (fun r u H locs hr hP hD hS => ?_)
        obtain ⟨lk_15, fp_15, fo_15, lp_15, dn_15, ac_15, ea_15, la_15, ne_15, nl_15, eA_15, lA_15⟩ := u
        have hP : va_P D vwCl (wX o ad kc Sz St Ct T L lk_15 fp_15 fo_15 lp_15 dn_15 ac_15 ea_15 la_15 ne_15 nl_15 eA_15 lA_15) H := hP
        have hD : va_D A (wX o ad kc Sz St Ct T L lk_15 fp_15 fo_15 lp_15 dn_15 ac_15 ea_15 la_15 ne_15 nl_15 eA_15 lA_15) := hD
        obtain ⟨hr, hCa2⟩ := hr
        have hCa2 : sw_Ca Sz St Ct T L lk_15 fp_15 fo_15 lp_15 dn_15 ac_15 ea_15 la_15 eA_15 lA_15 := hCa2
        obtain ⟨zv, rfl, hzv⟩ := sw_ea_lon (by omega) hr
        have hzb := sw_lo_bd hzv (n := 60) (fun b hb => by obtain ⟨_, _, _, q⟩ := hb; have := q.1; omega)
        refine lv_istore (lv' := [(4, .int (zI (zv))), (0, .ref (o)), (1, .int (zI (zp))), (2, .int (nI (x))), (3, .int (nI (ti)))]) hx hb dX0_longest_18 hl (by decide) rfl (fun ls hl => ?_)
        refine lv_iload hx hb dX0_longest_20 (lv_at hl 0 rfl) ?_
        refine sw_zlt (tgt := 42) hx hb dX0_longest_22 (by decide) (zI_toInt (z := zv) (by omega) (by omega)) (fun h22 => ?_) (fun h22 => ?_)
        · have hI' := sw_lon_n hzv h22 hI
          refine lv_iinc (k := 4) (v := nI (ti + 1)) (lv' := [(3, .int (nI (ti + 1))), (4, .int (zI (zv))), (0, .ref (o)), (1, .int (zI (zp))), (2, .int (nI (x)))]) hx hb dX0_longest_42 hl rfl (nI_add _ 1) (by decide) rfl (fun ls hl => ?_)
          refine lv_goto (tgt := 4) hx hb dX0_longest_45 (by decide) ?_
          exact ihL4 (x) (ti + 1) (lk_15) (fp_15) (fo_15) (lp_15) (dn_15) (ac_15) (ea_15) (la_15) (ne_15) (nl_15) (eA_15) (lA_15) (by omega) hI' hCa2 (by omega) _ _ hP hD hS _ (lv_sub hl [2, 3, 4, 0] rfl)
        · obtain ⟨fv, rfl⟩ := Int.eq_ofNat_of_zero_le h22
          have hl : lv_has ls 5 [(4, .int (nI (fv))), (0, .ref (o)), (1, .int (zI (zp))), (2, .int (nI (x))), (3, .int (nI (ti)))] := by rw [show zI ((fv : Int)) = nI (fv) from zI_n fv] at hl; exact hl
          have hfv := sw_lon_fv hzv
          refine lv_iload_n hx hb dX0_longest_25 rfl (lv_at hl 4 rfl) ?_
          refine lv_iconst (v := nI (1)) hx hb dX0_longest_26 (by decide) ?_
          refine sw_add hx hb dX0_longest_27 ?_
          refine lv_iload hx hb dX0_longest_28 (lv_at hl 0 rfl) ?_
          refine sw_sub hx hb dX0_longest_30 (by omega) ?_
          refine lv_iload_n hx hb dX0_longest_31 rfl (lv_at hl 3 rfl) ?_
          refine sw_cle (tgt := 42) hx hb dX0_longest_32 (by decide) (by omega) (by omega) (fun h32 => ?_) (fun h32 => ?_)
          · have hI' := sw_lon_s hzv (Or.inl ⟨h32, rfl⟩) hI
            refine lv_iinc (k := 4) (v := nI (ti + 1)) (lv' := [(3, .int (nI (ti + 1))), (4, .int (nI (fv))), (0, .ref (o)), (1, .int (zI (zp))), (2, .int (nI (x)))]) hx hb dX0_longest_42 hl rfl (nI_add _ 1) (by decide) rfl (fun ls hl => ?_)
            refine lv_goto (tgt := 4) hx hb dX0_longest_45 (by decide) ?_
            exact ihL4 (x) (ti + 1) (lk_15) (fp_15) (fo_15) (lp_15) (dn_15) (ac_15) (ea_15) (la_15) (ne_15) (nl_15) (eA_15) (lA_15) (by omega) hI' hCa2 (by omega) _ _ hP hD hS _ (lv_sub hl [2, 3, 4, 0] rfl)
          · have hI' := sw_lon_s hzv (Or.inr ⟨h32, rfl⟩) hI
            refine lv_iload_n hx hb dX0_longest_35 rfl (lv_at hl 4 rfl) ?_
            refine lv_iconst (v := nI (1)) hx hb dX0_longest_36 (by decide) ?_
            refine sw_add hx hb dX0_longest_37 ?_
            refine lv_iload hx hb dX0_longest_38 (lv_at hl 0 rfl) ?_
            refine sw_sub hx hb dX0_longest_40 (by omega) ?_
            refine lv_istore_n (lv' := [(2, .int (nI ((ti + 1) - fv))), (4, .int (nI (fv))), (0, .ref (o)), (1, .int (zI (zp))), (3, .int (nI (ti)))]) hx hb dX0_longest_41 rfl hl (by decide) rfl (fun ls hl => ?_)
            refine lv_iinc (k := 4) (v := nI (ti + 1)) (lv' := [(3, .int (nI (ti + 1))), (2, .int (nI ((ti + 1) - fv))), (4, .int (nI (fv))), (0, .ref (o)), (1, .int (zI (zp)))]) hx hb dX0_longest_42 hl rfl (nI_add _ 1) (by decide) rfl (fun ls hl => ?_)
            refine lv_goto (tgt := 4) hx hb dX0_longest_45 (by decide) ?_
            exact ihL4 ((ti + 1) - fv) (ti + 1) (lk_15) (fp_15) (fo_15) (lp_15) (dn_15) (ac_15) (ea_15) (la_15) (ne_15) (nl_15) (eA_15) (lA_15) (by omega) hI' hCa2 (by omega) _ _ hP hD hS _ (lv_sub hl [3, 4, 1, 0] rfl)
  exact L4 (L - (0) + 1) (0) (0) (lk) (fp) (fo) (lp) (dn) (ac) (ea) (la) (ne) (nl) (eA) (lA) (by omega) sw_lon_0 hCa (Nat.lt_succ_self _) _ _ hP hD hS _ (lv_sub hl [2, 3, 1, 0] rfl)
set_option maxRecDepth 100000 in
theorem mX0_longest (l : Launch) {D : va_G} {o : Nat} {ad : Nat → Nat} {kc : Nat → ClassId} {Sz : Nat → Nat} {St : Nat → Nat} {Ct : Nat → Nat} {T : Nat → Nat} {L : Nat} {lk : Nat} {fp : Nat} {fo : Nat → Nat} {lp : Nat} {dn : Nat} {ac : Nat} {ea : Nat → Nat} {la : Nat → Int} {ne : Nat → Nat} {nl : Nat → Int} {eA : Nat → Int} {lA : Nat → Int} {zp : Int} (hlzp : -2147483648 ≤ zp) (huzp : zp < 2147483648) (hO : sw_Ok Sz St Ct T L) (hCa : sw_Ca Sz St Ct T L lk fp fo lp dn ac ea la eA lA) (sz : Nat) : Met l yX0_longest (ws_ yX0_longest cX0_longest 5 (some .int)) ({ frames := 5, cells := 0, slots := 0, locals := 115 }) (sw_M D vwCl (wX o ad kc Sz St Ct T L lk fp fo lp dn ac ea la ne nl eA lA) (tyX kc) sz [.ref o, .int (zI (zp))]) (va_Qi (fun (r : Int32) (u : Nat × Nat × (Nat → Nat) × Nat × Nat × Nat × (Nat → Nat) × (Nat → Int) × (Nat → Nat) × (Nat → Int) × (Nat → Int) × (Nat → Int)) => (∃ x, r = nI x ∧ sw_mx (sw_lonP Sz St Ct T zp L) x) ∧ sw_Ca Sz St Ct T L u.1 u.2.1 u.2.2.1 u.2.2.2.1 u.2.2.2.2.1 u.2.2.2.2.2.1 u.2.2.2.2.2.2.1 u.2.2.2.2.2.2.2.1 u.2.2.2.2.2.2.2.2.2.2.1 u.2.2.2.2.2.2.2.2.2.2.2) (sw_B D vwCl (tyX kc) (va_A (wX o ad kc Sz St Ct T L lk fp fo lp dn ac ea la ne nl eA lA) sz) (fun u : Nat × Nat × (Nat → Nat) × Nat × Nat × Nat × (Nat → Nat) × (Nat → Int) × (Nat → Nat) × (Nat → Int) × (Nat → Int) × (Nat → Int) => wX o ad kc Sz St Ct T L (u.1) (u.2.1) (u.2.2.1) (u.2.2.2.1) (u.2.2.2.2.1) (u.2.2.2.2.2.1) (u.2.2.2.2.2.2.1) (u.2.2.2.2.2.2.2.1) (u.2.2.2.2.2.2.2.2.1) (u.2.2.2.2.2.2.2.2.2.1) (u.2.2.2.2.2.2.2.2.2.2.1) (u.2.2.2.2.2.2.2.2.2.2.2))) (va_A (wX o ad kc Sz St Ct T L lk fp fo lp dn ac ea la ne nl eA lA) sz)) 0 0 (va_A (wX o ad kc Sz St Ct T L lk fp fo lp dn ac ea la ne nl eA lA) sz) := sw_metI (by decide) (Nat.le_of_ble_eq_true rfl) (fun p e s m below meth c Q ls A S hK hP hD hA hl ret => bX0_longest S (Nat.le_refl _) (Nat.le_refl _) hK hP hD va_S.rf hA hlzp huzp hO hCa ret hl) sz
set_option maxHeartbeats 4000000 in
set_option maxRecDepth 100000 in
theorem bX0_completing {D : va_G} {o : Nat} {ad : Nat → Nat} {kc : Nat → ClassId} {Sz : Nat → Nat} {St : Nat → Nat} {Ct : Nat → Nat} {T : Nat → Nat} {L : Nat} {lk : Nat} {fp : Nat} {fo : Nat → Nat} {lp : Nat} {dn : Nat} {ac : Nat} {ea : Nat → Nat} {la : Nat → Int} {ne : Nat → Nat} {nl : Nat → Int} {eA : Nat → Int} {lA : Nat → Int} {zp : Int} (S : CallFix p m c cX0_completing 6 s args lw_all RX0) (hRf : 4 ≤ R.frames) (hRl : 93 ≤ R.locals) (hK : va_K D vwCl (tyX kc) s) (hP : va_P D vwCl (wX o ad kc Sz St Ct T L lk fp fo lp dn ac ea la ne nl eA lA) H) (hD : va_D A (wX o ad kc Sz St Ct T L lk fp fo lp dn ac ea la ne nl eA lA)) (hS : va_S A H0 H locs) (hA : ∀ q, H0.size ≤ q → A q) (hlzp : -2147483648 ≤ zp) (huzp : zp < 2147483648) (hO : sw_Ok Sz St Ct T L) (hCa : sw_Ca Sz St Ct T L lk fp fo lp dn ac ea la eA lA) (ret : ∀ (pc : Nat) (ls : Array Slot) (r : Int32) (u : Nat × Nat × (Nat → Nat) × Nat × Nat × Nat × (Nat → Nat) × (Nat → Int) × (Nat → Nat) × (Nat → Int) × (Nat → Int) × (Nat → Int)) (H1 : Heap) (locs1 : List Loc), decode cX0_completing pc = .ok (.ireturn, 1) → (sw_coR Sz St Ct T L zp r ∧ sw_Ca Sz St Ct T L u.1 u.2.1 u.2.2.1 u.2.2.2.1 u.2.2.2.2.1 u.2.2.2.2.2.1 u.2.2.2.2.2.2.1 u.2.2.2.2.2.2.2.1 u.2.2.2.2.2.2.2.2.2.2.1 u.2.2.2.2.2.2.2.2.2.2.2) → va_P D vwCl ((fun u : Nat × Nat × (Nat → Nat) × Nat × Nat × Nat × (Nat → Nat) × (Nat → Int) × (Nat → Nat) × (Nat → Int) × (Nat → Int) × (Nat → Int) => wX o ad kc Sz St Ct T L (u.1) (u.2.1) (u.2.2.1) (u.2.2.2.1) (u.2.2.2.2.1) (u.2.2.2.2.2.1) (u.2.2.2.2.2.2.1) (u.2.2.2.2.2.2.2.1) (u.2.2.2.2.2.2.2.2.1) (u.2.2.2.2.2.2.2.2.2.1) (u.2.2.2.2.2.2.2.2.2.2.1) (u.2.2.2.2.2.2.2.2.2.2.2)) u) H1 → va_D A ((fun u : Nat × Nat × (Nat → Nat) × Nat × Nat × Nat × (Nat → Nat) × (Nat → Int) × (Nat → Nat) × (Nat → Int) × (Nat → Int) × (Nat → Int) => wX o ad kc Sz St Ct T L (u.1) (u.2.1) (u.2.2.1) (u.2.2.2.1) (u.2.2.2.2.1) (u.2.2.2.2.2.1) (u.2.2.2.2.2.2.1) (u.2.2.2.2.2.2.2.1) (u.2.2.2.2.2.2.2.2.1) (u.2.2.2.2.2.2.2.2.2.1) (u.2.2.2.2.2.2.2.2.2.2.1) (u.2.2.2.2.2.2.2.2.2.2.2)) u) → va_S A H0 H1 locs1 → W p l e R s m args below meth c H1 locs1 0 0 Q (F0 m pc ls [.int r])) (hl : lv_has ls 6 [(0, .ref (o)), (1, .int (zI (zp)))]) : W p l e R s m args below meth c H locs 0 0 Q (F0 m 0 ls []) := by
  have hx := S.1
  have hb := S.2.1
  have hown := S.2.2.2.1
  have hts := S.2.2.2.2
  have hO2 := hO
  obtain ⟨hs, ht, hc, hT, hL⟩ := hO
  refine lv_iload_n hx hb dX0_completing_0 rfl (lv_at hl 1 rfl) ?_
  refine sw_csR (As := [.int (zI (zp))]) (rest := []) S (mX0_isPattern l hlzp huzp) (va_cwS 1 hts (lw_S q88 q89 q20 q90) rfl rfl rfl (by decide +kernel) ⟨Nat.le_trans (Nat.le_of_ble_eq_true rfl) hRf, Nat.le_trans (Nat.le_of_ble_eq_true rfl) hRl⟩) rfl hl.1 rfl (Nat.le_of_ble_eq_true rfl) dX0_completing_1 ⟨Nat.zero_le _, Nat.zero_le _⟩ (fun r hr => ?_)
  rcases hr with ⟨rfl, hr1⟩ | ⟨rfl, hr1⟩
  · obtain ⟨pn, rfl⟩ := Int.eq_ofNat_of_zero_le hr1.1
    have hl : lv_has ls 6 [(0, .ref (o)), (1, .int (nI (pn)))] := by rw [show zI ((pn : Int)) = nI (pn) from zI_n pn] at hl; exact hl
    refine sw_ifne (tgt := 9) hx hb dX0_completing_4 (by decide) (by decide) (fun _ => ?_) (fun q => absurd q (by decide))
    refine lv_aload_n hx hb dX0_completing_9 rfl (lv_at hl 0 rfl) ?_
    refine sw_cvV (As := []) (rest := []) (C := RX0) (ci := 0) (q0 := 0) S (fun sz => (mX0_goThrough l hO2 hCa sz)) (cwV 0 hts (lw_V q119 q121 qs3 q20 q122) rfl rfl rfl (by decide +kernel) ⟨Nat.le_trans (Nat.le_of_ble_eq_true rfl) hRf, Nat.le_trans (Nat.le_of_ble_eq_true rfl) hRl⟩) hK hP hD hS hA rfl rfl rfl rfl hl.1 rfl (Nat.le_of_ble_eq_true rfl) dX0_completing_10 ⟨Nat.zero_le _, Nat.zero_le _⟩ (fun u H locs hr hP hD hS => ?_)
    obtain ⟨lk_10, fp_10, fo_10, lp_10, dn_10, ac_10, ea_10, la_10, ne_10, nl_10, eA_10, lA_10⟩ := u
    have hP : va_P D vwCl (wX o ad kc Sz St Ct T L lk_10 fp_10 fo_10 lp_10 dn_10 ac_10 ea_10 la_10 ne_10 nl_10 eA_10 lA_10) H := hP
    have hD : va_D A (wX o ad kc Sz St Ct T L lk_10 fp_10 fo_10 lp_10 dn_10 ac_10 ea_10 la_10 ne_10 nl_10 eA_10 lA_10) := hD
    obtain ⟨hg1, hg2, hg3, hg4, hg5⟩ := hr
    have hg3 : dn_10 = L := hg3
    have hCa2 : sw_Ca Sz St Ct T L lk_10 fp_10 fo_10 lp_10 dn_10 ac_10 ea_10 la_10 eA_10 lA_10 := ⟨Or.inr ⟨hg1, hg2⟩, Nat.le_of_eq hg3, by rw [hg3]; exact hg4, by rw [hg3]; exact hg5⟩
    have hLk2 : sw_Lk Sz Ct fp_10 fo_10 lp_10 := hg2
    have hAcL : sw_Ac Sz St Ct T L ac_10 ea_10 la_10 := hg4
    have hRsL : sw_Rs Sz St Ct T L eA_10 lA_10 := hg5
    refine lv_bipush (v := nI (63)) hx hb dX0_completing_13 (by decide) ?_
    refine lv_iload_n hx hb dX0_completing_15 rfl (lv_at hl 1 rfl) ?_
    refine lv_bipush (v := nI (6)) hx hb dX0_completing_16 (by decide) ?_
    refine sw_mul hx hb dX0_completing_18 ?_
    refine sw_shl hx hb dX0_completing_19 (by omega) (sw_own pn (by omega)) ?_
    refine lv_istore_n (lv' := [(2, .int (nI (63 * 2 ^ (pn * 6)))), (0, .ref (o)), (1, .int (nI (pn)))]) hx hb dX0_completing_20 rfl hl (by decide) rfl (fun ls hl => ?_)
    refine lv_iconst (v := nI (0)) hx hb dX0_completing_21 (by decide) ?_
    refine lv_istore_n (lv' := [(3, .int (nI (0))), (2, .int (nI (63 * 2 ^ (pn * 6)))), (0, .ref (o)), (1, .int (nI (pn)))]) hx hb dX0_completing_22 rfl hl (by decide) rfl (fun ls hl => ?_)
    refine lv_iconst (v := nI (0)) hx hb dX0_completing_23 (by decide) ?_
    refine lv_istore (lv' := [(4, .int (nI (0))), (3, .int (nI (0))), (2, .int (nI (63 * 2 ^ (pn * 6)))), (0, .ref (o)), (1, .int (nI (pn)))]) hx hb dX0_completing_24 hl (by decide) rfl (fun ls hl => ?_)
    have L26 : ∀ (n : Nat) (x : Nat) (sn : Nat), (sn ≤ 4) → (sw_set sn (fun s => ∃ b, sw_Eb Sz St Ct (va_up T L s) pn L b) x) → 4 - sn < n → ∀ (H : Heap) (locs : List Loc), va_P D vwCl (wX o ad kc Sz St Ct T L lk_10 fp_10 fo_10 lp_10 dn_10 ac_10 ea_10 la_10 ne_10 nl_10 eA_10 lA_10) H → va_D A (wX o ad kc Sz St Ct T L lk_10 fp_10 fo_10 lp_10 dn_10 ac_10 ea_10 la_10 ne_10 nl_10 eA_10 lA_10) → va_S A H0 H locs → ∀ (ls : Array Slot), lv_has ls 6 [(0, .ref (o)), (1, .int (nI (pn))), (2, .int (nI (63 * 2 ^ (pn * 6)))), (3, .int (nI (x))), (4, .int (nI (sn)))] → W p l e R s m args below meth c H locs 0 0 Q (F0 m 26 ls []) := by
      intro n
      induction n with
      | zero => intro x sn _ _ hm; exact absurd hm (Nat.not_lt_zero _)
      | succ n ihL26 =>
        intro x sn hsn hI hmL26 H locs hP hD hS ls hl
        refine lv_iload hx hb dX0_completing_26 (lv_at hl 4 rfl) ?_
        refine lv_iconst (v := nI (4)) hx hb dX0_completing_28 (by decide) ?_
        refine sw_cge (tgt := 69) hx hb dX0_completing_29 (by decide) (by omega) (by omega) (fun h29 => ?_) (fun h29 => ?_)
        · refine lv_iload_n hx hb dX0_completing_69 rfl (lv_at hl 3 rfl) ?_
          exact ret _ _ _ (lk_10, fp_10, fo_10, lp_10, dn_10, ac_10, ea_10, la_10, ne_10, nl_10, eA_10, lA_10) _ _ dX0_completing_70 (⟨Or.inl ⟨pn, rfl, by omega, x, rfl, by rw [show sn = 4 by omega] at hI; exact hI⟩, hCa2⟩) hP hD hS
        · refine lv_aload_n hx hb dX0_completing_32 rfl (lv_at hl 0 rfl) ?_
          refine lv_iload hx hb dX0_completing_33 (lv_at hl 4 rfl) ?_
          refine sw_cvR (As := [.int (nI (sn))]) (rest := []) (C := RX0) (ci := 0) (q0 := 0) S (mX0_onward l h29 hs ht hAcL.1) (cwV 1 hts (lw_V q147 q149 qs10 q20 q150) rfl rfl rfl (by decide +kernel) ⟨Nat.le_trans (Nat.le_of_ble_eq_true rfl) hRf, Nat.le_trans (Nat.le_of_ble_eq_true rfl) hRl⟩) hK hP rfl rfl rfl rfl hl.1 rfl (Nat.le_of_ble_eq_true rfl) dX0_completing_35 ⟨Nat.zero_le _, Nat.zero_le _⟩ (fun r hr => ?_)
          obtain ⟨y, rfl, hy⟩ := hr
          refine lv_istore (lv' := [(5, .int (nI (y))), (0, .ref (o)), (1, .int (nI (pn))), (2, .int (nI (63 * 2 ^ (pn * 6)))), (3, .int (nI (x))), (4, .int (nI (sn)))]) hx hb dX0_completing_38 hl (by decide) rfl (fun ls hl => ?_)
          refine lv_iload_n hx hb dX0_completing_40 rfl (lv_at hl 4 rfl) ?_
          refine lv_iload hx hb dX0_completing_41 (lv_at hl 0 rfl) ?_
          refine lv_aload_n hx hb dX0_completing_43 rfl (lv_at hl 1 rfl) ?_
          refine va_get (D := D) (ci := 0) (v := .int (nI (lp_10))) (C := RX0) (T := TX0) (N := 17) hx hb hts in_X0 hown hK hP 0 rfl rfl 8 (by decide) (hts _ q38) (fun _ h9 => h9) rfl dX0_completing_44 ?_
          refine sw_and hx hb dX0_completing_47 ?_
          refine lv_iload_n hx hb dX0_completing_48 rfl (lv_at hl 3 rfl) ?_
          refine sw_and hx hb dX0_completing_49 ?_
          refine sw_ifeq (tgt := 60) hx hb dX0_completing_50 (by decide) (Nat.lt_of_le_of_lt Nat.and_le_left (Nat.lt_of_le_of_lt Nat.and_le_left (Nat.lt_trans hy.1 (by decide)))) (fun h50 => ?_) (fun h50 => ?_)
          · have hI' := sw_set_n' (P := fun s => ∃ b, sw_Eb Sz St Ct (va_up T L s) pn L b) (n := sn) (fun q => (sw_comp hc hs (by omega) hLk2 hAcL hy).mpr q h50) hI
            refine lv_iconst (v := nI (0)) hx hb dX0_completing_60 (by decide) ?_
            refine sw_or hx hb dX0_completing_61 ?_
            refine lv_istore_n (lv' := [(3, .int (nI (x ||| 0))), (5, .int (nI (y))), (0, .ref (o)), (1, .int (nI (pn))), (2, .int (nI (63 * 2 ^ (pn * 6)))), (4, .int (nI (sn)))]) hx hb dX0_completing_62 rfl hl (by decide) rfl (fun ls hl => ?_)
            refine lv_iinc (k := 5) (v := nI (sn + 1)) (lv' := [(4, .int (nI (sn + 1))), (3, .int (nI (x ||| 0))), (5, .int (nI (y))), (0, .ref (o)), (1, .int (nI (pn))), (2, .int (nI (63 * 2 ^ (pn * 6))))]) hx hb dX0_completing_63 hl rfl (nI_add _ 1) (by decide) rfl (fun ls hl => ?_)
            refine lv_goto (tgt := 26) hx hb dX0_completing_66 (by decide) ?_
            exact ihL26 (x ||| 0) (sn + 1) (by omega) hI' (by omega) _ _ hP hD hS _ (lv_sub hl [3, 4, 5, 1, 0] rfl)
          · have hI' := sw_set_1 (P := fun s => ∃ b, sw_Eb Sz St Ct (va_up T L s) pn L b) (n := sn) ((sw_comp hc hs (by omega) hLk2 hAcL hy).mp h50) hI
            refine lv_iconst (v := nI (1)) hx hb dX0_completing_53 (by decide) ?_
            refine lv_iload hx hb dX0_completing_54 (lv_at hl 5 rfl) ?_
            refine sw_shl hx hb dX0_completing_56 (by omega) (sw_sh (by omega) (by omega)) ?_
            refine lv_goto (tgt := 61) hx hb dX0_completing_57 (by decide) ?_
            refine sw_or hx hb dX0_completing_61 ?_
            refine lv_istore_n (lv' := [(3, .int (nI (x ||| (1 * 2 ^ sn)))), (5, .int (nI (y))), (0, .ref (o)), (1, .int (nI (pn))), (2, .int (nI (63 * 2 ^ (pn * 6)))), (4, .int (nI (sn)))]) hx hb dX0_completing_62 rfl hl (by decide) rfl (fun ls hl => ?_)
            refine lv_iinc (k := 5) (v := nI (sn + 1)) (lv' := [(4, .int (nI (sn + 1))), (3, .int (nI (x ||| (1 * 2 ^ sn)))), (5, .int (nI (y))), (0, .ref (o)), (1, .int (nI (pn))), (2, .int (nI (63 * 2 ^ (pn * 6))))]) hx hb dX0_completing_63 hl rfl (nI_add _ 1) (by decide) rfl (fun ls hl => ?_)
            refine lv_goto (tgt := 26) hx hb dX0_completing_66 (by decide) ?_
            exact ihL26 (x ||| (1 * 2 ^ sn)) (sn + 1) (by omega) hI' (by omega) _ _ hP hD hS _ (lv_sub hl [3, 4, 5, 1, 0] rfl)
    exact L26 (4 - (0) + 1) (0) (0) (by omega) sw_set_0 (Nat.lt_succ_self _) _ _ hP hD hS _ (lv_sub hl [3, 4, 2, 1, 0] rfl)
  · refine sw_ifne (tgt := 9) hx hb dX0_completing_4 (by decide) (by decide) (fun q => absurd rfl q) (fun _ => ?_)
    refine lv_iconst (v := nI (0)) hx hb dX0_completing_7 (by decide) ?_
    exact ret _ _ _ (lk, fp, fo, lp, dn, ac, ea, la, ne, nl, eA, lA) _ _ dX0_completing_8 (⟨Or.inr ⟨hr1, rfl⟩, hCa⟩) hP hD hS
set_option maxRecDepth 100000 in
theorem mX0_completing (l : Launch) {D : va_G} {o : Nat} {ad : Nat → Nat} {kc : Nat → ClassId} {Sz : Nat → Nat} {St : Nat → Nat} {Ct : Nat → Nat} {T : Nat → Nat} {L : Nat} {lk : Nat} {fp : Nat} {fo : Nat → Nat} {lp : Nat} {dn : Nat} {ac : Nat} {ea : Nat → Nat} {la : Nat → Int} {ne : Nat → Nat} {nl : Nat → Int} {eA : Nat → Int} {lA : Nat → Int} {zp : Int} (hlzp : -2147483648 ≤ zp) (huzp : zp < 2147483648) (hO : sw_Ok Sz St Ct T L) (hCa : sw_Ca Sz St Ct T L lk fp fo lp dn ac ea la eA lA) (sz : Nat) : Met l yX0_completing (ws_ yX0_completing cX0_completing 6 (some .int)) ({ frames := 4, cells := 0, slots := 0, locals := 93 }) (sw_M D vwCl (wX o ad kc Sz St Ct T L lk fp fo lp dn ac ea la ne nl eA lA) (tyX kc) sz [.ref o, .int (zI (zp))]) (va_Qi (fun (r : Int32) (u : Nat × Nat × (Nat → Nat) × Nat × Nat × Nat × (Nat → Nat) × (Nat → Int) × (Nat → Nat) × (Nat → Int) × (Nat → Int) × (Nat → Int)) => sw_coR Sz St Ct T L zp r ∧ sw_Ca Sz St Ct T L u.1 u.2.1 u.2.2.1 u.2.2.2.1 u.2.2.2.2.1 u.2.2.2.2.2.1 u.2.2.2.2.2.2.1 u.2.2.2.2.2.2.2.1 u.2.2.2.2.2.2.2.2.2.2.1 u.2.2.2.2.2.2.2.2.2.2.2) (sw_B D vwCl (tyX kc) (va_A (wX o ad kc Sz St Ct T L lk fp fo lp dn ac ea la ne nl eA lA) sz) (fun u : Nat × Nat × (Nat → Nat) × Nat × Nat × Nat × (Nat → Nat) × (Nat → Int) × (Nat → Nat) × (Nat → Int) × (Nat → Int) × (Nat → Int) => wX o ad kc Sz St Ct T L (u.1) (u.2.1) (u.2.2.1) (u.2.2.2.1) (u.2.2.2.2.1) (u.2.2.2.2.2.1) (u.2.2.2.2.2.2.1) (u.2.2.2.2.2.2.2.1) (u.2.2.2.2.2.2.2.2.1) (u.2.2.2.2.2.2.2.2.2.1) (u.2.2.2.2.2.2.2.2.2.2.1) (u.2.2.2.2.2.2.2.2.2.2.2))) (va_A (wX o ad kc Sz St Ct T L lk fp fo lp dn ac ea la ne nl eA lA) sz)) 0 0 (va_A (wX o ad kc Sz St Ct T L lk fp fo lp dn ac ea la ne nl eA lA) sz) := sw_metI (by decide) (Nat.le_of_ble_eq_true rfl) (fun p e s m below meth c Q ls A S hK hP hD hA hl ret => bX0_completing S (Nat.le_refl _) (Nat.le_refl _) hK hP hD va_S.rf hA hlzp huzp hO hCa ret hl) sz
end SWB
end
section
/-! the reference: extend -/
def sw_xE (PP : Nat → Prop) (St Ct T : Nat → Nat) (ce fr q r : Nat) : Prop := ∃ y, fr ≤ y ∧ y < r ∧ y ≤ q ∧ PP y ∧ sw_run St T ce y q ∧ sw_alw (Ct ce) (q - y)
def sw_xI (PP : Nat → Prop) (St Ct T : Nat → Nat) (ce fr nn r : Nat) (mo : Nat → Nat) : Prop := ∀ q, fr ≤ q → q ≤ nn → sw_t (sw_xE PP St Ct T ce fr q r) (mo q)
def sw_xJ (PP : Nat → Prop) (St Ct T : Nat → Nat) (ce fr nn r qq : Nat) (mo : Nat → Nat) : Prop := ∀ q, fr ≤ q → q ≤ nn → sw_t (sw_xE PP St Ct T ce fr q r ∨ (r ≤ q ∧ q < qq ∧ PP r ∧ sw_run St T ce r q ∧ sw_alw (Ct ce) (q - r))) (mo q)
theorem sw_xI_0 {PP : Nat → Prop} {St Ct T mo : Nat → Nat} {ce fr nn q : Nat} (hq : nn < q) (h : ∀ y, fr ≤ y → y < q → mo y = 0) : sw_xI PP St Ct T ce fr nn fr mo := fun x h1 h2 => Or.inr ⟨h x h1 (by omega), fun z => by obtain ⟨y, a, b, -⟩ := z; omega⟩
theorem sw_xJ_0 {PP : Nat → Prop} {St Ct T mo : Nat → Nat} {ce fr nn r : Nat} (h : sw_xI PP St Ct T ce fr nn r mo) : sw_xJ PP St Ct T ce fr nn r r mo := fun q h1 h2 => sw_t_iff ⟨Or.inl, fun z => by
  rcases z with z | ⟨a, b, -⟩
  · exact z
  · omega⟩ (h q h1 h2)
theorem sw_xJ_e {PP : Nat → Prop} {St Ct T mo : Nat → Nat} {ce fr nn r qq : Nat} (hr : fr ≤ r) (he : nn < qq ∨ ¬ (PP r ∧ sw_run St T ce r qq)) (h : sw_xJ PP St Ct T ce fr nn r qq mo) : sw_xI PP St Ct T ce fr nn (r + 1) mo := fun q h1 h2 => sw_t_iff (by
  constructor
  · rintro (⟨y, a1, a2, a3⟩ | ⟨a1, a2, a3, a4, a5⟩)
    · exact ⟨y, a1, by omega, a3⟩
    · exact ⟨r, hr, by omega, a1, a3, a4, a5⟩
  · rintro ⟨y, a1, a2, a3, a4, a5, a6⟩
    by_cases e : y = r
    · subst e
      refine Or.inr ⟨a3, ?_, a4, a5, a6⟩
      rcases he with he | he
      · omega
      · apply Classical.byContradiction
        intro hn
        exact he ⟨a4, fun t t1 t2 => a5 t t1 (by omega)⟩
    · exact Or.inl ⟨y, a1, by omega, a3, a4, a5, a6⟩) (h q h1 h2)
theorem sw_xJ_s {PP : Nat → Prop} {St Ct T mo : Nat → Nat} {ce fr nn r qq v : Nat} (h1 : r ≤ qq) (h2 : qq ≤ nn) (hr : fr ≤ r) (hp : PP r ∧ sw_run St T ce r qq) (hv : (v = 1 ∧ (mo qq ≠ 0 ∨ sw_alw (Ct ce) (qq - r))) ∨ (v = 0 ∧ mo qq = 0 ∧ ¬ sw_alw (Ct ce) (qq - r))) (h : sw_xJ PP St Ct T ce fr nn r qq mo) : sw_xJ PP St Ct T ce fr nn r (qq + 1) (va_up mo qq v) := fun q a1 a2 => by
  have old := h q a1 a2
  by_cases e : q = qq
  · subst e
    rw [sw_us]
    rcases hv with ⟨rfl, hv⟩ | ⟨rfl, hv1, hv2⟩
    · refine Or.inl ⟨rfl, ?_⟩
      rcases hv with hv | hv
      · rcases old with ⟨-, o | ⟨-, o, -⟩⟩ | ⟨o, -⟩
        · exact Or.inl o
        · omega
        · omega
      · exact Or.inr ⟨h1, by omega, hp.1, hp.2, hv⟩
    · refine Or.inr ⟨rfl, ?_⟩
      rintro (z | ⟨-, -, -, -, z⟩)
      · rcases old with ⟨o, -⟩ | ⟨-, o⟩
        · omega
        · exact o (Or.inl z)
      · exact hv2 z
  · rw [sw_un e]
    exact sw_t_iff (by
      constructor
      · rintro (z | ⟨b1, b2, b3⟩)
        · exact Or.inl z
        · exact Or.inr ⟨b1, by omega, b3⟩
      · rintro (z | ⟨b1, b2, b3⟩)
        · exact Or.inl z
        · exact Or.inr ⟨b1, by omega, b3⟩) old
theorem sw_run_s {St T : Nat → Nat} {ce r q : Nat} {PP : Nat → Prop} (hr : r ≤ q) (hp : PP r ∧ sw_run St T ce r q) : (PP r ∧ sw_run St T ce r (q + 1)) ↔ St ce / 2 ^ (T q) % 2 = 1 := by
  constructor
  · rintro ⟨-, h⟩
    exact h q hr (by omega)
  · intro h
    refine ⟨hp.1, fun t t1 t2 => ?_⟩
    by_cases e : t = q
    · rw [e]; exact h
    · exact hp.2 t t1 (by omega)
theorem sw_b_of_t {P : Prop} {x : Nat} (h : sw_t P x) : sw_b P (nI x) := by
  rcases h with ⟨rfl, h⟩ | ⟨rfl, h⟩
  · exact Or.inl ⟨rfl, h⟩
  · exact Or.inr ⟨rfl, h⟩
theorem sw_t_ne {P : Prop} {x : Nat} (h : sw_t P x) (hx : x ≠ 0) : P := by
  rcases h with ⟨-, h⟩ | ⟨e, -⟩
  · exact h
  · exact absurd e hx
theorem sw_t_0 {P : Prop} {x : Nat} (h : sw_t P x) (hx : x = 0) : ¬ P := by
  rcases h with ⟨e, -⟩ | ⟨-, h⟩
  · omega
  · exact h
/-- endsAt -/
theorem sw_ea_s {Sz St Ct T : Nat → Nat} {pn fr q fd v x : Nat} (hx : sw_t (sw_E Sz St Ct T pn fr q) x) (h : sw_t (∃ b, b < fr ∧ sw_E Sz St Ct T pn b q) fd) (hv : (v = 1 ∧ (fd ≠ 0 ∨ x ≠ 0)) ∨ (v = 0 ∧ fd = 0 ∧ x = 0)) : sw_t (∃ b, b < fr + 1 ∧ sw_E Sz St Ct T pn b q) v := by
  rcases hv with ⟨rfl, hv⟩ | ⟨rfl, hv1, hv2⟩
  · refine Or.inl ⟨rfl, ?_⟩
    rcases hv with hv | hv
    · obtain ⟨b, b1, b2⟩ := sw_t_ne h hv
      exact ⟨b, by omega, b2⟩
    · exact ⟨fr, by omega, sw_t_ne hx hv⟩
  · refine Or.inr ⟨rfl, ?_⟩
    rintro ⟨b, b1, b2⟩
    by_cases e : b = fr
    · subst e
      exact sw_t_0 hx hv2 b2
    · exact sw_t_0 h hv1 ⟨b, by omega, b2⟩
theorem sw_ea_0 {Sz St Ct T : Nat → Nat} {pn q : Nat} : sw_t (∃ b, b < 0 ∧ sw_E Sz St Ct T pn b q) 0 := Or.inr ⟨rfl, fun z => by obtain ⟨b, b1, -⟩ := z; omega⟩
theorem sw_ea_e {Sz St Ct T : Nat → Nat} {pn fr tn x : Nat} (hf : fr = tn + 1) (h : sw_t (∃ b, b < fr ∧ sw_E Sz St Ct T pn b (tn + 1)) x) : sw_t (∃ b, sw_Eb Sz St Ct T pn tn b) x := sw_t_iff (by
  subst hf
  constructor
  · rintro ⟨b, b1, b2⟩
    exact ⟨b, by omega, b2⟩
  · rintro ⟨b, b1, b2⟩
    exact ⟨b, by omega, b2⟩) h
theorem sw_set_any {P : Nat → Prop} {n k x : Nat} (h : ∀ j, ¬ P j) (hx : sw_set n P x) : sw_set k P x := fun j => by
  rw [hx j]
  constructor
  · rintro ⟨-, q⟩; exact absurd q (h j)
  · rintro ⟨-, q⟩; exact absurd q (h j)
/-- ends -/
def sw_enP (Sz St Ct T : Nat → Nat) (zp : Int) (t : Nat) : Prop := ∃ pn : Nat, zp = pn ∧ pn < 4 ∧ ∃ b, sw_Eb Sz St Ct T pn t b
theorem sw_enP_iff {Sz St Ct T : Nat → Nat} {pn t : Nat} (h : pn < 4) : sw_enP Sz St Ct T (pn : Int) t ↔ ∃ b, sw_Eb Sz St Ct T pn t b := by
  constructor
  · rintro ⟨q, e, -, hb⟩
    obtain rfl : pn = q := by omega
    exact hb
  · intro hb
    exact ⟨pn, rfl, h, hb⟩
theorem sw_enP_no {Sz St Ct T : Nat → Nat} {zp : Int} (h : ¬ (0 ≤ zp ∧ zp < 4)) (t : Nat) : ¬ sw_enP Sz St Ct T zp t := by
  rintro ⟨q, e, e2, -⟩
  exact h (by omega)
theorem sw_cnt_no {P : Nat → Prop} (h : ∀ t, ¬ P t) : ∀ n, sw_cnt P n = 0
  | 0 => rfl
  | n + 1 => by rw [sw_cnt_n (h n), sw_cnt_no h n]
theorem sw_endR_of {Sz St Ct T : Nat → Nat} {L x ti : Nat} {zp : Int} (hx : x = sw_cnt (sw_enP Sz St Ct T zp) ti) (he : ti = L ∨ ¬ (0 ≤ zp ∧ zp < 4)) : sw_endR Sz St Ct T L zp (nI x) := by
  by_cases h : 0 ≤ zp ∧ zp < 4
  · obtain ⟨pn, rfl⟩ := Int.eq_ofNat_of_zero_le h.1
    refine Or.inl ⟨pn, rfl, by omega, ?_⟩
    rcases he with he | he
    · rw [hx, he]
      exact congrArg nI (sw_cnt_congr _ (fun t _ => sw_enP_iff (by omega)))
    · exact absurd h he
  · refine Or.inr ⟨h, ?_⟩
    rw [hx, sw_cnt_no (sw_enP_no h)]
theorem sw_feR_at {Sz St Ct T : Nat → Nat} {L ti pn : Nat} (hp : pn < 4) (ht : ti < L) (hb : ∃ b, sw_Eb Sz St Ct T pn ti b) (h : ∀ t, t < ti → ¬ sw_enP Sz St Ct T (pn : Int) t) : sw_feR Sz St Ct T L (pn : Int) (nI ti) :=
  Or.inl ⟨pn, rfl, hp, (ti : Int), (zI_n ti).symm, Or.inr ⟨ti, rfl, ⟨ht, hb⟩, fun c q => Classical.byContradiction (fun z => h c (by omega) ((sw_enP_iff hp).mpr q.2))⟩⟩
theorem sw_feR_no {Sz St Ct T : Nat → Nat} {L ti : Nat} {zp : Int} (he : L ≤ ti ∨ ¬ (0 ≤ zp ∧ zp < 4)) (h : ∀ t, t < ti → ¬ sw_enP Sz St Ct T zp t) : sw_feR Sz St Ct T L zp (zI (-1)) := by
  by_cases hz : 0 ≤ zp ∧ zp < 4
  · obtain ⟨pn, rfl⟩ := Int.eq_ofNat_of_zero_le hz.1
    refine Or.inl ⟨pn, rfl, by omega, -1, rfl, Or.inl ⟨rfl, ?_⟩⟩
    rintro t ⟨h1, h2⟩
    rcases he with he | he
    · exact h t (by omega) ((sw_enP_iff (by omega)).mpr h2)
    · exact he hz
  · exact Or.inr ⟨hz, rfl⟩
/-- earliest, latest -/
def sw_ebZ (Sz St Ct T : Nat → Nat) (L : Nat) (zp zt : Int) (b : Nat) : Prop := ∃ pn tn : Nat, zp = pn ∧ zt = tn ∧ pn < 4 ∧ tn < L ∧ sw_Eb Sz St Ct T pn tn b
theorem sw_ebZ_iff {Sz St Ct T : Nat → Nat} {L pn tn b : Nat} (hp : pn < 4) (ht : tn < L) : sw_ebZ Sz St Ct T L (pn : Int) (tn : Int) b ↔ sw_Eb Sz St Ct T pn tn b := by
  constructor
  · rintro ⟨p2, t2, e1, e2, -, -, h⟩
    obtain rfl : pn = p2 := by omega
    obtain rfl : tn = t2 := by omega
    exact h
  · intro h
    exact ⟨pn, tn, rfl, rfl, hp, ht, h⟩
theorem sw_eaR_of {Sz St Ct T : Nat → Nat} {L : Nat} {zp zt z : Int} (h : sw_lo (sw_ebZ Sz St Ct T L zp zt) z) : sw_eaR Sz St Ct T L zp zt (zI z) := by
  by_cases hv : 0 ≤ zp ∧ zp < 4 ∧ 0 ≤ zt ∧ zt < (L : Int)
  · obtain ⟨pn, rfl⟩ := Int.eq_ofNat_of_zero_le hv.1
    obtain ⟨tn, rfl⟩ := Int.eq_ofNat_of_zero_le hv.2.2.1
    exact Or.inl ⟨pn, tn, rfl, rfl, by omega, by omega, z, rfl, sw_lo_iff (fun b => sw_ebZ_iff (by omega) (by omega)) h⟩
  · refine Or.inr ⟨hv, ?_⟩
    have hn : ∀ b, ¬ sw_ebZ Sz St Ct T L zp zt b := by
      rintro b ⟨p2, t2, e1, e2, e3, e4, -⟩
      exact hv (by omega)
    rcases h with ⟨e, -⟩ | ⟨b, -, h1, -⟩
    · rw [e]
    · exact absurd h1 (hn b)
theorem sw_laR_of {Sz St Ct T : Nat → Nat} {L : Nat} {zp zt z : Int} (h : sw_hi (sw_ebZ Sz St Ct T L zp zt) z) : sw_laR Sz St Ct T L zp zt (zI z) := by
  by_cases hv : 0 ≤ zp ∧ zp < 4 ∧ 0 ≤ zt ∧ zt < (L : Int)
  · obtain ⟨pn, rfl⟩ := Int.eq_ofNat_of_zero_le hv.1
    obtain ⟨tn, rfl⟩ := Int.eq_ofNat_of_zero_le hv.2.2.1
    exact Or.inl ⟨pn, tn, rfl, rfl, by omega, by omega, z, rfl, sw_hi_iff (fun b => sw_ebZ_iff (by omega) (by omega)) h⟩
  · refine Or.inr ⟨hv, ?_⟩
    have hn : ∀ b, ¬ sw_ebZ Sz St Ct T L zp zt b := by
      rintro b ⟨p2, t2, e1, e2, e3, e4, -⟩
      exact hv (by omega)
    rcases h with ⟨e, -⟩ | ⟨b, -, h1, -⟩
    · rw [e]
    · exact absurd h1 (hn b)
theorem sw_ebZ_nop {Sz St Ct T : Nat → Nat} {L : Nat} {zp zt : Int} (h : ¬ (0 ≤ zp ∧ zp < 4)) (b : Nat) : ¬ sw_ebZ Sz St Ct T L zp zt b := by
  rintro ⟨p2, t2, e1, e2, e3, e4, -⟩
  exact h (by omega)
theorem sw_ebZ_not {Sz St Ct T : Nat → Nat} {L : Nat} {zp zt : Int} (h : (L : Int) ≤ zt) (b : Nat) : ¬ sw_ebZ Sz St Ct T L zp zt b := by
  rintro ⟨p2, t2, e1, e2, e3, e4, -⟩
  omega
theorem sw_ebZ_le {Sz St Ct T : Nat → Nat} {L b : Nat} {zp zt : Int} (h : sw_ebZ Sz St Ct T L zp zt b) : (b : Int) ≤ zt ∧ zt < (L : Int) := by
  obtain ⟨p2, t2, e1, e2, e3, e4, h⟩ := h
  have := h.1
  omega
/-- longest -/
def sw_lonM (Sz St Ct T : Nat → Nat) (L : Nat) (zp : Int) (n len : Nat) : Prop := ∃ pn b q : Nat, zp = pn ∧ pn < 4 ∧ b < n ∧ b < q ∧ q ≤ L ∧ sw_E Sz St Ct T pn b q ∧ len = q - b
def sw_lonQ (Sz St Ct T : Nat → Nat) (L : Nat) (zp : Int) (n qq len : Nat) : Prop := sw_lonM Sz St Ct T L zp n len ∨ ∃ pn q : Nat, zp = pn ∧ pn < 4 ∧ n < q ∧ q < qq ∧ q ≤ L ∧ sw_E Sz St Ct T pn n q ∧ len = q - n
theorem sw_mx_iff {P P' : Nat → Prop} (h : ∀ n, P n ↔ P' n) {x : Nat} (hx : sw_mx P x) : sw_mx P' x := ⟨fun n hn => hx.1 n ((h n).mpr hn), by
  rcases hx.2 with q | q
  · exact Or.inl q
  · exact Or.inr ((h x).mp q)⟩
theorem sw_lonM_0 {Sz St Ct T : Nat → Nat} {L : Nat} {zp : Int} : sw_mx (sw_lonM Sz St Ct T L zp 0) 0 := by
  refine ⟨?_, Or.inl rfl⟩
  rintro n ⟨pn, b, q, -, -, h, -⟩
  omega
theorem sw_lonQ_0 {Sz St Ct T : Nat → Nat} {L n x : Nat} {zp : Int} (h : sw_mx (sw_lonM Sz St Ct T L zp n) x) : sw_mx (sw_lonQ Sz St Ct T L zp n (n + 1)) x := sw_mx_iff (fun len => ⟨Or.inl, fun z => by
  rcases z with z | ⟨pn, q, -, -, h1, h2, -⟩
  · exact z
  · omega⟩) h
theorem sw_lonQ_e {Sz St Ct T : Nat → Nat} {L n qq x : Nat} {zp : Int} (hq : L < qq) (h : sw_mx (sw_lonQ Sz St Ct T L zp n qq) x) : sw_mx (sw_lonM Sz St Ct T L zp (n + 1)) x := sw_mx_iff (fun len => by
  constructor
  · rintro (⟨pn, b, q, h1, h2, h3, h4⟩ | ⟨pn, q, h1, h2, h3, h4, h5, h6, h7⟩)
    · exact ⟨pn, b, q, h1, h2, by omega, h4⟩
    · exact ⟨pn, n, q, h1, h2, by omega, h3, h5, h6, h7⟩
  · rintro ⟨pn, b, q, h1, h2, h3, h4, h5, h6, h7⟩
    by_cases e : b = n
    · subst e
      exact Or.inr ⟨pn, q, h1, h2, h4, by omega, h5, h6, h7⟩
    · exact Or.inl ⟨pn, b, q, h1, h2, by omega, h4, h5, h6, h7⟩) h
theorem sw_lonQ_s {Sz St Ct T : Nat → Nat} {L n qq x y pn : Nat} (hp : pn < 4) (hn : n < qq) (hq : qq ≤ L) (hy : (¬ sw_E Sz St Ct T pn n qq ∧ y = x) ∨ (sw_E Sz St Ct T pn n qq ∧ ((qq - n ≤ x ∧ y = x) ∨ (x < qq - n ∧ y = qq - n)))) (h : sw_mx (sw_lonQ Sz St Ct T L (pn : Int) n qq) x) : sw_mx (sw_lonQ Sz St Ct T L (pn : Int) n (qq + 1)) y := by
  have up : ∀ len, sw_lonQ Sz St Ct T L (pn : Int) n qq len → sw_lonQ Sz St Ct T L (pn : Int) n (qq + 1) len := by
    rintro len (z | ⟨p2, q, h1, h2, h3, h4, h5⟩)
    · exact Or.inl z
    · exact Or.inr ⟨p2, q, h1, h2, h3, by omega, h5⟩
  have dn : ∀ len, sw_lonQ Sz St Ct T L (pn : Int) n (qq + 1) len → sw_lonQ Sz St Ct T L (pn : Int) n qq len ∨ (sw_E Sz St Ct T pn n qq ∧ len = qq - n) := by
    rintro len (z | ⟨p2, q, h1, h2, h3, h4, h5, h6, h7⟩)
    · exact Or.inl (Or.inl z)
    · by_cases e : q = qq
      · subst e
        obtain rfl : pn = p2 := by omega
        exact Or.inr ⟨h6, h7⟩
      · exact Or.inl (Or.inr ⟨p2, q, h1, h2, h3, by omega, h5, h6, h7⟩)
  refine ⟨fun len hl => ?_, ?_⟩
  · rcases dn len hl with z | ⟨z1, z2⟩
    · have := h.1 len z
      omega
    · rcases hy with ⟨q, -⟩ | ⟨-, q⟩
      · exact absurd z1 q
      · omega
  · have old : x = 0 ∨ sw_lonQ Sz St Ct T L (pn : Int) n (qq + 1) x := by
      rcases h.2 with q | q
      · exact Or.inl q
      · exact Or.inr (up x q)
    rcases hy with ⟨-, rfl⟩ | ⟨hE, ⟨-, rfl⟩ | ⟨-, rfl⟩⟩
    · exact old
    · exact old
    · exact Or.inr (Or.inr ⟨pn, qq, rfl, hp, hn, by omega, hq, hE, rfl⟩)
theorem sw_lonQ_le {Sz St Ct T : Nat → Nat} {L n qq x : Nat} {zp : Int} (h : sw_mx (sw_lonQ Sz St Ct T L zp n qq) x) : x ≤ L := by
  rcases h.2 with q | ⟨pn, b, q, h1, h2, h3, h4, h5, h6, h7⟩ | ⟨pn, q, h1, h2, h3, h4, h5, h6, h7⟩ <;> omega
theorem sw_lonM_e {Sz St Ct T : Nat → Nat} {L n x : Nat} {zp : Int} (he : L ≤ n ∨ ¬ (0 ≤ zp ∧ zp < 4)) (h : sw_mx (sw_lonM Sz St Ct T L zp n) x) : sw_mx (sw_lonP Sz St Ct T zp L) x := sw_mx_iff (fun len => by
  constructor
  · rintro ⟨pn, b, q, h1, h2, h3, h4, h5, h6, h7⟩
    refine ⟨pn, b, q - 1, h1, h2, by omega, ⟨by omega, ?_⟩, by omega⟩
    rw [show q - 1 + 1 = q by omega]
    exact h6
  · rintro ⟨pn, b, t, h1, h2, h3, ⟨h4, h5⟩, h6⟩
    refine ⟨pn, b, t + 1, h1, h2, ?_, by omega, by omega, h5, h6⟩
    rcases he with he | he
    · omega
    · exact absurd (by omega) he) h
/-- completing -/
def sw_coP (Sz St Ct T : Nat → Nat) (L : Nat) (zp : Int) (s : Nat) : Prop := ∃ pn : Nat, zp = pn ∧ pn < 4 ∧ ∃ b, sw_Eb Sz St Ct (va_up T L s) pn L b
theorem sw_coP_iff {Sz St Ct T T1 : Nat → Nat} {L pn s : Nat} (hp : pn < 4) (hT : ∀ t, t < L → T1 t = T t) : sw_coP Sz St Ct T L (pn : Int) s ↔ ∃ b, sw_Eb Sz St Ct (va_up T1 L s) pn L b := by
  have e : ∀ t, t < L + 1 → va_up T1 L s t = va_up T L s t := by
    intro t ht
    by_cases q : t = L
    · rw [q, sw_us, sw_us]
    · rw [sw_un q, sw_un q]
      exact hT t (by omega)
  constructor
  · rintro ⟨p2, e1, -, b, hb⟩
    obtain rfl : pn = p2 := by omega
    exact ⟨b, (sw_Eb_congr e).mpr hb⟩
  · rintro ⟨b, hb⟩
    exact ⟨pn, rfl, hp, b, (sw_Eb_congr e).mp hb⟩
theorem sw_coR_of {Sz St Ct T : Nat → Nat} {L x sn : Nat} {zp : Int} (he : sn = 4 ∨ ¬ (0 ≤ zp ∧ zp < 4)) (h : sw_set sn (sw_coP Sz St Ct T L zp) x) : sw_coR Sz St Ct T L zp (nI x) := by
  by_cases hz : 0 ≤ zp ∧ zp < 4
  · obtain ⟨pn, rfl⟩ := Int.eq_ofNat_of_zero_le hz.1
    refine Or.inl ⟨pn, rfl, by omega, x, rfl, ?_⟩
    rcases he with rfl | he
    · intro j
      rw [h j, sw_coP_iff (by omega) (fun t _ => rfl)]
    · exact absurd hz he
  · refine Or.inr ⟨hz, ?_⟩
    have hn : ∀ j, ¬ sw_coP Sz St Ct T L zp j := by
      rintro j ⟨q, e, e2, -⟩
      exact hz (by omega)
    exact congrArg nI (sw_set_uniq (n := sn) (fun j _ => Iff.rfl) h (sw_set_none hn))
theorem sw_up_L {T T1 : Nat → Nat} {L s : Nat} (hT : ∀ t, t < L → T1 t = T t) : ∀ t, t < L → va_up T1 L s t = T t := fun t ht => by
  rw [sw_un (by omega)]
  exact hT t ht
end
section
section SWB
variable {p : Program} {l : Launch} {e : Env} {R : Room} {s : State} {m : MethodId} {args : Array Value} {below : List Frame} {meth : Method} {c : Code} {H : Heap} {locs : List Loc} {Q : State → Prop} {ls : Array Slot} {A : Nat → Prop} {H0 : Heap}
set_option maxHeartbeats 4000000 in
set_option maxRecDepth 100000 in
theorem bX1_pattern {D : va_G} {o : Nat} {ad : Nat → Nat} {kc : Nat → ClassId} {Sz : Nat → Nat} {St : Nat → Nat} {Ct : Nat → Nat} {L : Nat} {T : Nat → Nat} {fi : Nat → Nat} {mo : Nat → Nat} {zp : Int} (S : CallFix p m c cX1_pattern 2 s args lw_all RX1) (hRf : 0 ≤ R.frames) (hRl : 0 ≤ R.locals) (hK : va_K D vwCl (tyM kc) s) (hP : va_P D vwCl (wM o ad kc Sz St Ct L T fi mo) H) (hlzp : -2147483648 ≤ zp) (huzp : zp < 2147483648) (ret : ∀ (pc : Nat) (ls : Array Slot) (r : Int32), decode cX1_pattern pc = .ok (.ireturn, 1) → (sw_b (0 ≤ zp ∧ zp < 4) r) → W p l e R s m args below meth c H locs 0 0 Q (F0 m pc ls [.int r])) (hl : lv_has ls 2 [(0, .ref (o)), (1, .int (zI (zp)))]) : W p l e R s m args below meth c H locs 0 0 Q (F0 m 0 ls []) := by
  have hx := S.1
  have hb := S.2.1
  have hown := S.2.2.2.1
  have hts := S.2.2.2.2
  refine lv_iload_n hx hb dX1_pattern_0 rfl (lv_at hl 1 rfl) ?_
  refine sw_zlt (tgt := 13) hx hb dX1_pattern_1 (by decide) (zI_toInt (z := zp) (by omega) (by omega)) (fun h1 => ?_) (fun h1 => ?_)
  · refine lv_iconst (v := nI (0)) hx hb dX1_pattern_13 (by decide) ?_
    exact ret _ _ _ dX1_pattern_14 (Or.inr ⟨rfl, by omega⟩)
  · refine lv_iload_n hx hb dX1_pattern_4 rfl (lv_at hl 1 rfl) ?_
    refine lv_iconst (v := nI (3)) hx hb dX1_pattern_5 (by decide) ?_
    refine sw_dgt (tgt := 13) hx hb dX1_pattern_6 (by decide) (zI_toInt (z := zp) (by omega) (by omega)) (nI_toInt (show (3) < 2 ^ 31 by omega)) (fun h6 => ?_) (fun h6 => ?_)
    · refine lv_iconst (v := nI (0)) hx hb dX1_pattern_13 (by decide) ?_
      exact ret _ _ _ dX1_pattern_14 (Or.inr ⟨rfl, by omega⟩)
    · refine lv_iconst (v := nI (1)) hx hb dX1_pattern_9 (by decide) ?_
      refine lv_goto (tgt := 14) hx hb dX1_pattern_10 (by decide) ?_
      exact ret _ _ _ dX1_pattern_14 (Or.inl ⟨rfl, by omega⟩)
set_option maxRecDepth 100000 in
theorem mX1_pattern (l : Launch) {D : va_G} {o : Nat} {ad : Nat → Nat} {kc : Nat → ClassId} {Sz : Nat → Nat} {St : Nat → Nat} {Ct : Nat → Nat} {L : Nat} {T : Nat → Nat} {fi : Nat → Nat} {mo : Nat → Nat} {zp : Int} (hlzp : -2147483648 ≤ zp) (huzp : zp < 2147483648) : Met l yX1_pattern (ws_ yX1_pattern cX1_pattern 2 (some .boolean)) ({ frames := 0, cells := 0, slots := 0, locals := 0 }) (sw_R D vwCl (wM o ad kc Sz St Ct L T fi mo) (tyM kc) [.ref o, .int (zI (zp))]) (vp_Si (sw_b (0 ≤ zp ∧ zp < 4))) 0 0 (fun _ => False) := sw_metRz (by decide) (Nat.le_of_ble_eq_true rfl) (fun p e s m below meth c Q ls S hK hP hl ret => bX1_pattern S (Nat.le_refl _) (Nat.le_refl _) hK hP hlzp huzp ret hl)
set_option maxHeartbeats 4000000 in
set_option maxRecDepth 100000 in
theorem bX1_taken {D : va_G} {o : Nat} {ad : Nat → Nat} {kc : Nat → ClassId} {Sz : Nat → Nat} {St : Nat → Nat} {Ct : Nat → Nat} {L : Nat} {T : Nat → Nat} {fi : Nat → Nat} {mo : Nat → Nat} (S : CallFix p m c cX1_taken 1 s args lw_all RX1) (hRf : 0 ≤ R.frames) (hRl : 0 ≤ R.locals) (hK : va_K D vwCl (tyM kc) s) (hP : va_P D vwCl (wM o ad kc Sz St Ct L T fi mo) H) (ret : ∀ (pc : Nat) (ls : Array Slot) (r : Int32), decode cX1_taken pc = .ok (.ireturn, 1) → (r = nI L) → W p l e R s m args below meth c H locs 0 0 Q (F0 m pc ls [.int r])) (hl : lv_has ls 1 [(0, .ref (o))]) : W p l e R s m args below meth c H locs 0 0 Q (F0 m 0 ls []) := by
  have hx := S.1
  have hb := S.2.1
  have hown := S.2.2.2.1
  have hts := S.2.2.2.2
  refine lv_aload_n hx hb dX1_taken_0 rfl (lv_at hl 0 rfl) ?_
  refine va_get (D := D) (ci := 1) (v := .int (nI (L))) (C := RX1) (T := TX1) (N := 7) hx hb hts in_X1 hown hK hP 0 rfl rfl 3 (by decide) (hts _ q210) (fun _ h9 => h9) rfl dX1_taken_1 ?_
  exact ret _ _ _ dX1_taken_4 (rfl)
set_option maxRecDepth 100000 in
theorem mX1_taken (l : Launch) {D : va_G} {o : Nat} {ad : Nat → Nat} {kc : Nat → ClassId} {Sz : Nat → Nat} {St : Nat → Nat} {Ct : Nat → Nat} {L : Nat} {T : Nat → Nat} {fi : Nat → Nat} {mo : Nat → Nat}  : Met l yX1_taken (ws_ yX1_taken cX1_taken 1 (some .int)) ({ frames := 0, cells := 0, slots := 0, locals := 0 }) (sw_R D vwCl (wM o ad kc Sz St Ct L T fi mo) (tyM kc) [.ref o]) (vp_Si (fun r => r = nI L)) 0 0 (fun _ => False) := sw_metR (by decide) (Nat.le_of_ble_eq_true rfl) (fun p e s m below meth c Q ls S hK hP hl ret => bX1_taken S (Nat.le_refl _) (Nat.le_refl _) hK hP  ret hl)
set_option maxHeartbeats 4000000 in
set_option maxRecDepth 100000 in
theorem bX1_items {D : va_G} {o : Nat} {ad : Nat → Nat} {kc : Nat → ClassId} {Sz : Nat → Nat} {St : Nat → Nat} {Ct : Nat → Nat} {L : Nat} {T : Nat → Nat} {fi : Nat → Nat} {mo : Nat → Nat} {zp : Int} (S : CallFix p m c cX1_items 2 s args lw_all RX1) (hRf : 1 ≤ R.frames) (hRl : 21 ≤ R.locals) (hK : va_K D vwCl (tyM kc) s) (hP : va_P D vwCl (wM o ad kc Sz St Ct L T fi mo) H) (hlzp : -2147483648 ≤ zp) (huzp : zp < 2147483648) (ret : ∀ (pc : Nat) (ls : Array Slot) (r : Int32), decode cX1_items pc = .ok (.ireturn, 1) → ((∃ pn : Nat, zp = pn ∧ pn < 4 ∧ r = nI (Sz pn)) ∨ (¬ (0 ≤ zp ∧ zp < 4) ∧ r = zI (-1))) → W p l e R s m args below meth c H locs 0 0 Q (F0 m pc ls [.int r])) (hl : lv_has ls 2 [(0, .ref (o)), (1, .int (zI (zp)))]) : W p l e R s m args below meth c H locs 0 0 Q (F0 m 0 ls []) := by
  have hx := S.1
  have hb := S.2.1
  have hown := S.2.2.2.1
  have hts := S.2.2.2.2
  refine lv_aload_n hx hb dX1_items_0 rfl (lv_at hl 0 rfl) ?_
  refine lv_iload_n hx hb dX1_items_1 rfl (lv_at hl 1 rfl) ?_
  refine sw_cvR (As := [.int (zI (zp))]) (rest := []) (C := RX1) (ci := 1) (q0 := 0) S (mX1_pattern l hlzp huzp) (cwV 1 hts (lw_V q234 q236 qs14 q21 q237) rfl rfl rfl (by decide +kernel) ⟨Nat.le_trans (Nat.le_of_ble_eq_true rfl) hRf, Nat.le_trans (Nat.le_of_ble_eq_true rfl) hRl⟩) hK hP rfl rfl rfl rfl hl.1 rfl (Nat.le_of_ble_eq_true rfl) dX1_items_2 ⟨Nat.zero_le _, Nat.zero_le _⟩ (fun r hr => ?_)
  rcases hr with ⟨rfl, hr2⟩ | ⟨rfl, hr2⟩
  · obtain ⟨pn, rfl⟩ := Int.eq_ofNat_of_zero_le hr2.1
    have hl : lv_has ls 2 [(0, .ref (o)), (1, .int (nI (pn)))] := by rw [show zI ((pn : Int)) = nI (pn) from zI_n pn] at hl; exact hl
    refine sw_ifeq (tgt := 17) hx hb dX1_items_5 (by decide) (by decide) (fun q => absurd q (by decide)) (fun _ => ?_)
    refine lv_aload_n hx hb dX1_items_8 rfl (lv_at hl 0 rfl) ?_
    refine va_get (D := D) (ci := 1) (v := .ref (ad 0)) (C := RX1) (T := TX1) (N := 7) hx hb hts in_X1 hown hK hP 0 rfl rfl 0 (by decide) (hts _ q207) (fun _ h9 => h9) rfl dX1_items_9 ?_
    refine lv_iload_n hx hb dX1_items_12 rfl (lv_at hl 1 rfl) ?_
    refine sw_ild hx hb hK hP 1 0 rfl rfl (by omega) (by decide) (v := nI (Sz pn)) rfl dX1_items_13 ?_
    refine lv_goto (tgt := 18) hx hb dX1_items_14 (by decide) ?_
    exact ret _ _ _ dX1_items_18 (Or.inl ⟨pn, rfl, by omega, rfl⟩)
  · refine sw_ifeq (tgt := 17) hx hb dX1_items_5 (by decide) (by decide) (fun _ => ?_) (fun q => absurd rfl q)
    refine lv_iconst (v := zI (-1)) hx hb dX1_items_17 (by decide) ?_
    exact ret _ _ _ dX1_items_18 (Or.inr ⟨hr2, rfl⟩)
set_option maxRecDepth 100000 in
theorem mX1_items (l : Launch) {D : va_G} {o : Nat} {ad : Nat → Nat} {kc : Nat → ClassId} {Sz : Nat → Nat} {St : Nat → Nat} {Ct : Nat → Nat} {L : Nat} {T : Nat → Nat} {fi : Nat → Nat} {mo : Nat → Nat} {zp : Int} (hlzp : -2147483648 ≤ zp) (huzp : zp < 2147483648) : Met l yX1_items (ws_ yX1_items cX1_items 2 (some .int)) ({ frames := 1, cells := 0, slots := 0, locals := 21 }) (sw_R D vwCl (wM o ad kc Sz St Ct L T fi mo) (tyM kc) [.ref o, .int (zI (zp))]) (vp_Si (fun r => (∃ pn : Nat, zp = pn ∧ pn < 4 ∧ r = nI (Sz pn)) ∨ (¬ (0 ≤ zp ∧ zp < 4) ∧ r = zI (-1)))) 0 0 (fun _ => False) := sw_metR (by decide) (Nat.le_of_ble_eq_true rfl) (fun p e s m below meth c Q ls S hK hP hl ret => bX1_items S (Nat.le_refl _) (Nat.le_refl _) hK hP hlzp huzp ret hl)
set_option maxHeartbeats 4000000 in
set_option maxRecDepth 100000 in
theorem bX1_allows {D : va_G} {o : Nat} {ad : Nat → Nat} {kc : Nat → ClassId} {Sz : Nat → Nat} {St : Nat → Nat} {Ct : Nat → Nat} {L : Nat} {T : Nat → Nat} {fi : Nat → Nat} {mo : Nat → Nat} {cn : Nat} {ln : Nat} (S : CallFix p m c cX1_allows 3 s args lw_all RX1) (hRf : 0 ≤ R.frames) (hRl : 0 ≤ R.locals) (hK : va_K D vwCl (tyM kc) s) (hP : va_P D vwCl (wM o ad kc Sz St Ct L T fi mo) H) (hcn : cn ≤ 3) (hln : ln < 2147483648) (ret : ∀ (pc : Nat) (ls : Array Slot) (r : Int32), decode cX1_allows pc = .ok (.ireturn, 1) → (sw_b (sw_alw cn ln) r) → W p l e R s m args below meth c H locs 0 0 Q (F0 m pc ls [.int r])) (hl : lv_has ls 3 [(0, .ref (o)), (1, .int (nI (cn))), (2, .int (nI (ln)))]) : W p l e R s m args below meth c H locs 0 0 Q (F0 m 0 ls []) := by
  have hx := S.1
  have hb := S.2.1
  have hown := S.2.2.2.1
  have hts := S.2.2.2.2
  refine lv_iload_n hx hb dX1_allows_0 rfl (lv_at hl 1 rfl) ?_
  refine sw_ifne (tgt := 17) hx hb dX1_allows_1 (by decide) (by omega) (fun h1 => ?_) (fun h1 => ?_)
  · refine lv_iload_n hx hb dX1_allows_17 rfl (lv_at hl 1 rfl) ?_
    refine lv_iconst (v := nI (1)) hx hb dX1_allows_18 (by decide) ?_
    refine sw_cne (tgt := 35) hx hb dX1_allows_19 (by decide) (by omega) (by omega) (fun h19 => ?_) (fun h19 => ?_)
    · refine lv_iload_n hx hb dX1_allows_35 rfl (lv_at hl 1 rfl) ?_
      refine lv_iconst (v := nI (2)) hx hb dX1_allows_36 (by decide) ?_
      refine sw_ceq (tgt := 45) hx hb dX1_allows_37 (by decide) (by omega) (by omega) (fun h37 => ?_) (fun h37 => ?_)
      · refine lv_iconst (v := nI (1)) hx hb dX1_allows_45 (by decide) ?_
        refine lv_goto (tgt := 50) hx hb dX1_allows_46 (by decide) ?_
        exact ret _ _ _ dX1_allows_50 (Or.inl ⟨rfl, by unfold sw_alw; omega⟩)
      · refine lv_iload_n hx hb dX1_allows_40 rfl (lv_at hl 2 rfl) ?_
        refine lv_iconst (v := nI (1)) hx hb dX1_allows_41 (by decide) ?_
        refine sw_clt (tgt := 49) hx hb dX1_allows_42 (by decide) (by omega) (by omega) (fun h42 => ?_) (fun h42 => ?_)
        · refine lv_iconst (v := nI (0)) hx hb dX1_allows_49 (by decide) ?_
          exact ret _ _ _ dX1_allows_50 (Or.inr ⟨rfl, by unfold sw_alw; omega⟩)
        · refine lv_iconst (v := nI (1)) hx hb dX1_allows_45 (by decide) ?_
          refine lv_goto (tgt := 50) hx hb dX1_allows_46 (by decide) ?_
          exact ret _ _ _ dX1_allows_50 (Or.inl ⟨rfl, by unfold sw_alw; omega⟩)
    · refine lv_iload_n hx hb dX1_allows_22 rfl (lv_at hl 2 rfl) ?_
      refine lv_iconst (v := nI (1)) hx hb dX1_allows_23 (by decide) ?_
      refine sw_cgt (tgt := 31) hx hb dX1_allows_24 (by decide) (by omega) (by omega) (fun h24 => ?_) (fun h24 => ?_)
      · refine lv_iconst (v := nI (0)) hx hb dX1_allows_31 (by decide) ?_
        refine lv_goto (tgt := 50) hx hb dX1_allows_32 (by decide) ?_
        exact ret _ _ _ dX1_allows_50 (Or.inr ⟨rfl, by unfold sw_alw; omega⟩)
      · refine lv_iconst (v := nI (1)) hx hb dX1_allows_27 (by decide) ?_
        refine lv_goto (tgt := 50) hx hb dX1_allows_28 (by decide) ?_
        exact ret _ _ _ dX1_allows_50 (Or.inl ⟨rfl, by unfold sw_alw; omega⟩)
  · refine lv_iload_n hx hb dX1_allows_4 rfl (lv_at hl 2 rfl) ?_
    refine lv_iconst (v := nI (1)) hx hb dX1_allows_5 (by decide) ?_
    refine sw_cne (tgt := 13) hx hb dX1_allows_6 (by decide) (by omega) (by omega) (fun h6 => ?_) (fun h6 => ?_)
    · refine lv_iconst (v := nI (0)) hx hb dX1_allows_13 (by decide) ?_
      refine lv_goto (tgt := 50) hx hb dX1_allows_14 (by decide) ?_
      exact ret _ _ _ dX1_allows_50 (Or.inr ⟨rfl, by unfold sw_alw; omega⟩)
    · refine lv_iconst (v := nI (1)) hx hb dX1_allows_9 (by decide) ?_
      refine lv_goto (tgt := 50) hx hb dX1_allows_10 (by decide) ?_
      exact ret _ _ _ dX1_allows_50 (Or.inl ⟨rfl, by unfold sw_alw; omega⟩)
set_option maxRecDepth 100000 in
theorem mX1_allows (l : Launch) {D : va_G} {o : Nat} {ad : Nat → Nat} {kc : Nat → ClassId} {Sz : Nat → Nat} {St : Nat → Nat} {Ct : Nat → Nat} {L : Nat} {T : Nat → Nat} {fi : Nat → Nat} {mo : Nat → Nat} {cn : Nat} {ln : Nat} (hcn : cn ≤ 3) (hln : ln < 2147483648) : Met l yX1_allows (ws_ yX1_allows cX1_allows 3 (some .boolean)) ({ frames := 0, cells := 0, slots := 0, locals := 0 }) (sw_R D vwCl (wM o ad kc Sz St Ct L T fi mo) (tyM kc) [.ref o, .int (nI (cn)), .int (nI (ln))]) (vp_Si (sw_b (sw_alw cn ln))) 0 0 (fun _ => False) := sw_metRz (by decide) (Nat.le_of_ble_eq_true rfl) (fun p e s m below meth c Q ls S hK hP hl ret => bX1_allows S (Nat.le_refl _) (Nat.le_refl _) hK hP hcn hln ret hl)
set_option maxHeartbeats 4000000 in
set_option maxRecDepth 100000 in
theorem bX1_item {D : va_G} {o : Nat} {ad : Nat → Nat} {kc : Nat → ClassId} {Sz : Nat → Nat} {St : Nat → Nat} {Ct : Nat → Nat} {L : Nat} {T : Nat → Nat} {fi : Nat → Nat} {mo : Nat → Nat} {zp : Int} {zs : Int} {zc : Int} (S : CallFix p m c cX1_item 4 s args lw_all RX1) (hRf : 1 ≤ R.frames) (hRl : 21 ≤ R.locals) (hK : va_K D vwCl (tyM kc) s) (hP : va_P D vwCl (wM o ad kc Sz St Ct L T fi mo) H) (hD : va_D A (wM o ad kc Sz St Ct L T fi mo)) (hS : va_S A H0 H locs) (hA : ∀ q, H0.size ≤ q → A q) (hlzp : -2147483648 ≤ zp) (huzp : zp < 2147483648) (hlzs : -2147483648 ≤ zs) (huzs : zs < 2147483648) (hlzc : -2147483648 ≤ zc) (huzc : zc < 2147483648) (hO : sw_Ok Sz St Ct T L) (ret : ∀ (pc : Nat) (ls : Array Slot) (r : Int32) (u : (Nat → Nat) × (Nat → Nat) × (Nat → Nat)) (H1 : Heap) (locs1 : List Loc), decode cX1_item pc = .ok (.ireturn, 1) → (sw_itm zp zs zc Sz St Ct r u.1 u.2.1 u.2.2) → va_P D vwCl ((fun u : (Nat → Nat) × (Nat → Nat) × (Nat → Nat) => wM o ad kc (u.1) (u.2.1) (u.2.2) L T fi mo) u) H1 → va_D A ((fun u : (Nat → Nat) × (Nat → Nat) × (Nat → Nat) => wM o ad kc (u.1) (u.2.1) (u.2.2) L T fi mo) u) → va_S A H0 H1 locs1 → W p l e R s m args below meth c H1 locs1 0 0 Q (F0 m pc ls [.int r])) (hl : lv_has ls 4 [(0, .ref (o)), (1, .int (zI (zp))), (2, .int (zI (zs))), (3, .int (zI (zc)))]) : W p l e R s m args below meth c H locs 0 0 Q (F0 m 0 ls []) := by
  have hx := S.1
  have hb := S.2.1
  have hown := S.2.2.2.1
  have hts := S.2.2.2.2
  obtain ⟨hs, ht, hc, hT, hL⟩ := hO
  refine lv_aload_n hx hb dX1_item_0 rfl (lv_at hl 0 rfl) ?_
  refine lv_iload_n hx hb dX1_item_1 rfl (lv_at hl 1 rfl) ?_
  refine sw_cvR (As := [.int (zI (zp))]) (rest := []) (C := RX1) (ci := 1) (q0 := 0) S (mX1_pattern l hlzp huzp) (cwV 1 hts (lw_V q234 q236 qs14 q21 q237) rfl rfl rfl (by decide +kernel) ⟨Nat.le_trans (Nat.le_of_ble_eq_true rfl) hRf, Nat.le_trans (Nat.le_of_ble_eq_true rfl) hRl⟩) hK hP rfl rfl rfl rfl hl.1 rfl (Nat.le_of_ble_eq_true rfl) dX1_item_2 ⟨Nat.zero_le _, Nat.zero_le _⟩ (fun r hr => ?_)
  rcases hr with ⟨rfl, hr2⟩ | ⟨rfl, hr2⟩
  · refine sw_ifeq (tgt := 28) hx hb dX1_item_5 (by decide) (by decide) (fun q => absurd q (by decide)) (fun _ => ?_)
    refine lv_iload_n hx hb dX1_item_8 rfl (lv_at hl 2 rfl) ?_
    refine lv_iconst (v := nI (1)) hx hb dX1_item_9 (by decide) ?_
    refine sw_dlt (tgt := 28) hx hb dX1_item_10 (by decide) (zI_toInt (z := zs) (by omega) (by omega)) (nI_toInt (show (1) < 2 ^ 31 by omega)) (fun h10 => ?_) (fun h10 => ?_)
    · refine lv_iconst (v := zI (-1)) hx hb dX1_item_28 (by decide) ?_
      exact ret _ _ _ (Sz, St, Ct) _ _ dX1_item_29 (Or.inl ⟨by omega, rfl, rfl, rfl, rfl⟩) hP hD hS
    · refine lv_iload_n hx hb dX1_item_13 rfl (lv_at hl 2 rfl) ?_
      refine lv_bipush (v := nI (15)) hx hb dX1_item_14 (by decide) ?_
      refine sw_dgt (tgt := 28) hx hb dX1_item_16 (by decide) (zI_toInt (z := zs) (by omega) (by omega)) (nI_toInt (show (15) < 2 ^ 31 by omega)) (fun h16 => ?_) (fun h16 => ?_)
      · refine lv_iconst (v := zI (-1)) hx hb dX1_item_28 (by decide) ?_
        exact ret _ _ _ (Sz, St, Ct) _ _ dX1_item_29 (Or.inl ⟨by omega, rfl, rfl, rfl, rfl⟩) hP hD hS
      · refine lv_iload_n hx hb dX1_item_19 rfl (lv_at hl 3 rfl) ?_
        refine sw_zlt (tgt := 28) hx hb dX1_item_20 (by decide) (zI_toInt (z := zc) (by omega) (by omega)) (fun h20 => ?_) (fun h20 => ?_)
        · refine lv_iconst (v := zI (-1)) hx hb dX1_item_28 (by decide) ?_
          exact ret _ _ _ (Sz, St, Ct) _ _ dX1_item_29 (Or.inl ⟨by omega, rfl, rfl, rfl, rfl⟩) hP hD hS
        · refine lv_iload_n hx hb dX1_item_23 rfl (lv_at hl 3 rfl) ?_
          refine lv_iconst (v := nI (3)) hx hb dX1_item_24 (by decide) ?_
          refine sw_dle (tgt := 30) hx hb dX1_item_25 (by decide) (zI_toInt (z := zc) (by omega) (by omega)) (nI_toInt (show (3) < 2 ^ 31 by omega)) (fun h25 => ?_) (fun h25 => ?_)
          · obtain ⟨pn, rfl⟩ := Int.eq_ofNat_of_zero_le hr2.1
            have hl : lv_has ls 4 [(0, .ref (o)), (1, .int (nI (pn))), (2, .int (zI (zs))), (3, .int (zI (zc)))] := by rw [show zI ((pn : Int)) = nI (pn) from zI_n pn] at hl; exact hl
            obtain ⟨sn, rfl⟩ := Int.eq_ofNat_of_zero_le (show 0 ≤ zs by omega)
            have hl : lv_has ls 4 [(0, .ref (o)), (1, .int (nI (pn))), (2, .int (nI (sn))), (3, .int (zI (zc)))] := by rw [show zI ((sn : Int)) = nI (sn) from zI_n sn] at hl; exact hl
            obtain ⟨cn, rfl⟩ := Int.eq_ofNat_of_zero_le h20
            have hl : lv_has ls 4 [(0, .ref (o)), (1, .int (nI (pn))), (2, .int (nI (sn))), (3, .int (nI (cn)))] := by rw [show zI ((cn : Int)) = nI (cn) from zI_n cn] at hl; exact hl
            have hsp := hs pn
            refine lv_aload_n hx hb dX1_item_30 rfl (lv_at hl 0 rfl) ?_
            refine va_get (D := D) (ci := 1) (v := .ref (ad 0)) (C := RX1) (T := TX1) (N := 7) hx hb hts in_X1 hown hK hP 0 rfl rfl 0 (by decide) (hts _ q207) (fun _ h9 => h9) rfl dX1_item_31 ?_
            refine lv_iload_n hx hb dX1_item_34 rfl (lv_at hl 1 rfl) ?_
            refine sw_ild hx hb hK hP 1 0 rfl rfl (by omega) (by decide) (v := nI (Sz pn)) rfl dX1_item_35 ?_
            refine lv_bipush (v := nI (6)) hx hb dX1_item_36 (by decide) ?_
            refine sw_clt (tgt := 44) hx hb dX1_item_38 (by decide) (by omega) (by omega) (fun h38 => ?_) (fun h38 => ?_)
            · refine lv_aload_n hx hb dX1_item_44 rfl (lv_at hl 0 rfl) ?_
              refine va_get (D := D) (ci := 1) (v := .ref (ad 1)) (C := RX1) (T := TX1) (N := 7) hx hb hts in_X1 hown hK hP 0 rfl rfl 1 (by decide) (hts _ q208) (fun _ h9 => h9) rfl dX1_item_45 ?_
              refine lv_bipush (v := nI (6)) hx hb dX1_item_48 (by decide) ?_
              refine lv_iload_n hx hb dX1_item_50 rfl (lv_at hl 1 rfl) ?_
              refine sw_mul hx hb dX1_item_51 ?_
              refine lv_aload_n hx hb dX1_item_52 rfl (lv_at hl 0 rfl) ?_
              refine va_get (D := D) (ci := 1) (v := .ref (ad 0)) (C := RX1) (T := TX1) (N := 7) hx hb hts in_X1 hown hK hP 0 rfl rfl 0 (by decide) (hts _ q207) (fun _ h9 => h9) rfl dX1_item_53 ?_
              refine lv_iload_n hx hb dX1_item_56 rfl (lv_at hl 1 rfl) ?_
              refine sw_ild hx hb hK hP 1 0 rfl rfl (by omega) (by decide) (v := nI (Sz pn)) rfl dX1_item_57 ?_
              refine sw_add hx hb dX1_item_58 ?_
              refine sw_top (y := nI ((pn * 6 + Sz pn))) (congrArg nI (by omega)) ?_
              refine lv_iload_n hx hb dX1_item_59 rfl (lv_at hl 2 rfl) ?_
              refine sw_ist hx hb hK hP hD hS 2 1 rfl rfl (by omega) (by decide) rfl (sw_updN _ _ _) dX1_item_60 (fun H locs hP hD hS => ?_)
              have hP : va_P D vwCl (wM o ad kc Sz (va_up St ((pn * 6 + Sz pn)) sn) Ct L T fi mo) H := hP
              have hD : va_D A (wM o ad kc Sz (va_up St ((pn * 6 + Sz pn)) sn) Ct L T fi mo) := hD
              refine lv_aload_n hx hb dX1_item_61 rfl (lv_at hl 0 rfl) ?_
              refine va_get (D := D) (ci := 1) (v := .ref (ad 2)) (C := RX1) (T := TX1) (N := 7) hx hb hts in_X1 hown hK hP 0 rfl rfl 2 (by decide) (hts _ q209) (fun _ h9 => h9) rfl dX1_item_62 ?_
              refine lv_bipush (v := nI (6)) hx hb dX1_item_65 (by decide) ?_
              refine lv_iload_n hx hb dX1_item_67 rfl (lv_at hl 1 rfl) ?_
              refine sw_mul hx hb dX1_item_68 ?_
              refine lv_aload_n hx hb dX1_item_69 rfl (lv_at hl 0 rfl) ?_
              refine va_get (D := D) (ci := 1) (v := .ref (ad 0)) (C := RX1) (T := TX1) (N := 7) hx hb hts in_X1 hown hK hP 0 rfl rfl 0 (by decide) (hts _ q207) (fun _ h9 => h9) rfl dX1_item_70 ?_
              refine lv_iload_n hx hb dX1_item_73 rfl (lv_at hl 1 rfl) ?_
              refine sw_ild hx hb hK hP 1 0 rfl rfl (by omega) (by decide) (v := nI (Sz pn)) rfl dX1_item_74 ?_
              refine sw_add hx hb dX1_item_75 ?_
              refine sw_top (y := nI ((pn * 6 + Sz pn))) (congrArg nI (by omega)) ?_
              refine lv_iload_n hx hb dX1_item_76 rfl (lv_at hl 3 rfl) ?_
              refine sw_ist hx hb hK hP hD hS 3 2 rfl rfl (by omega) (by decide) rfl (sw_updN _ _ _) dX1_item_77 (fun H locs hP hD hS => ?_)
              have hP : va_P D vwCl (wM o ad kc Sz (va_up St ((pn * 6 + Sz pn)) sn) (va_up Ct ((pn * 6 + Sz pn)) cn) L T fi mo) H := hP
              have hD : va_D A (wM o ad kc Sz (va_up St ((pn * 6 + Sz pn)) sn) (va_up Ct ((pn * 6 + Sz pn)) cn) L T fi mo) := hD
              refine lv_aload_n hx hb dX1_item_78 rfl (lv_at hl 0 rfl) ?_
              refine va_get (D := D) (ci := 1) (v := .ref (ad 0)) (C := RX1) (T := TX1) (N := 7) hx hb hts in_X1 hown hK hP 0 rfl rfl 0 (by decide) (hts _ q207) (fun _ h9 => h9) rfl dX1_item_79 ?_
              refine lv_iload_n hx hb dX1_item_82 rfl (lv_at hl 1 rfl) ?_
              refine lv_dup2_11 hx hb dX1_item_83 rfl rfl ?_
              refine sw_ild hx hb hK hP 1 0 rfl rfl (by omega) (by decide) (v := nI (Sz pn)) rfl dX1_item_84 ?_
              refine lv_iconst (v := nI (1)) hx hb dX1_item_85 (by decide) ?_
              refine sw_add hx hb dX1_item_86 ?_
              refine sw_ist hx hb hK hP hD hS 1 0 rfl rfl (by omega) (by decide) rfl (sw_updN _ _ _) dX1_item_87 (fun H locs hP hD hS => ?_)
              have hP : va_P D vwCl (wM o ad kc (va_up Sz pn ((Sz pn) + 1)) (va_up St ((pn * 6 + Sz pn)) sn) (va_up Ct ((pn * 6 + Sz pn)) cn) L T fi mo) H := hP
              have hD : va_D A (wM o ad kc (va_up Sz pn ((Sz pn) + 1)) (va_up St ((pn * 6 + Sz pn)) sn) (va_up Ct ((pn * 6 + Sz pn)) cn) L T fi mo) := hD
              refine lv_aload_n hx hb dX1_item_88 rfl (lv_at hl 0 rfl) ?_
              refine va_get (D := D) (ci := 1) (v := .ref (ad 0)) (C := RX1) (T := TX1) (N := 7) hx hb hts in_X1 hown hK hP 0 rfl rfl 0 (by decide) (hts _ q207) (fun _ h9 => h9) rfl dX1_item_89 ?_
              refine lv_iload_n hx hb dX1_item_92 rfl (lv_at hl 1 rfl) ?_
              refine sw_ild hx hb hK hP 1 0 rfl rfl (by omega) (by decide) (v := nI ((va_up Sz pn ((Sz pn) + 1)) pn)) rfl dX1_item_93 ?_
              refine sw_top (y := nI ((Sz pn + 1))) (congrArg nI (sw_us _ _ _)) ?_
              exact ret _ _ _ (va_up Sz pn ((Sz pn) + 1), va_up St ((pn * 6 + Sz pn)) sn, va_up Ct ((pn * 6 + Sz pn)) cn) _ _ dX1_item_94 (Or.inr ⟨pn, sn, cn, rfl, rfl, rfl, by omega, by omega, by omega, by omega, Or.inr ⟨h38, rfl, rfl, rfl, rfl⟩⟩) hP hD hS
            · refine lv_bipush (v := zI (-2)) hx hb dX1_item_41 (by decide) ?_
              exact ret _ _ _ (Sz, St, Ct) _ _ dX1_item_43 (Or.inr ⟨pn, sn, cn, rfl, rfl, rfl, by omega, by omega, by omega, by omega, Or.inl ⟨h38, rfl, rfl, rfl, rfl⟩⟩) hP hD hS
          · refine lv_iconst (v := zI (-1)) hx hb dX1_item_28 (by decide) ?_
            exact ret _ _ _ (Sz, St, Ct) _ _ dX1_item_29 (Or.inl ⟨by omega, rfl, rfl, rfl, rfl⟩) hP hD hS
  · refine sw_ifeq (tgt := 28) hx hb dX1_item_5 (by decide) (by decide) (fun _ => ?_) (fun q => absurd rfl q)
    refine lv_iconst (v := zI (-1)) hx hb dX1_item_28 (by decide) ?_
    exact ret _ _ _ (Sz, St, Ct) _ _ dX1_item_29 (Or.inl ⟨by omega, rfl, rfl, rfl, rfl⟩) hP hD hS
set_option maxRecDepth 100000 in
theorem mX1_item (l : Launch) {D : va_G} {o : Nat} {ad : Nat → Nat} {kc : Nat → ClassId} {Sz : Nat → Nat} {St : Nat → Nat} {Ct : Nat → Nat} {L : Nat} {T : Nat → Nat} {fi : Nat → Nat} {mo : Nat → Nat} {zp : Int} {zs : Int} {zc : Int} (hlzp : -2147483648 ≤ zp) (huzp : zp < 2147483648) (hlzs : -2147483648 ≤ zs) (huzs : zs < 2147483648) (hlzc : -2147483648 ≤ zc) (huzc : zc < 2147483648) (hO : sw_Ok Sz St Ct T L) (sz : Nat) : Met l yX1_item (ws_ yX1_item cX1_item 4 (some .int)) ({ frames := 1, cells := 0, slots := 0, locals := 21 }) (sw_M D vwCl (wM o ad kc Sz St Ct L T fi mo) (tyM kc) sz [.ref o, .int (zI (zp)), .int (zI (zs)), .int (zI (zc))]) (va_Qi (fun (r : Int32) (u : (Nat → Nat) × (Nat → Nat) × (Nat → Nat)) => sw_itm zp zs zc Sz St Ct r u.1 u.2.1 u.2.2) (sw_B D vwCl (tyM kc) (va_A (wM o ad kc Sz St Ct L T fi mo) sz) (fun u : (Nat → Nat) × (Nat → Nat) × (Nat → Nat) => wM o ad kc (u.1) (u.2.1) (u.2.2) L T fi mo)) (va_A (wM o ad kc Sz St Ct L T fi mo) sz)) 0 0 (va_A (wM o ad kc Sz St Ct L T fi mo) sz) := sw_metI (by decide) (Nat.le_of_ble_eq_true rfl) (fun p e s m below meth c Q ls A S hK hP hD hA hl ret => bX1_item S (Nat.le_refl _) (Nat.le_refl _) hK hP hD va_S.rf hA hlzp huzp hlzs huzs hlzc huzc hO ret hl) sz
set_option maxHeartbeats 4000000 in
set_option maxRecDepth 100000 in
theorem bX1_drop {D : va_G} {o : Nat} {ad : Nat → Nat} {kc : Nat → ClassId} {Sz : Nat → Nat} {St : Nat → Nat} {Ct : Nat → Nat} {L : Nat} {T : Nat → Nat} {fi : Nat → Nat} {mo : Nat → Nat} {zp : Int} (S : CallFix p m c cX1_drop 2 s args lw_all RX1) (hRf : 1 ≤ R.frames) (hRl : 21 ≤ R.locals) (hK : va_K D vwCl (tyM kc) s) (hP : va_P D vwCl (wM o ad kc Sz St Ct L T fi mo) H) (hD : va_D A (wM o ad kc Sz St Ct L T fi mo)) (hS : va_S A H0 H locs) (hA : ∀ q, H0.size ≤ q → A q) (hlzp : -2147483648 ≤ zp) (huzp : zp < 2147483648) (hO : sw_Ok Sz St Ct T L) (ret : ∀ (pc : Nat) (ls : Array Slot) (r : Int32) (u : (Nat → Nat)) (H1 : Heap) (locs1 : List Loc), decode cX1_drop pc = .ok (.ireturn, 1) → (sw_drp zp Sz r u) → va_P D vwCl ((fun u : (Nat → Nat) => wM o ad kc u St Ct L T fi mo) u) H1 → va_D A ((fun u : (Nat → Nat) => wM o ad kc u St Ct L T fi mo) u) → va_S A H0 H1 locs1 → W p l e R s m args below meth c H1 locs1 0 0 Q (F0 m pc ls [.int r])) (hl : lv_has ls 2 [(0, .ref (o)), (1, .int (zI (zp)))]) : W p l e R s m args below meth c H locs 0 0 Q (F0 m 0 ls []) := by
  have hx := S.1
  have hb := S.2.1
  have hown := S.2.2.2.1
  have hts := S.2.2.2.2
  obtain ⟨hs, ht, hc, hT, hL⟩ := hO
  refine lv_aload_n hx hb dX1_drop_0 rfl (lv_at hl 0 rfl) ?_
  refine lv_iload_n hx hb dX1_drop_1 rfl (lv_at hl 1 rfl) ?_
  refine sw_cvR (As := [.int (zI (zp))]) (rest := []) (C := RX1) (ci := 1) (q0 := 0) S (mX1_pattern l hlzp huzp) (cwV 1 hts (lw_V q234 q236 qs14 q21 q237) rfl rfl rfl (by decide +kernel) ⟨Nat.le_trans (Nat.le_of_ble_eq_true rfl) hRf, Nat.le_trans (Nat.le_of_ble_eq_true rfl) hRl⟩) hK hP rfl rfl rfl rfl hl.1 rfl (Nat.le_of_ble_eq_true rfl) dX1_drop_2 ⟨Nat.zero_le _, Nat.zero_le _⟩ (fun r hr => ?_)
  rcases hr with ⟨rfl, hr2⟩ | ⟨rfl, hr2⟩
  · obtain ⟨pn, rfl⟩ := Int.eq_ofNat_of_zero_le hr2.1
    have hl : lv_has ls 2 [(0, .ref (o)), (1, .int (nI (pn)))] := by rw [show zI ((pn : Int)) = nI (pn) from zI_n pn] at hl; exact hl
    have hsp := hs pn
    refine sw_ifeq (tgt := 17) hx hb dX1_drop_5 (by decide) (by decide) (fun q => absurd q (by decide)) (fun _ => ?_)
    refine lv_aload_n hx hb dX1_drop_8 rfl (lv_at hl 0 rfl) ?_
    refine va_get (D := D) (ci := 1) (v := .ref (ad 0)) (C := RX1) (T := TX1) (N := 7) hx hb hts in_X1 hown hK hP 0 rfl rfl 0 (by decide) (hts _ q207) (fun _ h9 => h9) rfl dX1_drop_9 ?_
    refine lv_iload_n hx hb dX1_drop_12 rfl (lv_at hl 1 rfl) ?_
    refine sw_ild hx hb hK hP 1 0 rfl rfl (by omega) (by decide) (v := nI (Sz pn)) rfl dX1_drop_13 ?_
    refine sw_ifne (tgt := 19) hx hb dX1_drop_14 (by decide) (by omega) (fun h14 => ?_) (fun h14 => ?_)
    · refine lv_aload_n hx hb dX1_drop_19 rfl (lv_at hl 0 rfl) ?_
      refine va_get (D := D) (ci := 1) (v := .ref (ad 0)) (C := RX1) (T := TX1) (N := 7) hx hb hts in_X1 hown hK hP 0 rfl rfl 0 (by decide) (hts _ q207) (fun _ h9 => h9) rfl dX1_drop_20 ?_
      refine lv_iload_n hx hb dX1_drop_23 rfl (lv_at hl 1 rfl) ?_
      refine lv_dup2_11 hx hb dX1_drop_24 rfl rfl ?_
      refine sw_ild hx hb hK hP 1 0 rfl rfl (by omega) (by decide) (v := nI (Sz pn)) rfl dX1_drop_25 ?_
      refine lv_iconst (v := nI (1)) hx hb dX1_drop_26 (by decide) ?_
      refine sw_sub hx hb dX1_drop_27 (by omega) ?_
      refine sw_ist hx hb hK hP hD hS 1 0 rfl rfl (by omega) (by decide) rfl (sw_updN _ _ _) dX1_drop_28 (fun H locs hP hD hS => ?_)
      have hP : va_P D vwCl (wM o ad kc (va_up Sz pn ((Sz pn) - 1)) St Ct L T fi mo) H := hP
      have hD : va_D A (wM o ad kc (va_up Sz pn ((Sz pn) - 1)) St Ct L T fi mo) := hD
      refine lv_aload_n hx hb dX1_drop_29 rfl (lv_at hl 0 rfl) ?_
      refine va_get (D := D) (ci := 1) (v := .ref (ad 0)) (C := RX1) (T := TX1) (N := 7) hx hb hts in_X1 hown hK hP 0 rfl rfl 0 (by decide) (hts _ q207) (fun _ h9 => h9) rfl dX1_drop_30 ?_
      refine lv_iload_n hx hb dX1_drop_33 rfl (lv_at hl 1 rfl) ?_
      refine sw_ild hx hb hK hP 1 0 rfl rfl (by omega) (by decide) (v := nI ((va_up Sz pn ((Sz pn) - 1)) pn)) rfl dX1_drop_34 ?_
      refine sw_top (y := nI ((Sz pn - 1))) (congrArg nI (sw_us _ _ _)) ?_
      exact ret _ _ _ (va_up Sz pn ((Sz pn) - 1)) _ _ dX1_drop_35 (Or.inr ⟨pn, rfl, by omega, Or.inr ⟨h14, rfl, rfl⟩⟩) hP hD hS
    · refine lv_iconst (v := zI (-1)) hx hb dX1_drop_17 (by decide) ?_
      exact ret _ _ _ (Sz) _ _ dX1_drop_18 (by first | exact Or.inl ⟨hr2, rfl, rfl⟩ | exact Or.inr ⟨pn, rfl, by omega, Or.inl ⟨h14, rfl, rfl⟩⟩) hP hD hS
  · refine sw_ifeq (tgt := 17) hx hb dX1_drop_5 (by decide) (by decide) (fun _ => ?_) (fun q => absurd rfl q)
    refine lv_iconst (v := zI (-1)) hx hb dX1_drop_17 (by decide) ?_
    exact ret _ _ _ (Sz) _ _ dX1_drop_18 (by first | exact Or.inl ⟨hr2, rfl, rfl⟩ | exact Or.inr ⟨pn, rfl, by omega, Or.inl ⟨h14, rfl, rfl⟩⟩) hP hD hS
set_option maxRecDepth 100000 in
theorem mX1_drop (l : Launch) {D : va_G} {o : Nat} {ad : Nat → Nat} {kc : Nat → ClassId} {Sz : Nat → Nat} {St : Nat → Nat} {Ct : Nat → Nat} {L : Nat} {T : Nat → Nat} {fi : Nat → Nat} {mo : Nat → Nat} {zp : Int} (hlzp : -2147483648 ≤ zp) (huzp : zp < 2147483648) (hO : sw_Ok Sz St Ct T L) (sz : Nat) : Met l yX1_drop (ws_ yX1_drop cX1_drop 2 (some .int)) ({ frames := 1, cells := 0, slots := 0, locals := 21 }) (sw_M D vwCl (wM o ad kc Sz St Ct L T fi mo) (tyM kc) sz [.ref o, .int (zI (zp))]) (va_Qi (fun (r : Int32) (u : (Nat → Nat)) => sw_drp zp Sz r u) (sw_B D vwCl (tyM kc) (va_A (wM o ad kc Sz St Ct L T fi mo) sz) (fun u : (Nat → Nat) => wM o ad kc u St Ct L T fi mo)) (va_A (wM o ad kc Sz St Ct L T fi mo) sz)) 0 0 (va_A (wM o ad kc Sz St Ct L T fi mo) sz) := sw_metI (by decide) (Nat.le_of_ble_eq_true rfl) (fun p e s m below meth c Q ls A S hK hP hD hA hl ret => bX1_drop S (Nat.le_refl _) (Nat.le_refl _) hK hP hD va_S.rf hA hlzp huzp hO ret hl) sz
set_option maxHeartbeats 4000000 in
set_option maxRecDepth 100000 in
theorem bX1_reset {D : va_G} {o : Nat} {ad : Nat → Nat} {kc : Nat → ClassId} {Sz : Nat → Nat} {St : Nat → Nat} {Ct : Nat → Nat} {L : Nat} {T : Nat → Nat} {fi : Nat → Nat} {mo : Nat → Nat} (S : CallFix p m c cX1_reset 1 s args lw_all RX1) (hRf : 0 ≤ R.frames) (hRl : 0 ≤ R.locals) (hK : va_K D vwCl (tyM kc) s) (hP : va_P D vwCl (wM o ad kc Sz St Ct L T fi mo) H) (hD : va_D A (wM o ad kc Sz St Ct L T fi mo)) (hS : va_S A H0 H locs) (hA : ∀ q, H0.size ≤ q → A q) (ret : ∀ (pc : Nat) (ls : Array Slot) (u : Unit) (H1 : Heap) (locs1 : List Loc), decode cX1_reset pc = .ok (.return_, 1) → (True) → va_P D vwCl ((fun _ : Unit => wM o ad kc Sz St Ct 0 T fi mo) u) H1 → va_D A ((fun _ : Unit => wM o ad kc Sz St Ct 0 T fi mo) u) → va_S A H0 H1 locs1 → W p l e R s m args below meth c H1 locs1 0 0 Q (F0 m pc ls [])) (hl : lv_has ls 1 [(0, .ref (o))]) : W p l e R s m args below meth c H locs 0 0 Q (F0 m 0 ls []) := by
  have hx := S.1
  have hb := S.2.1
  have hown := S.2.2.2.1
  have hts := S.2.2.2.2
  refine lv_aload_n hx hb dX1_reset_0 rfl (lv_at hl 0 rfl) ?_
  refine lv_iconst (v := nI (0)) hx hb dX1_reset_1 (by decide) ?_
  refine va_put (D := D) (ci := 1) (v := .int (nI (0))) (ty := .int) (C := RX1) (T := TX1) (N := 7) hx hb hts in_X1 tyX1 tyX1_ok nmX1 hown hK hP hD hS 0 rfl rfl 3 (by decide) (hts _ q210) (fun _ h9 => h9) rfl (by decide +kernel) rfl rfl (Nat.le_of_ble_eq_true rfl) dX1_reset_2 (fun H locs hP hD hS => ?_)
  have hP : va_P D vwCl (wM o ad kc Sz St Ct 0 T fi mo) H := hP
  have hD : va_D A (wM o ad kc Sz St Ct 0 T fi mo) := hD
  exact ret _ _ () _ _ dX1_reset_5 (trivial) hP hD hS
set_option maxRecDepth 100000 in
theorem mX1_reset (l : Launch) {D : va_G} {o : Nat} {ad : Nat → Nat} {kc : Nat → ClassId} {Sz : Nat → Nat} {St : Nat → Nat} {Ct : Nat → Nat} {L : Nat} {T : Nat → Nat} {fi : Nat → Nat} {mo : Nat → Nat}  (sz : Nat) : Met l yX1_reset (ws_ yX1_reset cX1_reset 1 (none)) ({ frames := 0, cells := 0, slots := 0, locals := 0 }) (sw_M D vwCl (wM o ad kc Sz St Ct L T fi mo) (tyM kc) sz [.ref o]) (va_Qv (fun (u : Unit) => True) (sw_B D vwCl (tyM kc) (va_A (wM o ad kc Sz St Ct L T fi mo) sz) (fun _ : Unit => wM o ad kc Sz St Ct 0 T fi mo)) (va_A (wM o ad kc Sz St Ct L T fi mo) sz)) 0 0 (va_A (wM o ad kc Sz St Ct L T fi mo) sz) := sw_metV (by decide) (Nat.le_of_ble_eq_true rfl) (fun p e s m below meth c Q ls A S hK hP hD hA hl ret => bX1_reset S (Nat.le_refl _) (Nat.le_refl _) hK hP hD va_S.rf hA  ret hl) sz
set_option maxHeartbeats 4000000 in
set_option maxRecDepth 100000 in
theorem bX1_extend {D : va_G} {o : Nat} {ad : Nat → Nat} {kc : Nat → ClassId} {Sz : Nat → Nat} {St : Nat → Nat} {Ct : Nat → Nat} {L : Nat} {T : Nat → Nat} {fi : Nat → Nat} {mo : Nat → Nat} {ce : Nat} {fr : Nat} {nn : Nat} (S : CallFix p m c cX1_extend 7 s args lw_all RX1) (hRf : 1 ≤ R.frames) (hRl : 22 ≤ R.locals) (hK : va_K D vwCl (tyM kc) s) (hP : va_P D vwCl (wM o ad kc Sz St Ct L T fi mo) H) (hD : va_D A (wM o ad kc Sz St Ct L T fi mo)) (hS : va_S A H0 H locs) (hA : ∀ q, H0.size ≤ q → A q) (PP : Nat → Prop) (hce : ce < 24) (hfn : fr ≤ nn) (hnn : nn ≤ 61) (hO : sw_Ok Sz St Ct T L) (hF : ∀ q, fr ≤ q → q ≤ nn → sw_t (PP q) (fi q)) (ret : ∀ (pc : Nat) (ls : Array Slot) (u : (Nat → Nat) × (Nat → Nat)) (H1 : Heap) (locs1 : List Loc), decode cX1_extend pc = .ok (.return_, 1) → (∀ q, fr ≤ q → q ≤ nn → sw_t (∃ y, fr ≤ y ∧ y ≤ q ∧ PP y ∧ sw_run St T ce y q ∧ sw_alw (Ct ce) (q - y)) (u.1 q)) → va_P D vwCl ((fun u : (Nat → Nat) × (Nat → Nat) => wM o ad kc Sz St Ct L T (u.1) (u.2)) u) H1 → va_D A ((fun u : (Nat → Nat) × (Nat → Nat) => wM o ad kc Sz St Ct L T (u.1) (u.2)) u) → va_S A H0 H1 locs1 → W p l e R s m args below meth c H1 locs1 0 0 Q (F0 m pc ls [])) (hl : lv_has ls 7 [(0, .ref (o)), (1, .int (nI (ce))), (2, .int (nI (fr))), (3, .int (nI (nn)))]) : W p l e R s m args below meth c H locs 0 0 Q (F0 m 0 ls []) := by
  have hx := S.1
  have hb := S.2.1
  have hown := S.2.2.2.1
  have hts := S.2.2.2.2
  obtain ⟨hs, ht, hc, hT, hL⟩ := hO
  have hsc := ht ce
  have hcc := hc ce
  refine lv_iload_n hx hb dX1_extend_0 rfl (lv_at hl 2 rfl) ?_
  refine lv_istore (lv' := [(4, .int (nI (fr))), (0, .ref (o)), (1, .int (nI (ce))), (2, .int (nI (fr))), (3, .int (nI (nn)))]) hx hb dX1_extend_1 hl (by decide) rfl (fun ls hl => ?_)
  have L3 : ∀ (n : Nat) (q : Nat) (m1 : Nat → Nat), (fr ≤ q) → (q ≤ nn + 1) → (∀ y, fr ≤ y → y < q → m1 y = 0) → nn + 1 - q < n → ∀ (H : Heap) (locs : List Loc), va_P D vwCl (wM o ad kc Sz St Ct L T fi m1) H → va_D A (wM o ad kc Sz St Ct L T fi m1) → va_S A H0 H locs → ∀ (ls : Array Slot), lv_has ls 7 [(0, .ref (o)), (1, .int (nI (ce))), (2, .int (nI (fr))), (3, .int (nI (nn))), (4, .int (nI (q)))] → W p l e R s m args below meth c H locs 0 0 Q (F0 m 3 ls []) := by
    intro n
    induction n with
    | zero => intro q m1 _ _ _ hm; exact absurd hm (Nat.not_lt_zero _)
    | succ n ihL3 =>
      intro q m1 hq1 hq2 hZ hmL3 H locs hP hD hS ls hl
      refine lv_iload hx hb dX1_extend_3 (lv_at hl 4 rfl) ?_
      refine lv_iload_n hx hb dX1_extend_5 rfl (lv_at hl 3 rfl) ?_
      refine sw_cgt (tgt := 23) hx hb dX1_extend_6 (by decide) (by omega) (by omega) (fun h6 => ?_) (fun h6 => ?_)
      · refine lv_iload_n hx hb dX1_extend_23 rfl (lv_at hl 2 rfl) ?_
        refine lv_istore (lv' := [(4, .int (nI (fr))), (0, .ref (o)), (1, .int (nI (ce))), (2, .int (nI (fr))), (3, .int (nI (nn)))]) hx hb dX1_extend_24 hl (by decide) rfl (fun ls hl => ?_)
        have L26 : ∀ (n : Nat) (rr : Nat) (m1 : Nat → Nat), (fr ≤ rr) → (rr ≤ nn + 1) → (sw_xI PP St Ct T ce fr nn rr m1) → nn + 1 - rr < n → ∀ (H : Heap) (locs : List Loc), va_P D vwCl (wM o ad kc Sz St Ct L T fi m1) H → va_D A (wM o ad kc Sz St Ct L T fi m1) → va_S A H0 H locs → ∀ (ls : Array Slot), lv_has ls 7 [(0, .ref (o)), (1, .int (nI (ce))), (2, .int (nI (fr))), (3, .int (nI (nn))), (4, .int (nI (rr)))] → W p l e R s m args below meth c H locs 0 0 Q (F0 m 26 ls []) := by
          intro n
          induction n with
          | zero => intro rr m1 _ _ _ hm; exact absurd hm (Nat.not_lt_zero _)
          | succ n ihL26 =>
            intro rr m1 hfr2 hr2 hI hmL26 H locs hP hD hS ls hl
            refine lv_iload hx hb dX1_extend_26 (lv_at hl 4 rfl) ?_
            refine lv_iload_n hx hb dX1_extend_28 rfl (lv_at hl 3 rfl) ?_
            refine sw_cgt (tgt := 141) hx hb dX1_extend_29 (by decide) (by omega) (by omega) (fun h29 => ?_) (fun h29 => ?_)
            · refine lv_iload_n hx hb dX1_extend_141 rfl (lv_at hl 2 rfl) ?_
              refine lv_istore (lv' := [(4, .int (nI (fr))), (0, .ref (o)), (1, .int (nI (ce))), (2, .int (nI (fr))), (3, .int (nI (nn)))]) hx hb dX1_extend_142 hl (by decide) rfl (fun ls hl => ?_)
              have L144 : ∀ (n : Nat) (q : Nat) (f1 : Nat → Nat), (fr ≤ q) → (q ≤ nn + 1) → (∀ y, fr ≤ y → y < q → f1 y = m1 y) → nn + 1 - q < n → ∀ (H : Heap) (locs : List Loc), va_P D vwCl (wM o ad kc Sz St Ct L T f1 m1) H → va_D A (wM o ad kc Sz St Ct L T f1 m1) → va_S A H0 H locs → ∀ (ls : Array Slot), lv_has ls 7 [(0, .ref (o)), (1, .int (nI (ce))), (2, .int (nI (fr))), (3, .int (nI (nn))), (4, .int (nI (q)))] → W p l e R s m args below meth c H locs 0 0 Q (F0 m 144 ls []) := by
                intro n
                induction n with
                | zero => intro q f1 _ _ _ hm; exact absurd hm (Nat.not_lt_zero _)
                | succ n ihL144 =>
                  intro q f1 hq1 hq2 hC hmL144 H locs hP hD hS ls hl
                  refine lv_iload hx hb dX1_extend_144 (lv_at hl 4 rfl) ?_
                  refine lv_iload_n hx hb dX1_extend_146 rfl (lv_at hl 3 rfl) ?_
                  refine sw_cgt (tgt := 170) hx hb dX1_extend_147 (by decide) (by omega) (by omega) (fun h147 => ?_) (fun h147 => ?_)
                  · exact ret _ _ (f1, m1) _ _ dX1_extend_170 (fun q a b => by show sw_t _ (f1 q); rw [hC q a (by omega)]; exact sw_t_iff ⟨fun z => by { obtain ⟨y, a1, a2, a3⟩ := z; exact ⟨y, a1, a3⟩ }, fun z => by { obtain ⟨y, a1, a2, a3⟩ := z; exact ⟨y, a1, by omega, a2, a3⟩ }⟩ (hI q a b)) hP hD hS
                  · have hml := sw_t_lt (hI q hq1 h147)
                    refine lv_aload_n hx hb dX1_extend_150 rfl (lv_at hl 0 rfl) ?_
                    refine va_get (D := D) (ci := 1) (v := .ref (ad 4)) (C := RX1) (T := TX1) (N := 7) hx hb hts in_X1 hown hK hP 0 rfl rfl 5 (by decide) (hts _ q212) (fun _ h9 => h9) rfl dX1_extend_151 ?_
                    refine lv_iload hx hb dX1_extend_154 (lv_at hl 4 rfl) ?_
                    refine lv_aload_n hx hb dX1_extend_156 rfl (lv_at hl 0 rfl) ?_
                    refine va_get (D := D) (ci := 1) (v := .ref (ad 5)) (C := RX1) (T := TX1) (N := 7) hx hb hts in_X1 hown hK hP 0 rfl rfl 6 (by decide) (hts _ q213) (fun _ h9 => h9) rfl dX1_extend_157 ?_
                    refine lv_iload hx hb dX1_extend_160 (lv_at hl 4 rfl) ?_
                    refine sw_zld hx hb hK hP 6 5 rfl rfl (by omega) (by decide) (v := nI (m1 q)) rfl dX1_extend_162 ?_
                    refine sw_zst hx hb hK hP hD hS 5 4 rfl rfl (by omega) (by decide) (sw_naB (by omega)) (sw_updN _ _ _) dX1_extend_163 (fun H locs hP hD hS => ?_)
                    have hP : va_P D vwCl (wM o ad kc Sz St Ct L T (va_up f1 q (m1 q)) m1) H := hP
                    have hD : va_D A (wM o ad kc Sz St Ct L T (va_up f1 q (m1 q)) m1) := hD
                    refine lv_iinc (k := 4) (v := nI (q + 1)) (lv' := [(4, .int (nI (q + 1))), (0, .ref (o)), (1, .int (nI (ce))), (2, .int (nI (fr))), (3, .int (nI (nn)))]) hx hb dX1_extend_164 hl rfl (nI_add _ 1) (by decide) rfl (fun ls hl => ?_)
                    refine lv_goto (tgt := 144) hx hb dX1_extend_167 (by decide) ?_
                    exact ihL144 (q + 1) (va_up f1 q (m1 q)) (by omega) (by omega) (fun y a b => by by_cases e : y = q; rw [e, sw_us]; rw [sw_un e]; exact hC y a (by omega)) (by omega) _ _ hP hD hS _ (lv_sub hl [1, 2, 3, 4, 0] rfl)
              exact L144 (nn + 1 - (fr) + 1) (fr) (fi) (by omega) (by omega) (fun y a b => absurd a (by omega)) (Nat.lt_succ_self _) _ _ hP hD hS _ (lv_sub hl [1, 2, 3, 4, 0] rfl)
            · refine lv_aload_n hx hb dX1_extend_32 rfl (lv_at hl 0 rfl) ?_
              refine va_get (D := D) (ci := 1) (v := .ref (ad 4)) (C := RX1) (T := TX1) (N := 7) hx hb hts in_X1 hown hK hP 0 rfl rfl 5 (by decide) (hts _ q212) (fun _ h9 => h9) rfl dX1_extend_33 ?_
              refine lv_iload hx hb dX1_extend_36 (lv_at hl 4 rfl) ?_
              refine sw_zld hx hb hK hP 5 4 rfl rfl (by omega) (by decide) (v := nI (fi rr)) rfl dX1_extend_38 ?_
              refine lv_istore (lv' := [(5, .int (nI (fi rr))), (0, .ref (o)), (1, .int (nI (ce))), (2, .int (nI (fr))), (3, .int (nI (nn))), (4, .int (nI (rr)))]) hx hb dX1_extend_39 hl (by decide) rfl (fun ls hl => ?_)
              refine lv_iload hx hb dX1_extend_41 (lv_at hl 5 rfl) ?_
              refine lv_istore (lv' := [(6, .int (nI (rr))), (5, .int (nI (fi rr))), (0, .ref (o)), (1, .int (nI (ce))), (2, .int (nI (fr))), (3, .int (nI (nn))), (4, .int (nI (rr)))]) hx hb dX1_extend_43 hl (by decide) rfl (fun ls hl => ?_)
              have L45 : ∀ (n : Nat) (iv : Nat) (qq : Nat) (m2 : Nat → Nat), (rr ≤ qq) → (qq ≤ nn + 1) → (qq ≤ nn → sw_t (PP rr ∧ sw_run St T ce rr qq) iv) → (sw_xJ PP St Ct T ce fr nn rr qq m2) → nn + 1 - qq < n → ∀ (H : Heap) (locs : List Loc), va_P D vwCl (wM o ad kc Sz St Ct L T fi m2) H → va_D A (wM o ad kc Sz St Ct L T fi m2) → va_S A H0 H locs → ∀ (ls : Array Slot), lv_has ls 7 [(0, .ref (o)), (1, .int (nI (ce))), (2, .int (nI (fr))), (3, .int (nI (nn))), (4, .int (nI (rr))), (5, .int (nI (iv))), (6, .int (nI (qq)))] → W p l e R s m args below meth c H locs 0 0 Q (F0 m 45 ls []) := by
                intro n
                induction n with
                | zero => intro iv qq m2 _ _ _ _ hm; exact absurd hm (Nat.not_lt_zero _)
                | succ n ihL45 =>
                  intro iv qq m2 hrq hq2 hin hJ hmL45 H locs hP hD hS ls hl
                  refine lv_iload hx hb dX1_extend_45 (lv_at hl 6 rfl) ?_
                  refine lv_iload_n hx hb dX1_extend_47 rfl (lv_at hl 3 rfl) ?_
                  refine sw_cgt (tgt := 135) hx hb dX1_extend_48 (by decide) (by omega) (by omega) (fun h48 => ?_) (fun h48 => ?_)
                  · have hEx : nn < qq ∨ ¬ (PP rr ∧ sw_run St T ce rr qq) := Or.inl h48
                    refine lv_iinc (k := 4) (v := nI (rr + 1)) (lv' := [(4, .int (nI (rr + 1))), (0, .ref (o)), (1, .int (nI (ce))), (2, .int (nI (fr))), (3, .int (nI (nn))), (5, .int (nI (iv))), (6, .int (nI (qq)))]) hx hb dX1_extend_135 hl rfl (nI_add _ 1) (by decide) rfl (fun ls hl => ?_)
                    refine lv_goto (tgt := 26) hx hb dX1_extend_138 (by decide) ?_
                    exact ihL26 (rr + 1) (m2) (by omega) (by omega) (sw_xJ_e hfr2 hEx hJ) (by omega) _ _ hP hD hS _ (lv_sub hl [1, 2, 3, 4, 0] rfl)
                  · have hqn : qq ≤ nn := h48
                    have hin1 := hin h48
                    have hivl := sw_t_lt hin1
                    have hml := sw_t_lt (hJ qq (by omega) hqn)
                    refine lv_iload hx hb dX1_extend_51 (lv_at hl 5 rfl) ?_
                    refine sw_ifeq (tgt := 135) hx hb dX1_extend_53 (by decide) (by omega) (fun h53 => ?_) (fun h53 => ?_)
                    · have hEx : nn < qq ∨ ¬ (PP rr ∧ sw_run St T ce rr qq) := Or.inr (sw_t_0 hin1 h53)
                      refine lv_iinc (k := 4) (v := nI (rr + 1)) (lv' := [(4, .int (nI (rr + 1))), (0, .ref (o)), (1, .int (nI (ce))), (2, .int (nI (fr))), (3, .int (nI (nn))), (5, .int (nI (iv))), (6, .int (nI (qq)))]) hx hb dX1_extend_135 hl rfl (nI_add _ 1) (by decide) rfl (fun ls hl => ?_)
                      refine lv_goto (tgt := 26) hx hb dX1_extend_138 (by decide) ?_
                      exact ihL26 (rr + 1) (m2) (by omega) (by omega) (sw_xJ_e hfr2 hEx hJ) (by omega) _ _ hP hD hS _ (lv_sub hl [1, 2, 3, 4, 0] rfl)
                    · have hIn := sw_t_ne hin1 h53
                      have hTq := hT qq
                      refine lv_aload_n hx hb dX1_extend_56 rfl (lv_at hl 0 rfl) ?_
                      refine va_get (D := D) (ci := 1) (v := .ref (ad 5)) (C := RX1) (T := TX1) (N := 7) hx hb hts in_X1 hown hK hP 0 rfl rfl 6 (by decide) (hts _ q213) (fun _ h9 => h9) rfl dX1_extend_57 ?_
                      refine lv_iload hx hb dX1_extend_60 (lv_at hl 6 rfl) ?_
                      refine lv_aload_n hx hb dX1_extend_62 rfl (lv_at hl 0 rfl) ?_
                      refine va_get (D := D) (ci := 1) (v := .ref (ad 5)) (C := RX1) (T := TX1) (N := 7) hx hb hts in_X1 hown hK hP 0 rfl rfl 6 (by decide) (hts _ q213) (fun _ h9 => h9) rfl dX1_extend_63 ?_
                      refine lv_iload hx hb dX1_extend_66 (lv_at hl 6 rfl) ?_
                      refine sw_zld hx hb hK hP 6 5 rfl rfl (by omega) (by decide) (v := nI (m2 qq)) rfl dX1_extend_68 ?_
                      refine sw_ifne (tgt := 90) hx hb dX1_extend_69 (by decide) (by omega) (fun h69 => ?_) (fun h69 => ?_)
                      · have hJ2 := sw_xJ_s (v := 1) hrq hqn hfr2 hIn (Or.inl ⟨rfl, Or.inl h69⟩) hJ
                        refine lv_iconst (v := nI (1)) hx hb dX1_extend_90 (by decide) ?_
                        refine lv_goto (tgt := 95) hx hb dX1_extend_91 (by decide) ?_
                        refine sw_zst hx hb hK hP hD hS 6 5 rfl rfl (by omega) (by decide) (sw_naB (by omega)) (sw_updN _ _ _) dX1_extend_95 (fun H locs hP hD hS => ?_)
                        have hP : va_P D vwCl (wM o ad kc Sz St Ct L T fi (va_up m2 qq 1)) H := hP
                        have hD : va_D A (wM o ad kc Sz St Ct L T fi (va_up m2 qq 1)) := hD
                        refine lv_iload hx hb dX1_extend_96 (lv_at hl 6 rfl) ?_
                        refine lv_iload_n hx hb dX1_extend_98 rfl (lv_at hl 3 rfl) ?_
                        refine sw_cge (tgt := 126) hx hb dX1_extend_99 (by decide) (by omega) (by omega) (fun h99 => ?_) (fun h99 => ?_)
                        · have hin2 : qq + 1 ≤ nn → sw_t (PP rr ∧ sw_run St T ce rr (qq + 1)) 0 := fun z => absurd z (by omega)
                          refine lv_iconst (v := nI (0)) hx hb dX1_extend_126 (by decide) ?_
                          refine lv_istore (lv' := [(5, .int (nI (0))), (0, .ref (o)), (1, .int (nI (ce))), (2, .int (nI (fr))), (3, .int (nI (nn))), (4, .int (nI (rr))), (6, .int (nI (qq)))]) hx hb dX1_extend_127 hl (by decide) rfl (fun ls hl => ?_)
                          refine lv_iinc (k := 6) (v := nI (qq + 1)) (lv' := [(6, .int (nI (qq + 1))), (5, .int (nI (0))), (0, .ref (o)), (1, .int (nI (ce))), (2, .int (nI (fr))), (3, .int (nI (nn))), (4, .int (nI (rr)))]) hx hb dX1_extend_129 hl rfl (nI_add _ 1) (by decide) rfl (fun ls hl => ?_)
                          refine lv_goto (tgt := 45) hx hb dX1_extend_132 (by decide) ?_
                          exact ihL45 (0) (qq + 1) (va_up m2 qq 1) (by omega) (by omega) hin2 hJ2 (by omega) _ _ hP hD hS _ (lv_sub hl [2, 3, 4, 5, 6, 1, 0] rfl)
                        · refine lv_aload_n hx hb dX1_extend_102 rfl (lv_at hl 0 rfl) ?_
                          refine va_get (D := D) (ci := 1) (v := .ref (ad 1)) (C := RX1) (T := TX1) (N := 7) hx hb hts in_X1 hown hK hP 0 rfl rfl 1 (by decide) (hts _ q208) (fun _ h9 => h9) rfl dX1_extend_103 ?_
                          refine lv_iload_n hx hb dX1_extend_106 rfl (lv_at hl 1 rfl) ?_
                          refine sw_ild hx hb hK hP 2 1 rfl rfl (by omega) (by decide) (v := nI (St ce)) rfl dX1_extend_107 ?_
                          refine lv_aload_n hx hb dX1_extend_108 rfl (lv_at hl 0 rfl) ?_
                          refine va_get (D := D) (ci := 1) (v := .ref (ad 3)) (C := RX1) (T := TX1) (N := 7) hx hb hts in_X1 hown hK hP 0 rfl rfl 4 (by decide) (hts _ q211) (fun _ h9 => h9) rfl dX1_extend_109 ?_
                          refine lv_iload hx hb dX1_extend_112 (lv_at hl 6 rfl) ?_
                          refine sw_ild hx hb hK hP 4 3 rfl rfl (by omega) (by decide) (v := nI (T qq)) rfl dX1_extend_114 ?_
                          refine sw_shr hx hb dX1_extend_115 (by omega) (by omega) ?_
                          refine lv_iconst (v := nI (1)) hx hb dX1_extend_116 (by decide) ?_
                          refine sw_and1 hx hb dX1_extend_117 ?_
                          refine lv_iconst (v := nI (1)) hx hb dX1_extend_118 (by decide) ?_
                          refine sw_cne (tgt := 126) hx hb dX1_extend_119 (by decide) (by omega) (by omega) (fun h119 => ?_) (fun h119 => ?_)
                          · have hin2 : qq + 1 ≤ nn → sw_t (PP rr ∧ sw_run St T ce rr (qq + 1)) 0 := fun z => Or.inr ⟨rfl, fun w => h119 ((sw_run_s hrq hIn).mp w)⟩
                            refine lv_iconst (v := nI (0)) hx hb dX1_extend_126 (by decide) ?_
                            refine lv_istore (lv' := [(5, .int (nI (0))), (0, .ref (o)), (1, .int (nI (ce))), (2, .int (nI (fr))), (3, .int (nI (nn))), (4, .int (nI (rr))), (6, .int (nI (qq)))]) hx hb dX1_extend_127 hl (by decide) rfl (fun ls hl => ?_)
                            refine lv_iinc (k := 6) (v := nI (qq + 1)) (lv' := [(6, .int (nI (qq + 1))), (5, .int (nI (0))), (0, .ref (o)), (1, .int (nI (ce))), (2, .int (nI (fr))), (3, .int (nI (nn))), (4, .int (nI (rr)))]) hx hb dX1_extend_129 hl rfl (nI_add _ 1) (by decide) rfl (fun ls hl => ?_)
                            refine lv_goto (tgt := 45) hx hb dX1_extend_132 (by decide) ?_
                            exact ihL45 (0) (qq + 1) (va_up m2 qq 1) (by omega) (by omega) hin2 hJ2 (by omega) _ _ hP hD hS _ (lv_sub hl [2, 3, 4, 5, 6, 1, 0] rfl)
                          · have hin2 : qq + 1 ≤ nn → sw_t (PP rr ∧ sw_run St T ce rr (qq + 1)) 1 := fun z => Or.inl ⟨rfl, (sw_run_s hrq hIn).mpr h119⟩
                            refine lv_iconst (v := nI (1)) hx hb dX1_extend_122 (by decide) ?_
                            refine lv_goto (tgt := 127) hx hb dX1_extend_123 (by decide) ?_
                            refine lv_istore (lv' := [(5, .int (nI (1))), (0, .ref (o)), (1, .int (nI (ce))), (2, .int (nI (fr))), (3, .int (nI (nn))), (4, .int (nI (rr))), (6, .int (nI (qq)))]) hx hb dX1_extend_127 hl (by decide) rfl (fun ls hl => ?_)
                            refine lv_iinc (k := 6) (v := nI (qq + 1)) (lv' := [(6, .int (nI (qq + 1))), (5, .int (nI (1))), (0, .ref (o)), (1, .int (nI (ce))), (2, .int (nI (fr))), (3, .int (nI (nn))), (4, .int (nI (rr)))]) hx hb dX1_extend_129 hl rfl (nI_add _ 1) (by decide) rfl (fun ls hl => ?_)
                            refine lv_goto (tgt := 45) hx hb dX1_extend_132 (by decide) ?_
                            exact ihL45 (1) (qq + 1) (va_up m2 qq 1) (by omega) (by omega) hin2 hJ2 (by omega) _ _ hP hD hS _ (lv_sub hl [2, 3, 4, 5, 6, 1, 0] rfl)
                      · refine lv_aload_n hx hb dX1_extend_72 rfl (lv_at hl 0 rfl) ?_
                        refine lv_aload_n hx hb dX1_extend_73 rfl (lv_at hl 0 rfl) ?_
                        refine va_get (D := D) (ci := 1) (v := .ref (ad 2)) (C := RX1) (T := TX1) (N := 7) hx hb hts in_X1 hown hK hP 0 rfl rfl 2 (by decide) (hts _ q209) (fun _ h9 => h9) rfl dX1_extend_74 ?_
                        refine lv_iload_n hx hb dX1_extend_77 rfl (lv_at hl 1 rfl) ?_
                        refine sw_ild hx hb hK hP 3 2 rfl rfl (by omega) (by decide) (v := nI (Ct ce)) rfl dX1_extend_78 ?_
                        refine lv_iload hx hb dX1_extend_79 (lv_at hl 6 rfl) ?_
                        refine lv_iload hx hb dX1_extend_81 (lv_at hl 4 rfl) ?_
                        refine sw_sub hx hb dX1_extend_83 (by omega) ?_
                        refine sw_cvR (As := [.int (nI (Ct ce)), .int (nI (qq - rr))]) (rest := [.int (nI (qq)), .ref (ad 5)]) (C := RX1) (ci := 1) (q0 := 0) S (mX1_allows l hcc (by omega)) (cwV 2 hts (lw_V q266 q268 qs18 q21 q269) rfl rfl rfl (by decide +kernel) ⟨Nat.le_trans (Nat.le_of_ble_eq_true rfl) hRf, Nat.le_trans (Nat.le_of_ble_eq_true rfl) hRl⟩) hK hP rfl rfl rfl rfl hl.1 rfl (Nat.le_of_ble_eq_true rfl) dX1_extend_84 ⟨Nat.zero_le _, Nat.zero_le _⟩ (fun r hr => ?_)
                        rcases hr with ⟨rfl, hr84⟩ | ⟨rfl, hr84⟩
                        · have hJ2 := sw_xJ_s (v := 1) hrq hqn hfr2 hIn (Or.inl ⟨rfl, Or.inr hr84⟩) hJ
                          refine sw_ifeq (tgt := 94) hx hb dX1_extend_87 (by decide) (by decide) (fun q => absurd q (by decide)) (fun _ => ?_)
                          refine lv_iconst (v := nI (1)) hx hb dX1_extend_90 (by decide) ?_
                          refine lv_goto (tgt := 95) hx hb dX1_extend_91 (by decide) ?_
                          refine sw_zst hx hb hK hP hD hS 6 5 rfl rfl (by omega) (by decide) (sw_naB (by omega)) (sw_updN _ _ _) dX1_extend_95 (fun H locs hP hD hS => ?_)
                          have hP : va_P D vwCl (wM o ad kc Sz St Ct L T fi (va_up m2 qq 1)) H := hP
                          have hD : va_D A (wM o ad kc Sz St Ct L T fi (va_up m2 qq 1)) := hD
                          refine lv_iload hx hb dX1_extend_96 (lv_at hl 6 rfl) ?_
                          refine lv_iload_n hx hb dX1_extend_98 rfl (lv_at hl 3 rfl) ?_
                          refine sw_cge (tgt := 126) hx hb dX1_extend_99 (by decide) (by omega) (by omega) (fun h99 => ?_) (fun h99 => ?_)
                          · have hin2 : qq + 1 ≤ nn → sw_t (PP rr ∧ sw_run St T ce rr (qq + 1)) 0 := fun z => absurd z (by omega)
                            refine lv_iconst (v := nI (0)) hx hb dX1_extend_126 (by decide) ?_
                            refine lv_istore (lv' := [(5, .int (nI (0))), (0, .ref (o)), (1, .int (nI (ce))), (2, .int (nI (fr))), (3, .int (nI (nn))), (4, .int (nI (rr))), (6, .int (nI (qq)))]) hx hb dX1_extend_127 hl (by decide) rfl (fun ls hl => ?_)
                            refine lv_iinc (k := 6) (v := nI (qq + 1)) (lv' := [(6, .int (nI (qq + 1))), (5, .int (nI (0))), (0, .ref (o)), (1, .int (nI (ce))), (2, .int (nI (fr))), (3, .int (nI (nn))), (4, .int (nI (rr)))]) hx hb dX1_extend_129 hl rfl (nI_add _ 1) (by decide) rfl (fun ls hl => ?_)
                            refine lv_goto (tgt := 45) hx hb dX1_extend_132 (by decide) ?_
                            exact ihL45 (0) (qq + 1) (va_up m2 qq 1) (by omega) (by omega) hin2 hJ2 (by omega) _ _ hP hD hS _ (lv_sub hl [2, 3, 4, 5, 6, 1, 0] rfl)
                          · refine lv_aload_n hx hb dX1_extend_102 rfl (lv_at hl 0 rfl) ?_
                            refine va_get (D := D) (ci := 1) (v := .ref (ad 1)) (C := RX1) (T := TX1) (N := 7) hx hb hts in_X1 hown hK hP 0 rfl rfl 1 (by decide) (hts _ q208) (fun _ h9 => h9) rfl dX1_extend_103 ?_
                            refine lv_iload_n hx hb dX1_extend_106 rfl (lv_at hl 1 rfl) ?_
                            refine sw_ild hx hb hK hP 2 1 rfl rfl (by omega) (by decide) (v := nI (St ce)) rfl dX1_extend_107 ?_
                            refine lv_aload_n hx hb dX1_extend_108 rfl (lv_at hl 0 rfl) ?_
                            refine va_get (D := D) (ci := 1) (v := .ref (ad 3)) (C := RX1) (T := TX1) (N := 7) hx hb hts in_X1 hown hK hP 0 rfl rfl 4 (by decide) (hts _ q211) (fun _ h9 => h9) rfl dX1_extend_109 ?_
                            refine lv_iload hx hb dX1_extend_112 (lv_at hl 6 rfl) ?_
                            refine sw_ild hx hb hK hP 4 3 rfl rfl (by omega) (by decide) (v := nI (T qq)) rfl dX1_extend_114 ?_
                            refine sw_shr hx hb dX1_extend_115 (by omega) (by omega) ?_
                            refine lv_iconst (v := nI (1)) hx hb dX1_extend_116 (by decide) ?_
                            refine sw_and1 hx hb dX1_extend_117 ?_
                            refine lv_iconst (v := nI (1)) hx hb dX1_extend_118 (by decide) ?_
                            refine sw_cne (tgt := 126) hx hb dX1_extend_119 (by decide) (by omega) (by omega) (fun h119 => ?_) (fun h119 => ?_)
                            · have hin2 : qq + 1 ≤ nn → sw_t (PP rr ∧ sw_run St T ce rr (qq + 1)) 0 := fun z => Or.inr ⟨rfl, fun w => h119 ((sw_run_s hrq hIn).mp w)⟩
                              refine lv_iconst (v := nI (0)) hx hb dX1_extend_126 (by decide) ?_
                              refine lv_istore (lv' := [(5, .int (nI (0))), (0, .ref (o)), (1, .int (nI (ce))), (2, .int (nI (fr))), (3, .int (nI (nn))), (4, .int (nI (rr))), (6, .int (nI (qq)))]) hx hb dX1_extend_127 hl (by decide) rfl (fun ls hl => ?_)
                              refine lv_iinc (k := 6) (v := nI (qq + 1)) (lv' := [(6, .int (nI (qq + 1))), (5, .int (nI (0))), (0, .ref (o)), (1, .int (nI (ce))), (2, .int (nI (fr))), (3, .int (nI (nn))), (4, .int (nI (rr)))]) hx hb dX1_extend_129 hl rfl (nI_add _ 1) (by decide) rfl (fun ls hl => ?_)
                              refine lv_goto (tgt := 45) hx hb dX1_extend_132 (by decide) ?_
                              exact ihL45 (0) (qq + 1) (va_up m2 qq 1) (by omega) (by omega) hin2 hJ2 (by omega) _ _ hP hD hS _ (lv_sub hl [2, 3, 4, 5, 6, 1, 0] rfl)
                            · have hin2 : qq + 1 ≤ nn → sw_t (PP rr ∧ sw_run St T ce rr (qq + 1)) 1 := fun z => Or.inl ⟨rfl, (sw_run_s hrq hIn).mpr h119⟩
                              refine lv_iconst (v := nI (1)) hx hb dX1_extend_122 (by decide) ?_
                              refine lv_goto (tgt := 127) hx hb dX1_extend_123 (by decide) ?_
                              refine lv_istore (lv' := [(5, .int (nI (1))), (0, .ref (o)), (1, .int (nI (ce))), (2, .int (nI (fr))), (3, .int (nI (nn))), (4, .int (nI (rr))), (6, .int (nI (qq)))]) hx hb dX1_extend_127 hl (by decide) rfl (fun ls hl => ?_)
                              refine lv_iinc (k := 6) (v := nI (qq + 1)) (lv' := [(6, .int (nI (qq + 1))), (5, .int (nI (1))), (0, .ref (o)), (1, .int (nI (ce))), (2, .int (nI (fr))), (3, .int (nI (nn))), (4, .int (nI (rr)))]) hx hb dX1_extend_129 hl rfl (nI_add _ 1) (by decide) rfl (fun ls hl => ?_)
                              refine lv_goto (tgt := 45) hx hb dX1_extend_132 (by decide) ?_
                              exact ihL45 (1) (qq + 1) (va_up m2 qq 1) (by omega) (by omega) hin2 hJ2 (by omega) _ _ hP hD hS _ (lv_sub hl [2, 3, 4, 5, 6, 1, 0] rfl)
                        · have hJ2 := sw_xJ_s (v := 0) hrq hqn hfr2 hIn (Or.inr ⟨rfl, h69, hr84⟩) hJ
                          refine sw_ifeq (tgt := 94) hx hb dX1_extend_87 (by decide) (by decide) (fun _ => ?_) (fun q => absurd rfl q)
                          refine lv_iconst (v := nI (0)) hx hb dX1_extend_94 (by decide) ?_
                          refine sw_zst hx hb hK hP hD hS 6 5 rfl rfl (by omega) (by decide) (sw_naB (by omega)) (sw_updN _ _ _) dX1_extend_95 (fun H locs hP hD hS => ?_)
                          have hP : va_P D vwCl (wM o ad kc Sz St Ct L T fi (va_up m2 qq 0)) H := hP
                          have hD : va_D A (wM o ad kc Sz St Ct L T fi (va_up m2 qq 0)) := hD
                          refine lv_iload hx hb dX1_extend_96 (lv_at hl 6 rfl) ?_
                          refine lv_iload_n hx hb dX1_extend_98 rfl (lv_at hl 3 rfl) ?_
                          refine sw_cge (tgt := 126) hx hb dX1_extend_99 (by decide) (by omega) (by omega) (fun h99 => ?_) (fun h99 => ?_)
                          · have hin2 : qq + 1 ≤ nn → sw_t (PP rr ∧ sw_run St T ce rr (qq + 1)) 0 := fun z => absurd z (by omega)
                            refine lv_iconst (v := nI (0)) hx hb dX1_extend_126 (by decide) ?_
                            refine lv_istore (lv' := [(5, .int (nI (0))), (0, .ref (o)), (1, .int (nI (ce))), (2, .int (nI (fr))), (3, .int (nI (nn))), (4, .int (nI (rr))), (6, .int (nI (qq)))]) hx hb dX1_extend_127 hl (by decide) rfl (fun ls hl => ?_)
                            refine lv_iinc (k := 6) (v := nI (qq + 1)) (lv' := [(6, .int (nI (qq + 1))), (5, .int (nI (0))), (0, .ref (o)), (1, .int (nI (ce))), (2, .int (nI (fr))), (3, .int (nI (nn))), (4, .int (nI (rr)))]) hx hb dX1_extend_129 hl rfl (nI_add _ 1) (by decide) rfl (fun ls hl => ?_)
                            refine lv_goto (tgt := 45) hx hb dX1_extend_132 (by decide) ?_
                            exact ihL45 (0) (qq + 1) (va_up m2 qq 0) (by omega) (by omega) hin2 hJ2 (by omega) _ _ hP hD hS _ (lv_sub hl [2, 3, 4, 5, 6, 1, 0] rfl)
                          · refine lv_aload_n hx hb dX1_extend_102 rfl (lv_at hl 0 rfl) ?_
                            refine va_get (D := D) (ci := 1) (v := .ref (ad 1)) (C := RX1) (T := TX1) (N := 7) hx hb hts in_X1 hown hK hP 0 rfl rfl 1 (by decide) (hts _ q208) (fun _ h9 => h9) rfl dX1_extend_103 ?_
                            refine lv_iload_n hx hb dX1_extend_106 rfl (lv_at hl 1 rfl) ?_
                            refine sw_ild hx hb hK hP 2 1 rfl rfl (by omega) (by decide) (v := nI (St ce)) rfl dX1_extend_107 ?_
                            refine lv_aload_n hx hb dX1_extend_108 rfl (lv_at hl 0 rfl) ?_
                            refine va_get (D := D) (ci := 1) (v := .ref (ad 3)) (C := RX1) (T := TX1) (N := 7) hx hb hts in_X1 hown hK hP 0 rfl rfl 4 (by decide) (hts _ q211) (fun _ h9 => h9) rfl dX1_extend_109 ?_
                            refine lv_iload hx hb dX1_extend_112 (lv_at hl 6 rfl) ?_
                            refine sw_ild hx hb hK hP 4 3 rfl rfl (by omega) (by decide) (v := nI (T qq)) rfl dX1_extend_114 ?_
                            refine sw_shr hx hb dX1_extend_115 (by omega) (by omega) ?_
                            refine lv_iconst (v := nI (1)) hx hb dX1_extend_116 (by decide) ?_
                            refine sw_and1 hx hb dX1_extend_117 ?_
                            refine lv_iconst (v := nI (1)) hx hb dX1_extend_118 (by decide) ?_
                            refine sw_cne (tgt := 126) hx hb dX1_extend_119 (by decide) (by omega) (by omega) (fun h119 => ?_) (fun h119 => ?_)
                            · have hin2 : qq + 1 ≤ nn → sw_t (PP rr ∧ sw_run St T ce rr (qq + 1)) 0 := fun z => Or.inr ⟨rfl, fun w => h119 ((sw_run_s hrq hIn).mp w)⟩
                              refine lv_iconst (v := nI (0)) hx hb dX1_extend_126 (by decide) ?_
                              refine lv_istore (lv' := [(5, .int (nI (0))), (0, .ref (o)), (1, .int (nI (ce))), (2, .int (nI (fr))), (3, .int (nI (nn))), (4, .int (nI (rr))), (6, .int (nI (qq)))]) hx hb dX1_extend_127 hl (by decide) rfl (fun ls hl => ?_)
                              refine lv_iinc (k := 6) (v := nI (qq + 1)) (lv' := [(6, .int (nI (qq + 1))), (5, .int (nI (0))), (0, .ref (o)), (1, .int (nI (ce))), (2, .int (nI (fr))), (3, .int (nI (nn))), (4, .int (nI (rr)))]) hx hb dX1_extend_129 hl rfl (nI_add _ 1) (by decide) rfl (fun ls hl => ?_)
                              refine lv_goto (tgt := 45) hx hb dX1_extend_132 (by decide) ?_
                              exact ihL45 (0) (qq + 1) (va_up m2 qq 0) (by omega) (by omega) hin2 hJ2 (by omega) _ _ hP hD hS _ (lv_sub hl [2, 3, 4, 5, 6, 1, 0] rfl)
                            · have hin2 : qq + 1 ≤ nn → sw_t (PP rr ∧ sw_run St T ce rr (qq + 1)) 1 := fun z => Or.inl ⟨rfl, (sw_run_s hrq hIn).mpr h119⟩
                              refine lv_iconst (v := nI (1)) hx hb dX1_extend_122 (by decide) ?_
                              refine lv_goto (tgt := 127) hx hb dX1_extend_123 (by decide) ?_
                              refine lv_istore (lv' := [(5, .int (nI (1))), (0, .ref (o)), (1, .int (nI (ce))), (2, .int (nI (fr))), (3, .int (nI (nn))), (4, .int (nI (rr))), (6, .int (nI (qq)))]) hx hb dX1_extend_127 hl (by decide) rfl (fun ls hl => ?_)
                              refine lv_iinc (k := 6) (v := nI (qq + 1)) (lv' := [(6, .int (nI (qq + 1))), (5, .int (nI (1))), (0, .ref (o)), (1, .int (nI (ce))), (2, .int (nI (fr))), (3, .int (nI (nn))), (4, .int (nI (rr)))]) hx hb dX1_extend_129 hl rfl (nI_add _ 1) (by decide) rfl (fun ls hl => ?_)
                              refine lv_goto (tgt := 45) hx hb dX1_extend_132 (by decide) ?_
                              exact ihL45 (1) (qq + 1) (va_up m2 qq 0) (by omega) (by omega) hin2 hJ2 (by omega) _ _ hP hD hS _ (lv_sub hl [2, 3, 4, 5, 6, 1, 0] rfl)
              exact L45 (nn + 1 - (rr) + 1) (fi rr) (rr) (m1) (by omega) (by omega) (fun _ => sw_t_iff ⟨fun z => ⟨z, fun t a b => absurd a (by omega)⟩, fun z => z.1⟩ (hF rr hfr2 h29)) (sw_xJ_0 hI) (Nat.lt_succ_self _) _ _ hP hD hS _ (lv_sub hl [2, 3, 4, 5, 6, 1, 0] rfl)
        exact L26 (nn + 1 - (fr) + 1) (fr) (m1) (by omega) (by omega) (sw_xI_0 h6 hZ) (Nat.lt_succ_self _) _ _ hP hD hS _ (lv_sub hl [1, 2, 3, 4, 0] rfl)
      · refine lv_aload_n hx hb dX1_extend_9 rfl (lv_at hl 0 rfl) ?_
        refine va_get (D := D) (ci := 1) (v := .ref (ad 5)) (C := RX1) (T := TX1) (N := 7) hx hb hts in_X1 hown hK hP 0 rfl rfl 6 (by decide) (hts _ q213) (fun _ h9 => h9) rfl dX1_extend_10 ?_
        refine lv_iload hx hb dX1_extend_13 (lv_at hl 4 rfl) ?_
        refine lv_iconst (v := nI (0)) hx hb dX1_extend_15 (by decide) ?_
        refine sw_zst hx hb hK hP hD hS 6 5 rfl rfl (by omega) (by decide) (sw_naB (by omega)) (sw_updN _ _ _) dX1_extend_16 (fun H locs hP hD hS => ?_)
        have hP : va_P D vwCl (wM o ad kc Sz St Ct L T fi (va_up m1 q 0)) H := hP
        have hD : va_D A (wM o ad kc Sz St Ct L T fi (va_up m1 q 0)) := hD
        refine lv_iinc (k := 4) (v := nI (q + 1)) (lv' := [(4, .int (nI (q + 1))), (0, .ref (o)), (1, .int (nI (ce))), (2, .int (nI (fr))), (3, .int (nI (nn)))]) hx hb dX1_extend_17 hl rfl (nI_add _ 1) (by decide) rfl (fun ls hl => ?_)
        refine lv_goto (tgt := 3) hx hb dX1_extend_20 (by decide) ?_
        exact ihL3 (q + 1) (va_up m1 q 0) (by omega) (by omega) (fun y a b => by by_cases e : y = q; rw [e, sw_us]; rw [sw_un e]; exact hZ y a (by omega)) (by omega) _ _ hP hD hS _ (lv_sub hl [1, 2, 3, 4, 0] rfl)
  exact L3 (nn + 1 - (fr) + 1) (fr) (mo) (by omega) (by omega) (fun y a b => absurd a (by omega)) (Nat.lt_succ_self _) _ _ hP hD hS _ (lv_sub hl [1, 2, 3, 4, 0] rfl)
set_option maxRecDepth 100000 in
theorem mX1_extend (l : Launch) {D : va_G} {o : Nat} {ad : Nat → Nat} {kc : Nat → ClassId} {Sz : Nat → Nat} {St : Nat → Nat} {Ct : Nat → Nat} {L : Nat} {T : Nat → Nat} {fi : Nat → Nat} {mo : Nat → Nat} {ce : Nat} {fr : Nat} {nn : Nat} (PP : Nat → Prop) (hce : ce < 24) (hfn : fr ≤ nn) (hnn : nn ≤ 61) (hO : sw_Ok Sz St Ct T L) (hF : ∀ q, fr ≤ q → q ≤ nn → sw_t (PP q) (fi q)) (sz : Nat) : Met l yX1_extend (ws_ yX1_extend cX1_extend 7 (none)) ({ frames := 1, cells := 0, slots := 0, locals := 22 }) (sw_M D vwCl (wM o ad kc Sz St Ct L T fi mo) (tyM kc) sz [.ref o, .int (nI (ce)), .int (nI (fr)), .int (nI (nn))]) (va_Qv (fun (u : (Nat → Nat) × (Nat → Nat)) => ∀ q, fr ≤ q → q ≤ nn → sw_t (∃ y, fr ≤ y ∧ y ≤ q ∧ PP y ∧ sw_run St T ce y q ∧ sw_alw (Ct ce) (q - y)) (u.1 q)) (sw_B D vwCl (tyM kc) (va_A (wM o ad kc Sz St Ct L T fi mo) sz) (fun u : (Nat → Nat) × (Nat → Nat) => wM o ad kc Sz St Ct L T (u.1) (u.2))) (va_A (wM o ad kc Sz St Ct L T fi mo) sz)) 0 0 (va_A (wM o ad kc Sz St Ct L T fi mo) sz) := sw_metV (by decide) (Nat.le_of_ble_eq_true rfl) (fun p e s m below meth c Q ls A S hK hP hD hA hl ret => bX1_extend S (Nat.le_refl _) (Nat.le_refl _) hK hP hD va_S.rf hA PP hce hfn hnn hO hF ret hl) sz
set_option maxHeartbeats 4000000 in
set_option maxRecDepth 100000 in
theorem bX1_work {D : va_G} {o : Nat} {ad : Nat → Nat} {kc : Nat → ClassId} {Sz : Nat → Nat} {St : Nat → Nat} {Ct : Nat → Nat} {L : Nat} {T : Nat → Nat} {fi : Nat → Nat} {mo : Nat → Nat} {pn : Nat} {fr : Nat} {nn : Nat} (S : CallFix p m c cX1_work 5 s args lw_all RX1) (hRf : 2 ≤ R.frames) (hRl : 48 ≤ R.locals) (hK : va_K D vwCl (tyM kc) s) (hP : va_P D vwCl (wM o ad kc Sz St Ct L T fi mo) H) (hD : va_D A (wM o ad kc Sz St Ct L T fi mo)) (hS : va_S A H0 H locs) (hA : ∀ q, H0.size ≤ q → A q) (hp : pn < 4) (hfn : fr ≤ nn) (hnn : nn ≤ 61) (hO : sw_Ok Sz St Ct T L) (ret : ∀ (pc : Nat) (ls : Array Slot) (u : (Nat → Nat) × (Nat → Nat)) (H1 : Heap) (locs1 : List Loc), decode cX1_work pc = .ok (.return_, 1) → (∀ q, fr ≤ q → q ≤ nn → sw_t (sw_E Sz St Ct T pn fr q) (u.1 q)) → va_P D vwCl ((fun u : (Nat → Nat) × (Nat → Nat) => wM o ad kc Sz St Ct L T (u.1) (u.2)) u) H1 → va_D A ((fun u : (Nat → Nat) × (Nat → Nat) => wM o ad kc Sz St Ct L T (u.1) (u.2)) u) → va_S A H0 H1 locs1 → W p l e R s m args below meth c H1 locs1 0 0 Q (F0 m pc ls [])) (hl : lv_has ls 5 [(0, .ref (o)), (1, .int (nI (pn))), (2, .int (nI (fr))), (3, .int (nI (nn)))]) : W p l e R s m args below meth c H locs 0 0 Q (F0 m 0 ls []) := by
  have hx := S.1
  have hb := S.2.1
  have hown := S.2.2.2.1
  have hts := S.2.2.2.2
  have hO2 := hO
  obtain ⟨hs, ht, hc, hT, hL⟩ := hO
  have hsp := hs pn
  refine lv_iload_n hx hb dX1_work_0 rfl (lv_at hl 2 rfl) ?_
  refine lv_istore (lv' := [(4, .int (nI (fr))), (0, .ref (o)), (1, .int (nI (pn))), (2, .int (nI (fr))), (3, .int (nI (nn)))]) hx hb dX1_work_1 hl (by decide) rfl (fun ls hl => ?_)
  have L3 : ∀ (n : Nat) (q : Nat) (f1 : Nat → Nat), (fr ≤ q) → (q ≤ nn + 1) → (∀ y, fr ≤ y → y < q → sw_t (y = fr) (f1 y)) → nn + 1 - q < n → ∀ (H : Heap) (locs : List Loc), va_P D vwCl (wM o ad kc Sz St Ct L T f1 mo) H → va_D A (wM o ad kc Sz St Ct L T f1 mo) → va_S A H0 H locs → ∀ (ls : Array Slot), lv_has ls 5 [(0, .ref (o)), (1, .int (nI (pn))), (2, .int (nI (fr))), (3, .int (nI (nn))), (4, .int (nI (q)))] → W p l e R s m args below meth c H locs 0 0 Q (F0 m 3 ls []) := by
    intro n
    induction n with
    | zero => intro q f1 _ _ _ hm; exact absurd hm (Nat.not_lt_zero _)
    | succ n ihL3 =>
      intro q f1 hq1 hq2 hZ hmL3 H locs hP hD hS ls hl
      refine lv_iload hx hb dX1_work_3 (lv_at hl 4 rfl) ?_
      refine lv_iload_n hx hb dX1_work_5 rfl (lv_at hl 3 rfl) ?_
      refine sw_cgt (tgt := 33) hx hb dX1_work_6 (by decide) (by omega) (by omega) (fun h6 => ?_) (fun h6 => ?_)
      · refine lv_iconst (v := nI (0)) hx hb dX1_work_33 (by decide) ?_
        refine lv_istore (lv' := [(4, .int (nI (0))), (0, .ref (o)), (1, .int (nI (pn))), (2, .int (nI (fr))), (3, .int (nI (nn)))]) hx hb dX1_work_34 hl (by decide) rfl (fun ls hl => ?_)
        have L36 : ∀ (n : Nat) (kn : Nat) (f1 : Nat → Nat) (m1 : Nat → Nat), (kn ≤ Sz pn) → (∀ q, fr ≤ q → q ≤ nn → sw_t (sw_F St Ct T (pn * 6) kn fr q) (f1 q)) → Sz pn - kn < n → ∀ (H : Heap) (locs : List Loc), va_P D vwCl (wM o ad kc Sz St Ct L T f1 m1) H → va_D A (wM o ad kc Sz St Ct L T f1 m1) → va_S A H0 H locs → ∀ (ls : Array Slot), lv_has ls 5 [(0, .ref (o)), (1, .int (nI (pn))), (2, .int (nI (fr))), (3, .int (nI (nn))), (4, .int (nI (kn)))] → W p l e R s m args below meth c H locs 0 0 Q (F0 m 36 ls []) := by
          intro n
          induction n with
          | zero => intro kn f1 m1 _ _ hm; exact absurd hm (Nat.not_lt_zero _)
          | succ n ihL36 =>
            intro kn f1 m1 hk hI hmL36 H locs hP hD hS ls hl
            refine lv_iload hx hb dX1_work_36 (lv_at hl 4 rfl) ?_
            refine lv_aload_n hx hb dX1_work_38 rfl (lv_at hl 0 rfl) ?_
            refine va_get (D := D) (ci := 1) (v := .ref (ad 0)) (C := RX1) (T := TX1) (N := 7) hx hb hts in_X1 hown hK hP 0 rfl rfl 0 (by decide) (hts _ q207) (fun _ h9 => h9) rfl dX1_work_39 ?_
            refine lv_iload_n hx hb dX1_work_42 rfl (lv_at hl 1 rfl) ?_
            refine sw_ild hx hb hK hP 1 0 rfl rfl (by omega) (by decide) (v := nI (Sz pn)) rfl dX1_work_43 ?_
            refine sw_cge (tgt := 66) hx hb dX1_work_44 (by decide) (by omega) (by omega) (fun h44 => ?_) (fun h44 => ?_)
            · exact ret _ _ (f1, m1) _ _ dX1_work_66 (fun q a b => by have z := hI q a b; rw [show kn = Sz pn by omega] at z; exact z) hP hD hS
            · refine lv_aload_n hx hb dX1_work_47 rfl (lv_at hl 0 rfl) ?_
              refine lv_bipush (v := nI (6)) hx hb dX1_work_48 (by decide) ?_
              refine lv_iload_n hx hb dX1_work_50 rfl (lv_at hl 1 rfl) ?_
              refine sw_mul hx hb dX1_work_51 ?_
              refine lv_iload hx hb dX1_work_52 (lv_at hl 4 rfl) ?_
              refine sw_add hx hb dX1_work_54 ?_
              refine sw_top (y := nI ((pn * 6 + kn))) (congrArg nI (by omega)) ?_
              refine lv_iload_n hx hb dX1_work_55 rfl (lv_at hl 2 rfl) ?_
              refine lv_iload_n hx hb dX1_work_56 rfl (lv_at hl 3 rfl) ?_
              refine sw_cvV (As := [.int (nI ((pn * 6 + kn))), .int (nI (fr)), .int (nI (nn))]) (rest := []) (C := RX1) (ci := 1) (q0 := 0) S (fun sz => (mX1_extend l (fun q => sw_F St Ct T (pn * 6) kn fr q) (by omega) hfn hnn hO2 hI sz)) (cwV 3 hts (lw_V q262 q264 qs17 q21 q265) rfl rfl rfl (by decide +kernel) ⟨Nat.le_trans (Nat.le_of_ble_eq_true rfl) hRf, Nat.le_trans (Nat.le_of_ble_eq_true rfl) hRl⟩) hK hP hD hS hA rfl rfl rfl rfl hl.1 rfl (Nat.le_of_ble_eq_true rfl) dX1_work_57 ⟨Nat.zero_le _, Nat.zero_le _⟩ (fun u H locs hr hP hD hS => ?_)
              obtain ⟨fi_57, mo_57⟩ := u
              have hP : va_P D vwCl (wM o ad kc Sz St Ct L T fi_57 mo_57) H := hP
              have hD : va_D A (wM o ad kc Sz St Ct L T fi_57 mo_57) := hD
              have hI2 : ∀ q, fr ≤ q → q ≤ nn → sw_t (sw_F St Ct T (pn * 6) (kn + 1) fr q) (fi_57 q) := hr
              refine lv_iinc (k := 4) (v := nI (kn + 1)) (lv' := [(4, .int (nI (kn + 1))), (0, .ref (o)), (1, .int (nI (pn))), (2, .int (nI (fr))), (3, .int (nI (nn)))]) hx hb dX1_work_60 hl rfl (nI_add _ 1) (by decide) rfl (fun ls hl => ?_)
              refine lv_goto (tgt := 36) hx hb dX1_work_63 (by decide) ?_
              exact ihL36 (kn + 1) (fi_57) (mo_57) (by omega) hI2 (by omega) _ _ hP hD hS _ (lv_sub hl [1, 2, 3, 4, 0] rfl)
        exact L36 (Sz pn - (0) + 1) (0) (f1) (mo) (by omega) (fun y a b => hZ y a (by omega)) (Nat.lt_succ_self _) _ _ hP hD hS _ (lv_sub hl [1, 2, 3, 4, 0] rfl)
      · refine lv_aload_n hx hb dX1_work_9 rfl (lv_at hl 0 rfl) ?_
        refine va_get (D := D) (ci := 1) (v := .ref (ad 4)) (C := RX1) (T := TX1) (N := 7) hx hb hts in_X1 hown hK hP 0 rfl rfl 5 (by decide) (hts _ q212) (fun _ h9 => h9) rfl dX1_work_10 ?_
        refine lv_iload hx hb dX1_work_13 (lv_at hl 4 rfl) ?_
        refine lv_iload hx hb dX1_work_15 (lv_at hl 4 rfl) ?_
        refine lv_iload_n hx hb dX1_work_17 rfl (lv_at hl 2 rfl) ?_
        refine sw_cne (tgt := 25) hx hb dX1_work_18 (by decide) (by omega) (by omega) (fun h18 => ?_) (fun h18 => ?_)
        · have hZ2 : ∀ y, fr ≤ y → y < q + 1 → sw_t (y = fr) (va_up f1 q 0 y) := fun y a b => by by_cases e : y = q; rw [e, sw_us]; exact Or.inr ⟨rfl, h18⟩; rw [sw_un e]; exact hZ y a (by omega)
          refine lv_iconst (v := nI (0)) hx hb dX1_work_25 (by decide) ?_
          refine sw_zst hx hb hK hP hD hS 5 4 rfl rfl (by omega) (by decide) (sw_naB (by omega)) (sw_updN _ _ _) dX1_work_26 (fun H locs hP hD hS => ?_)
          have hP : va_P D vwCl (wM o ad kc Sz St Ct L T (va_up f1 q 0) mo) H := hP
          have hD : va_D A (wM o ad kc Sz St Ct L T (va_up f1 q 0) mo) := hD
          refine lv_iinc (k := 4) (v := nI (q + 1)) (lv' := [(4, .int (nI (q + 1))), (0, .ref (o)), (1, .int (nI (pn))), (2, .int (nI (fr))), (3, .int (nI (nn)))]) hx hb dX1_work_27 hl rfl (nI_add _ 1) (by decide) rfl (fun ls hl => ?_)
          refine lv_goto (tgt := 3) hx hb dX1_work_30 (by decide) ?_
          exact ihL3 (q + 1) (va_up f1 q 0) (by omega) (by omega) hZ2 (by omega) _ _ hP hD hS _ (lv_sub hl [1, 2, 3, 4, 0] rfl)
        · have hZ2 : ∀ y, fr ≤ y → y < q + 1 → sw_t (y = fr) (va_up f1 q 1 y) := fun y a b => by by_cases e : y = q; rw [e, sw_us]; exact Or.inl ⟨rfl, h18⟩; rw [sw_un e]; exact hZ y a (by omega)
          refine lv_iconst (v := nI (1)) hx hb dX1_work_21 (by decide) ?_
          refine lv_goto (tgt := 26) hx hb dX1_work_22 (by decide) ?_
          refine sw_zst hx hb hK hP hD hS 5 4 rfl rfl (by omega) (by decide) (sw_naB (by omega)) (sw_updN _ _ _) dX1_work_26 (fun H locs hP hD hS => ?_)
          have hP : va_P D vwCl (wM o ad kc Sz St Ct L T (va_up f1 q 1) mo) H := hP
          have hD : va_D A (wM o ad kc Sz St Ct L T (va_up f1 q 1) mo) := hD
          refine lv_iinc (k := 4) (v := nI (q + 1)) (lv' := [(4, .int (nI (q + 1))), (0, .ref (o)), (1, .int (nI (pn))), (2, .int (nI (fr))), (3, .int (nI (nn)))]) hx hb dX1_work_27 hl rfl (nI_add _ 1) (by decide) rfl (fun ls hl => ?_)
          refine lv_goto (tgt := 3) hx hb dX1_work_30 (by decide) ?_
          exact ihL3 (q + 1) (va_up f1 q 1) (by omega) (by omega) hZ2 (by omega) _ _ hP hD hS _ (lv_sub hl [1, 2, 3, 4, 0] rfl)
  exact L3 (nn + 1 - (fr) + 1) (fr) (fi) (by omega) (by omega) (fun y a b => absurd a (by omega)) (Nat.lt_succ_self _) _ _ hP hD hS _ (lv_sub hl [1, 2, 3, 4, 0] rfl)
set_option maxRecDepth 100000 in
theorem mX1_work (l : Launch) {D : va_G} {o : Nat} {ad : Nat → Nat} {kc : Nat → ClassId} {Sz : Nat → Nat} {St : Nat → Nat} {Ct : Nat → Nat} {L : Nat} {T : Nat → Nat} {fi : Nat → Nat} {mo : Nat → Nat} {pn : Nat} {fr : Nat} {nn : Nat} (hp : pn < 4) (hfn : fr ≤ nn) (hnn : nn ≤ 61) (hO : sw_Ok Sz St Ct T L) (sz : Nat) : Met l yX1_work (ws_ yX1_work cX1_work 5 (none)) ({ frames := 2, cells := 0, slots := 0, locals := 48 }) (sw_M D vwCl (wM o ad kc Sz St Ct L T fi mo) (tyM kc) sz [.ref o, .int (nI (pn)), .int (nI (fr)), .int (nI (nn))]) (va_Qv (fun (u : (Nat → Nat) × (Nat → Nat)) => ∀ q, fr ≤ q → q ≤ nn → sw_t (sw_E Sz St Ct T pn fr q) (u.1 q)) (sw_B D vwCl (tyM kc) (va_A (wM o ad kc Sz St Ct L T fi mo) sz) (fun u : (Nat → Nat) × (Nat → Nat) => wM o ad kc Sz St Ct L T (u.1) (u.2))) (va_A (wM o ad kc Sz St Ct L T fi mo) sz)) 0 0 (va_A (wM o ad kc Sz St Ct L T fi mo) sz) := sw_metV (by decide) (Nat.le_of_ble_eq_true rfl) (fun p e s m below meth c Q ls A S hK hP hD hA hl ret => bX1_work S (Nat.le_refl _) (Nat.le_refl _) hK hP hD va_S.rf hA hp hfn hnn hO ret hl) sz
end SWB
end
section
section SWB
variable {p : Program} {l : Launch} {e : Env} {R : Room} {s : State} {m : MethodId} {args : Array Value} {below : List Frame} {meth : Method} {c : Code} {H : Heap} {locs : List Loc} {Q : State → Prop} {ls : Array Slot} {A : Nat → Prop} {H0 : Heap}
set_option maxHeartbeats 4000000 in
set_option maxRecDepth 100000 in
theorem bX1_endsAt {D : va_G} {o : Nat} {ad : Nat → Nat} {kc : Nat → ClassId} {Sz : Nat → Nat} {St : Nat → Nat} {Ct : Nat → Nat} {L : Nat} {T : Nat → Nat} {fi : Nat → Nat} {mo : Nat → Nat} {pn : Nat} {tn : Nat} (S : CallFix p m c cX1_endsAt 6 s args lw_all RX1) (hRf : 3 ≤ R.frames) (hRl : 72 ≤ R.locals) (hK : va_K D vwCl (tyM kc) s) (hP : va_P D vwCl (wM o ad kc Sz St Ct L T fi mo) H) (hD : va_D A (wM o ad kc Sz St Ct L T fi mo)) (hS : va_S A H0 H locs) (hA : ∀ q, H0.size ≤ q → A q) (hp : pn < 4) (htn : tn ≤ 60) (hO : sw_Ok Sz St Ct T L) (ret : ∀ (pc : Nat) (ls : Array Slot) (r : Int32) (u : (Nat → Nat) × (Nat → Nat)) (H1 : Heap) (locs1 : List Loc), decode cX1_endsAt pc = .ok (.ireturn, 1) → (sw_b (∃ b, sw_Eb Sz St Ct T pn tn b) r) → va_P D vwCl ((fun u : (Nat → Nat) × (Nat → Nat) => wM o ad kc Sz St Ct L T (u.1) (u.2)) u) H1 → va_D A ((fun u : (Nat → Nat) × (Nat → Nat) => wM o ad kc Sz St Ct L T (u.1) (u.2)) u) → va_S A H0 H1 locs1 → W p l e R s m args below meth c H1 locs1 0 0 Q (F0 m pc ls [.int r])) (hl : lv_has ls 6 [(0, .ref (o)), (1, .int (nI (pn))), (2, .int (nI (tn))), (3, .int (nI (tn + 1)))]) : W p l e R s m args below meth c H locs 0 0 Q (F0 m 0 ls []) := by
  have hx := S.1
  have hb := S.2.1
  have hown := S.2.2.2.1
  have hts := S.2.2.2.2
  refine lv_iconst (v := nI (0)) hx hb dX1_endsAt_0 (by decide) ?_
  refine lv_istore (lv' := [(4, .int (nI (0))), (0, .ref (o)), (1, .int (nI (pn))), (2, .int (nI (tn))), (3, .int (nI (tn + 1)))]) hx hb dX1_endsAt_1 hl (by decide) rfl (fun ls hl => ?_)
  refine lv_iconst (v := nI (0)) hx hb dX1_endsAt_3 (by decide) ?_
  refine lv_istore (lv' := [(5, .int (nI (0))), (4, .int (nI (0))), (0, .ref (o)), (1, .int (nI (pn))), (2, .int (nI (tn))), (3, .int (nI (tn + 1)))]) hx hb dX1_endsAt_4 hl (by decide) rfl (fun ls hl => ?_)
  have L6 : ∀ (n : Nat) (fd : Nat) (fr : Nat) (f1 : Nat → Nat) (m1 : Nat → Nat), (fr ≤ tn + 1) → (sw_t (∃ b, b < fr ∧ sw_E Sz St Ct T pn b (tn + 1)) fd) → tn + 1 - fr < n → ∀ (H : Heap) (locs : List Loc), va_P D vwCl (wM o ad kc Sz St Ct L T f1 m1) H → va_D A (wM o ad kc Sz St Ct L T f1 m1) → va_S A H0 H locs → ∀ (ls : Array Slot), lv_has ls 6 [(0, .ref (o)), (1, .int (nI (pn))), (2, .int (nI (tn))), (3, .int (nI (tn + 1))), (4, .int (nI (fd))), (5, .int (nI (fr)))] → W p l e R s m args below meth c H locs 0 0 Q (F0 m 6 ls []) := by
    intro n
    induction n with
    | zero => intro fd fr f1 m1 _ _ hm; exact absurd hm (Nat.not_lt_zero _)
    | succ n ihL6 =>
      intro fd fr f1 m1 hfr hI hmL6 H locs hP hD hS ls hl
      refine lv_iload hx hb dX1_endsAt_6 (lv_at hl 5 rfl) ?_
      refine lv_iload_n hx hb dX1_endsAt_8 rfl (lv_at hl 2 rfl) ?_
      refine sw_cgt (tgt := 49) hx hb dX1_endsAt_9 (by decide) (by omega) (by omega) (fun h9 => ?_) (fun h9 => ?_)
      · refine lv_iload hx hb dX1_endsAt_49 (lv_at hl 4 rfl) ?_
        exact ret _ _ _ (f1, m1) _ _ dX1_endsAt_51 (sw_b_of_t (sw_ea_e (by omega) hI)) hP hD hS
      · refine lv_aload_n hx hb dX1_endsAt_12 rfl (lv_at hl 0 rfl) ?_
        refine lv_iload_n hx hb dX1_endsAt_13 rfl (lv_at hl 1 rfl) ?_
        refine lv_iload hx hb dX1_endsAt_14 (lv_at hl 5 rfl) ?_
        refine lv_iload_n hx hb dX1_endsAt_16 rfl (lv_at hl 3 rfl) ?_
        refine sw_cvV (As := [.int (nI (pn)), .int (nI (fr)), .int (nI (tn + 1))]) (rest := []) (C := RX1) (ci := 1) (q0 := 0) S (fun sz => (mX1_work l hp (by omega) (by omega) hO sz)) (cwV 3 hts (lw_V q258 q260 qs16 q21 q261) rfl rfl rfl (by decide +kernel) ⟨Nat.le_trans (Nat.le_of_ble_eq_true rfl) hRf, Nat.le_trans (Nat.le_of_ble_eq_true rfl) hRl⟩) hK hP hD hS hA rfl rfl rfl rfl hl.1 rfl (Nat.le_of_ble_eq_true rfl) dX1_endsAt_17 ⟨Nat.zero_le _, Nat.zero_le _⟩ (fun u H locs hr hP hD hS => ?_)
        obtain ⟨fi_17, mo_17⟩ := u
        have hP : va_P D vwCl (wM o ad kc Sz St Ct L T fi_17 mo_17) H := hP
        have hD : va_D A (wM o ad kc Sz St Ct L T fi_17 mo_17) := hD
        have hX : sw_t (sw_E Sz St Ct T pn fr (tn + 1)) (fi_17 (tn + 1)) := hr (tn + 1) (by omega) (Nat.le_refl _)
        have hXl := sw_t_lt hX
        have hfd := sw_t_lt hI
        refine lv_iload hx hb dX1_endsAt_20 (lv_at hl 4 rfl) ?_
        refine sw_ifne (tgt := 36) hx hb dX1_endsAt_22 (by decide) (by omega) (fun h22 => ?_) (fun h22 => ?_)
        · have hI2 := sw_ea_s (v := 1) hX hI (Or.inl ⟨rfl, Or.inl h22⟩)
          refine lv_iconst (v := nI (1)) hx hb dX1_endsAt_36 (by decide) ?_
          refine lv_goto (tgt := 41) hx hb dX1_endsAt_37 (by decide) ?_
          refine lv_istore (lv' := [(4, .int (nI (1))), (0, .ref (o)), (1, .int (nI (pn))), (2, .int (nI (tn))), (3, .int (nI (tn + 1))), (5, .int (nI (fr)))]) hx hb dX1_endsAt_41 hl (by decide) rfl (fun ls hl => ?_)
          refine lv_iinc (k := 5) (v := nI (fr + 1)) (lv' := [(5, .int (nI (fr + 1))), (4, .int (nI (1))), (0, .ref (o)), (1, .int (nI (pn))), (2, .int (nI (tn))), (3, .int (nI (tn + 1)))]) hx hb dX1_endsAt_43 hl rfl (nI_add _ 1) (by decide) rfl (fun ls hl => ?_)
          refine lv_goto (tgt := 6) hx hb dX1_endsAt_46 (by decide) ?_
          exact ihL6 (1) (fr + 1) (fi_17) (mo_17) (by omega) hI2 (by omega) _ _ hP hD hS _ (lv_sub hl [2, 3, 4, 5, 1, 0] rfl)
        · refine lv_aload_n hx hb dX1_endsAt_25 rfl (lv_at hl 0 rfl) ?_
          refine va_get (D := D) (ci := 1) (v := .ref (ad 4)) (C := RX1) (T := TX1) (N := 7) hx hb hts in_X1 hown hK hP 0 rfl rfl 5 (by decide) (hts _ q212) (fun _ h9 => h9) rfl dX1_endsAt_26 ?_
          refine lv_iload_n hx hb dX1_endsAt_29 rfl (lv_at hl 2 rfl) ?_
          refine lv_iconst (v := nI (1)) hx hb dX1_endsAt_30 (by decide) ?_
          refine sw_add hx hb dX1_endsAt_31 ?_
          refine sw_zld hx hb hK hP 5 4 rfl rfl (by omega) (by decide) (v := nI (fi_17 (tn + 1))) rfl dX1_endsAt_32 ?_
          refine sw_ifeq (tgt := 40) hx hb dX1_endsAt_33 (by decide) (by omega) (fun h33 => ?_) (fun h33 => ?_)
          · have hI2 := sw_ea_s (v := 0) hX hI (Or.inr ⟨rfl, h22, h33⟩)
            refine lv_iconst (v := nI (0)) hx hb dX1_endsAt_40 (by decide) ?_
            refine lv_istore (lv' := [(4, .int (nI (0))), (0, .ref (o)), (1, .int (nI (pn))), (2, .int (nI (tn))), (3, .int (nI (tn + 1))), (5, .int (nI (fr)))]) hx hb dX1_endsAt_41 hl (by decide) rfl (fun ls hl => ?_)
            refine lv_iinc (k := 5) (v := nI (fr + 1)) (lv' := [(5, .int (nI (fr + 1))), (4, .int (nI (0))), (0, .ref (o)), (1, .int (nI (pn))), (2, .int (nI (tn))), (3, .int (nI (tn + 1)))]) hx hb dX1_endsAt_43 hl rfl (nI_add _ 1) (by decide) rfl (fun ls hl => ?_)
            refine lv_goto (tgt := 6) hx hb dX1_endsAt_46 (by decide) ?_
            exact ihL6 (0) (fr + 1) (fi_17) (mo_17) (by omega) hI2 (by omega) _ _ hP hD hS _ (lv_sub hl [2, 3, 4, 5, 1, 0] rfl)
          · have hI2 := sw_ea_s (v := 1) hX hI (Or.inl ⟨rfl, Or.inr h33⟩)
            refine lv_iconst (v := nI (1)) hx hb dX1_endsAt_36 (by decide) ?_
            refine lv_goto (tgt := 41) hx hb dX1_endsAt_37 (by decide) ?_
            refine lv_istore (lv' := [(4, .int (nI (1))), (0, .ref (o)), (1, .int (nI (pn))), (2, .int (nI (tn))), (3, .int (nI (tn + 1))), (5, .int (nI (fr)))]) hx hb dX1_endsAt_41 hl (by decide) rfl (fun ls hl => ?_)
            refine lv_iinc (k := 5) (v := nI (fr + 1)) (lv' := [(5, .int (nI (fr + 1))), (4, .int (nI (1))), (0, .ref (o)), (1, .int (nI (pn))), (2, .int (nI (tn))), (3, .int (nI (tn + 1)))]) hx hb dX1_endsAt_43 hl rfl (nI_add _ 1) (by decide) rfl (fun ls hl => ?_)
            refine lv_goto (tgt := 6) hx hb dX1_endsAt_46 (by decide) ?_
            exact ihL6 (1) (fr + 1) (fi_17) (mo_17) (by omega) hI2 (by omega) _ _ hP hD hS _ (lv_sub hl [2, 3, 4, 5, 1, 0] rfl)
  exact L6 (tn + 1 - (0) + 1) (0) (0) (fi) (mo) (by omega) sw_ea_0 (Nat.lt_succ_self _) _ _ hP hD hS _ (lv_sub hl [2, 3, 4, 5, 1, 0] rfl)
set_option maxRecDepth 100000 in
theorem mX1_endsAt (l : Launch) {D : va_G} {o : Nat} {ad : Nat → Nat} {kc : Nat → ClassId} {Sz : Nat → Nat} {St : Nat → Nat} {Ct : Nat → Nat} {L : Nat} {T : Nat → Nat} {fi : Nat → Nat} {mo : Nat → Nat} {pn : Nat} {tn : Nat} (hp : pn < 4) (htn : tn ≤ 60) (hO : sw_Ok Sz St Ct T L) (sz : Nat) : Met l yX1_endsAt (ws_ yX1_endsAt cX1_endsAt 6 (some .boolean)) ({ frames := 3, cells := 0, slots := 0, locals := 72 }) (sw_M D vwCl (wM o ad kc Sz St Ct L T fi mo) (tyM kc) sz [.ref o, .int (nI (pn)), .int (nI (tn)), .int (nI (tn + 1))]) (va_Qi (fun (r : Int32) (u : (Nat → Nat) × (Nat → Nat)) => sw_b (∃ b, sw_Eb Sz St Ct T pn tn b) r) (sw_B D vwCl (tyM kc) (va_A (wM o ad kc Sz St Ct L T fi mo) sz) (fun u : (Nat → Nat) × (Nat → Nat) => wM o ad kc Sz St Ct L T (u.1) (u.2))) (va_A (wM o ad kc Sz St Ct L T fi mo) sz)) 0 0 (va_A (wM o ad kc Sz St Ct L T fi mo) sz) := sw_metZ (fun _ _ h => sw_b_nar h) (by decide) (Nat.le_of_ble_eq_true rfl) (fun p e s m below meth c Q ls A S hK hP hD hA hl ret => bX1_endsAt S (Nat.le_refl _) (Nat.le_refl _) hK hP hD va_S.rf hA hp htn hO ret hl) sz
set_option maxHeartbeats 4000000 in
set_option maxRecDepth 100000 in
theorem bX1_endingAt {D : va_G} {o : Nat} {ad : Nat → Nat} {kc : Nat → ClassId} {Sz : Nat → Nat} {St : Nat → Nat} {Ct : Nat → Nat} {L : Nat} {T : Nat → Nat} {fi : Nat → Nat} {mo : Nat → Nat} {zt : Int} (S : CallFix p m c cX1_endingAt 4 s args lw_all RX1) (hRf : 4 ≤ R.frames) (hRl : 97 ≤ R.locals) (hK : va_K D vwCl (tyM kc) s) (hP : va_P D vwCl (wM o ad kc Sz St Ct L T fi mo) H) (hD : va_D A (wM o ad kc Sz St Ct L T fi mo)) (hS : va_S A H0 H locs) (hA : ∀ q, H0.size ≤ q → A q) (hlzt : -2147483648 ≤ zt) (huzt : zt < 2147483648) (hO : sw_Ok Sz St Ct T L) (ret : ∀ (pc : Nat) (ls : Array Slot) (r : Int32) (u : (Nat → Nat) × (Nat → Nat)) (H1 : Heap) (locs1 : List Loc), decode cX1_endingAt pc = .ok (.ireturn, 1) → ((∃ x, r = nI x ∧ sw_set 4 (sw_endP Sz St Ct T L zt) x)) → va_P D vwCl ((fun u : (Nat → Nat) × (Nat → Nat) => wM o ad kc Sz St Ct L T (u.1) (u.2)) u) H1 → va_D A ((fun u : (Nat → Nat) × (Nat → Nat) => wM o ad kc Sz St Ct L T (u.1) (u.2)) u) → va_S A H0 H1 locs1 → W p l e R s m args below meth c H1 locs1 0 0 Q (F0 m pc ls [.int r])) (hl : lv_has ls 4 [(0, .ref (o)), (1, .int (zI (zt)))]) : W p l e R s m args below meth c H locs 0 0 Q (F0 m 0 ls []) := by
  have hx := S.1
  have hb := S.2.1
  have hown := S.2.2.2.1
  have hts := S.2.2.2.2
  have hO2 := hO
  obtain ⟨hs, ht, hc, hT, hL⟩ := hO
  refine lv_iconst (v := nI (0)) hx hb dX1_endingAt_0 (by decide) ?_
  refine lv_istore_n (lv' := [(2, .int (nI (0))), (0, .ref (o)), (1, .int (zI (zt)))]) hx hb dX1_endingAt_1 rfl hl (by decide) rfl (fun ls hl => ?_)
  refine lv_iconst (v := nI (0)) hx hb dX1_endingAt_2 (by decide) ?_
  refine lv_istore_n (lv' := [(3, .int (nI (0))), (2, .int (nI (0))), (0, .ref (o)), (1, .int (zI (zt)))]) hx hb dX1_endingAt_3 rfl hl (by decide) rfl (fun ls hl => ?_)
  have L4 : ∀ (n : Nat) (x : Nat) (pn : Nat) (f1 : Nat → Nat) (m1 : Nat → Nat), (pn ≤ 4) → (sw_set pn (sw_endP Sz St Ct T L zt) x) → 4 - pn < n → ∀ (H : Heap) (locs : List Loc), va_P D vwCl (wM o ad kc Sz St Ct L T f1 m1) H → va_D A (wM o ad kc Sz St Ct L T f1 m1) → va_S A H0 H locs → ∀ (ls : Array Slot), lv_has ls 4 [(0, .ref (o)), (1, .int (zI (zt))), (2, .int (nI (x))), (3, .int (nI (pn)))] → W p l e R s m args below meth c H locs 0 0 Q (F0 m 4 ls []) := by
    intro n
    induction n with
    | zero => intro x pn f1 m1 _ _ hm; exact absurd hm (Nat.not_lt_zero _)
    | succ n ihL4 =>
      intro x pn f1 m1 hp hI hmL4 H locs hP hD hS ls hl
      refine lv_iload_n hx hb dX1_endingAt_4 rfl (lv_at hl 3 rfl) ?_
      refine lv_iconst (v := nI (4)) hx hb dX1_endingAt_5 (by decide) ?_
      refine sw_cge (tgt := 49) hx hb dX1_endingAt_6 (by decide) (by omega) (by omega) (fun h6 => ?_) (fun h6 => ?_)
      · have hE : sw_set 4 (sw_endP Sz St Ct T L zt) x := by rw [show pn = 4 by omega] at hI; exact hI
        refine lv_iload_n hx hb dX1_endingAt_49 rfl (lv_at hl 2 rfl) ?_
        exact ret _ _ _ (f1, m1) _ _ dX1_endingAt_50 (⟨x, rfl, hE⟩) hP hD hS
      · refine lv_iload_n hx hb dX1_endingAt_9 rfl (lv_at hl 1 rfl) ?_
        refine sw_zlt (tgt := 49) hx hb dX1_endingAt_10 (by decide) (zI_toInt (z := zt) (by omega) (by omega)) (fun h10 => ?_) (fun h10 => ?_)
        · have hE : sw_set 4 (sw_endP Sz St Ct T L zt) x := sw_set_any (fun j q => by obtain ⟨t, e, h1, -⟩ := q; omega) hI
          refine lv_iload_n hx hb dX1_endingAt_49 rfl (lv_at hl 2 rfl) ?_
          exact ret _ _ _ (f1, m1) _ _ dX1_endingAt_50 (⟨x, rfl, hE⟩) hP hD hS
        · refine lv_iload_n hx hb dX1_endingAt_13 rfl (lv_at hl 1 rfl) ?_
          refine lv_aload_n hx hb dX1_endingAt_14 rfl (lv_at hl 0 rfl) ?_
          refine va_get (D := D) (ci := 1) (v := .int (nI (L))) (C := RX1) (T := TX1) (N := 7) hx hb hts in_X1 hown hK hP 0 rfl rfl 3 (by decide) (hts _ q210) (fun _ h9 => h9) rfl dX1_endingAt_15 ?_
          refine sw_dge (tgt := 49) hx hb dX1_endingAt_18 (by decide) (zI_toInt (z := zt) (by omega) (by omega)) (nI_toInt (show (L) < 2 ^ 31 by omega)) (fun h18 => ?_) (fun h18 => ?_)
          · have hE : sw_set 4 (sw_endP Sz St Ct T L zt) x := sw_set_any (fun j q => by obtain ⟨t, e, h1, -⟩ := q; omega) hI
            refine lv_iload_n hx hb dX1_endingAt_49 rfl (lv_at hl 2 rfl) ?_
            exact ret _ _ _ (f1, m1) _ _ dX1_endingAt_50 (⟨x, rfl, hE⟩) hP hD hS
          · obtain ⟨tn, rfl⟩ := Int.eq_ofNat_of_zero_le h10
            refine lv_aload_n hx hb dX1_endingAt_21 rfl (lv_at hl 0 rfl) ?_
            refine lv_iload_n hx hb dX1_endingAt_22 rfl (lv_at hl 3 rfl) ?_
            refine lv_iload_n hx hb dX1_endingAt_23 rfl (lv_at hl 1 rfl) ?_
            refine sw_top (y := nI (tn)) (zI_n tn) ?_
            refine lv_iload_n hx hb dX1_endingAt_24 rfl (lv_at hl 1 rfl) ?_
            refine sw_top (y := nI (tn)) (zI_n tn) ?_
            refine lv_iconst (v := nI (1)) hx hb dX1_endingAt_25 (by decide) ?_
            refine sw_add hx hb dX1_endingAt_26 ?_
            refine sw_cvI (As := [.int (nI (pn)), .int (nI (tn)), .int (nI (tn + 1))]) (rest := []) (C := RX1) (ci := 1) (q0 := 0) S (fun sz => (mX1_endsAt l h6 (by omega) hO2 sz)) (cwV 3 hts (lw_V q254 q256 qs15 q21 q257) rfl rfl rfl (by decide +kernel) ⟨Nat.le_trans (Nat.le_of_ble_eq_true rfl) hRf, Nat.le_trans (Nat.le_of_ble_eq_true rfl) hRl⟩) hK hP hD hS hA rfl rfl rfl rfl hl.1 rfl (Nat.le_of_ble_eq_true rfl) dX1_endingAt_27 ⟨Nat.zero_le _, Nat.zero_le _⟩ (fun r u H locs hr hP hD hS => ?_)
            obtain ⟨fi_27, mo_27⟩ := u
            have hP : va_P D vwCl (wM o ad kc Sz St Ct L T fi_27 mo_27) H := hP
            have hD : va_D A (wM o ad kc Sz St Ct L T fi_27 mo_27) := hD
            rcases hr with ⟨rfl, hr27⟩ | ⟨rfl, hr27⟩
            · have hI2 := sw_set_1 (P := sw_endP Sz St Ct T L (tn : Int)) (n := pn) ((sw_endP_iff (by omega)).mpr hr27) hI
              refine sw_ifeq (tgt := 41) hx hb dX1_endingAt_30 (by decide) (by decide) (fun q => absurd q (by decide)) (fun _ => ?_)
              refine lv_iload_n hx hb dX1_endingAt_33 rfl (lv_at hl 2 rfl) ?_
              refine lv_iconst (v := nI (1)) hx hb dX1_endingAt_34 (by decide) ?_
              refine lv_iload_n hx hb dX1_endingAt_35 rfl (lv_at hl 3 rfl) ?_
              refine sw_shl hx hb dX1_endingAt_36 (by omega) (sw_sh (by omega) (by omega)) ?_
              refine sw_or hx hb dX1_endingAt_37 ?_
              refine lv_goto (tgt := 42) hx hb dX1_endingAt_38 (by decide) ?_
              refine lv_istore_n (lv' := [(2, .int (nI (x ||| (1 * 2 ^ pn)))), (0, .ref (o)), (1, .int (zI ((tn : Int)))), (3, .int (nI (pn)))]) hx hb dX1_endingAt_42 rfl hl (by decide) rfl (fun ls hl => ?_)
              refine lv_iinc (k := 3) (v := nI (pn + 1)) (lv' := [(3, .int (nI (pn + 1))), (2, .int (nI (x ||| (1 * 2 ^ pn)))), (0, .ref (o)), (1, .int (zI ((tn : Int))))]) hx hb dX1_endingAt_43 hl rfl (nI_add _ 1) (by decide) rfl (fun ls hl => ?_)
              refine lv_goto (tgt := 4) hx hb dX1_endingAt_46 (by decide) ?_
              exact ihL4 (x ||| (1 * 2 ^ pn)) (pn + 1) (fi_27) (mo_27) (by omega) hI2 (by omega) _ _ hP hD hS _ (lv_sub hl [2, 3, 1, 0] rfl)
            · have hI2 := sw_set_n (P := sw_endP Sz St Ct T L (tn : Int)) (n := pn) (fun q => hr27 ((sw_endP_iff (by omega)).mp q)) hI
              refine sw_ifeq (tgt := 41) hx hb dX1_endingAt_30 (by decide) (by decide) (fun _ => ?_) (fun q => absurd rfl q)
              refine lv_iload_n hx hb dX1_endingAt_41 rfl (lv_at hl 2 rfl) ?_
              refine lv_istore_n (lv' := [(2, .int (nI (x))), (0, .ref (o)), (1, .int (zI ((tn : Int)))), (3, .int (nI (pn)))]) hx hb dX1_endingAt_42 rfl hl (by decide) rfl (fun ls hl => ?_)
              refine lv_iinc (k := 3) (v := nI (pn + 1)) (lv' := [(3, .int (nI (pn + 1))), (2, .int (nI (x))), (0, .ref (o)), (1, .int (zI ((tn : Int))))]) hx hb dX1_endingAt_43 hl rfl (nI_add _ 1) (by decide) rfl (fun ls hl => ?_)
              refine lv_goto (tgt := 4) hx hb dX1_endingAt_46 (by decide) ?_
              exact ihL4 (x) (pn + 1) (fi_27) (mo_27) (by omega) hI2 (by omega) _ _ hP hD hS _ (lv_sub hl [2, 3, 1, 0] rfl)
  exact L4 (4 - (0) + 1) (0) (0) (fi) (mo) (by omega) sw_set_0 (Nat.lt_succ_self _) _ _ hP hD hS _ (lv_sub hl [2, 3, 1, 0] rfl)
set_option maxRecDepth 100000 in
theorem mX1_endingAt (l : Launch) {D : va_G} {o : Nat} {ad : Nat → Nat} {kc : Nat → ClassId} {Sz : Nat → Nat} {St : Nat → Nat} {Ct : Nat → Nat} {L : Nat} {T : Nat → Nat} {fi : Nat → Nat} {mo : Nat → Nat} {zt : Int} (hlzt : -2147483648 ≤ zt) (huzt : zt < 2147483648) (hO : sw_Ok Sz St Ct T L) (sz : Nat) : Met l yX1_endingAt (ws_ yX1_endingAt cX1_endingAt 4 (some .int)) ({ frames := 4, cells := 0, slots := 0, locals := 97 }) (sw_M D vwCl (wM o ad kc Sz St Ct L T fi mo) (tyM kc) sz [.ref o, .int (zI (zt))]) (va_Qi (fun (r : Int32) (u : (Nat → Nat) × (Nat → Nat)) => (∃ x, r = nI x ∧ sw_set 4 (sw_endP Sz St Ct T L zt) x)) (sw_B D vwCl (tyM kc) (va_A (wM o ad kc Sz St Ct L T fi mo) sz) (fun u : (Nat → Nat) × (Nat → Nat) => wM o ad kc Sz St Ct L T (u.1) (u.2))) (va_A (wM o ad kc Sz St Ct L T fi mo) sz)) 0 0 (va_A (wM o ad kc Sz St Ct L T fi mo) sz) := sw_metI (by decide) (Nat.le_of_ble_eq_true rfl) (fun p e s m below meth c Q ls A S hK hP hD hA hl ret => bX1_endingAt S (Nat.le_refl _) (Nat.le_refl _) hK hP hD va_S.rf hA hlzt huzt hO ret hl) sz
set_option maxHeartbeats 4000000 in
set_option maxRecDepth 100000 in
theorem bX1_push {D : va_G} {o : Nat} {ad : Nat → Nat} {kc : Nat → ClassId} {Sz : Nat → Nat} {St : Nat → Nat} {Ct : Nat → Nat} {L : Nat} {T : Nat → Nat} {fi : Nat → Nat} {mo : Nat → Nat} {zs : Int} (S : CallFix p m c cX1_push 2 s args lw_all RX1) (hRf : 5 ≤ R.frames) (hRl : 120 ≤ R.locals) (hK : va_K D vwCl (tyM kc) s) (hP : va_P D vwCl (wM o ad kc Sz St Ct L T fi mo) H) (hD : va_D A (wM o ad kc Sz St Ct L T fi mo)) (hS : va_S A H0 H locs) (hA : ∀ q, H0.size ≤ q → A q) (hlzs : -2147483648 ≤ zs) (huzs : zs < 2147483648) (hO : sw_Ok Sz St Ct T L) (ret : ∀ (pc : Nat) (ls : Array Slot) (r : Int32) (u : (Nat → Nat) × Nat × (Nat → Nat) × (Nat → Nat)) (H1 : Heap) (locs1 : List Loc), decode cX1_push pc = .ok (.ireturn, 1) → (sw_psh Sz St Ct zs T L r u.1 u.2.1) → va_P D vwCl ((fun u : (Nat → Nat) × Nat × (Nat → Nat) × (Nat → Nat) => wM o ad kc Sz St Ct (u.2.1) (u.1) (u.2.2.1) (u.2.2.2)) u) H1 → va_D A ((fun u : (Nat → Nat) × Nat × (Nat → Nat) × (Nat → Nat) => wM o ad kc Sz St Ct (u.2.1) (u.1) (u.2.2.1) (u.2.2.2)) u) → va_S A H0 H1 locs1 → W p l e R s m args below meth c H1 locs1 0 0 Q (F0 m pc ls [.int r])) (hl : lv_has ls 2 [(0, .ref (o)), (1, .int (zI (zs)))]) : W p l e R s m args below meth c H locs 0 0 Q (F0 m 0 ls []) := by
  have hx := S.1
  have hb := S.2.1
  have hown := S.2.2.2.1
  have hts := S.2.2.2.2
  have hO2 := hO
  obtain ⟨hs, ht, hc, hT, hL⟩ := hO
  refine lv_iload_n hx hb dX1_push_0 rfl (lv_at hl 1 rfl) ?_
  refine sw_zlt (tgt := 9) hx hb dX1_push_1 (by decide) (zI_toInt (z := zs) (by omega) (by omega)) (fun h1 => ?_) (fun h1 => ?_)
  · refine lv_iconst (v := zI (-1)) hx hb dX1_push_9 (by decide) ?_
    exact ret _ _ _ (T, L, fi, mo) _ _ dX1_push_10 (Or.inl ⟨by omega, rfl, rfl, rfl⟩) hP hD hS
  · refine lv_iload_n hx hb dX1_push_4 rfl (lv_at hl 1 rfl) ?_
    refine lv_iconst (v := nI (3)) hx hb dX1_push_5 (by decide) ?_
    refine sw_dle (tgt := 11) hx hb dX1_push_6 (by decide) (zI_toInt (z := zs) (by omega) (by omega)) (nI_toInt (show (3) < 2 ^ 31 by omega)) (fun h6 => ?_) (fun h6 => ?_)
    · obtain ⟨sn, rfl⟩ := Int.eq_ofNat_of_zero_le h1
      have hl : lv_has ls 2 [(0, .ref (o)), (1, .int (nI (sn)))] := by rw [show zI ((sn : Int)) = nI (sn) from zI_n sn] at hl; exact hl
      refine lv_aload_n hx hb dX1_push_11 rfl (lv_at hl 0 rfl) ?_
      refine va_get (D := D) (ci := 1) (v := .int (nI (L))) (C := RX1) (T := TX1) (N := 7) hx hb hts in_X1 hown hK hP 0 rfl rfl 3 (by decide) (hts _ q210) (fun _ h9 => h9) rfl dX1_push_12 ?_
      refine lv_bipush (v := nI (60)) hx hb dX1_push_15 (by decide) ?_
      refine sw_clt (tgt := 23) hx hb dX1_push_17 (by decide) (by omega) (by omega) (fun h17 => ?_) (fun h17 => ?_)
      · refine lv_aload_n hx hb dX1_push_23 rfl (lv_at hl 0 rfl) ?_
        refine va_get (D := D) (ci := 1) (v := .ref (ad 3)) (C := RX1) (T := TX1) (N := 7) hx hb hts in_X1 hown hK hP 0 rfl rfl 4 (by decide) (hts _ q211) (fun _ h9 => h9) rfl dX1_push_24 ?_
        refine lv_aload_n hx hb dX1_push_27 rfl (lv_at hl 0 rfl) ?_
        refine va_get (D := D) (ci := 1) (v := .int (nI (L))) (C := RX1) (T := TX1) (N := 7) hx hb hts in_X1 hown hK hP 0 rfl rfl 3 (by decide) (hts _ q210) (fun _ h9 => h9) rfl dX1_push_28 ?_
        refine lv_iload_n hx hb dX1_push_31 rfl (lv_at hl 1 rfl) ?_
        refine sw_ist hx hb hK hP hD hS 4 3 rfl rfl (by omega) (by decide) rfl (sw_updN _ _ _) dX1_push_32 (fun H locs hP hD hS => ?_)
        have hP : va_P D vwCl (wM o ad kc Sz St Ct L (va_up T L sn) fi mo) H := hP
        have hD : va_D A (wM o ad kc Sz St Ct L (va_up T L sn) fi mo) := hD
        refine lv_aload_n hx hb dX1_push_33 rfl (lv_at hl 0 rfl) ?_
        refine lv_dup hx hb dX1_push_34 rfl ?_
        refine va_get (D := D) (ci := 1) (v := .int (nI (L))) (C := RX1) (T := TX1) (N := 7) hx hb hts in_X1 hown hK hP 0 rfl rfl 3 (by decide) (hts _ q210) (fun _ h9 => h9) rfl dX1_push_35 ?_
        refine lv_iconst (v := nI (1)) hx hb dX1_push_38 (by decide) ?_
        refine sw_add hx hb dX1_push_39 ?_
        refine va_put (D := D) (ci := 1) (v := .int (nI (L + 1))) (ty := .int) (C := RX1) (T := TX1) (N := 7) hx hb hts in_X1 tyX1 tyX1_ok nmX1 hown hK hP hD hS 0 rfl rfl 3 (by decide) (hts _ q210) (fun _ h9 => h9) rfl (by decide +kernel) rfl rfl (Nat.le_of_ble_eq_true rfl) dX1_push_40 (fun H locs hP hD hS => ?_)
        have hP : va_P D vwCl (wM o ad kc Sz St Ct (L + 1) (va_up T L sn) fi mo) H := hP
        have hD : va_D A (wM o ad kc Sz St Ct (L + 1) (va_up T L sn) fi mo) := hD
        refine lv_aload_n hx hb dX1_push_43 rfl (lv_at hl 0 rfl) ?_
        refine lv_aload_n hx hb dX1_push_44 rfl (lv_at hl 0 rfl) ?_
        refine va_get (D := D) (ci := 1) (v := .int (nI (L + 1))) (C := RX1) (T := TX1) (N := 7) hx hb hts in_X1 hown hK hP 0 rfl rfl 3 (by decide) (hts _ q210) (fun _ h9 => h9) rfl dX1_push_45 ?_
        refine lv_iconst (v := nI (1)) hx hb dX1_push_48 (by decide) ?_
        refine sw_sub hx hb dX1_push_49 (by omega) ?_
        refine sw_top (y := zI ((L : Int))) ((congrArg nI (Nat.add_sub_cancel (n := L) (m := 1))).trans (zI_n L).symm) ?_
        refine sw_cvI (As := [.int (zI ((L : Int)))]) (rest := []) (C := RX1) (ci := 1) (q0 := 0) S (fun sz => (mX1_endingAt l (by omega) (by omega) (sw_Ok_push hO2 (by omega) h17) sz)) (cwV 1 hts (lw_V q250 q251 q252 q21 q253) rfl rfl rfl (by decide +kernel) ⟨Nat.le_trans (Nat.le_of_ble_eq_true rfl) hRf, Nat.le_trans (Nat.le_of_ble_eq_true rfl) hRl⟩) hK hP hD hS hA rfl rfl rfl rfl hl.1 rfl (Nat.le_of_ble_eq_true rfl) dX1_push_50 ⟨Nat.zero_le _, Nat.zero_le _⟩ (fun r u H locs hr hP hD hS => ?_)
        obtain ⟨fi_50, mo_50⟩ := u
        have hP : va_P D vwCl (wM o ad kc Sz St Ct (L + 1) (va_up T L sn) fi_50 mo_50) H := hP
        have hD : va_D A (wM o ad kc Sz St Ct (L + 1) (va_up T L sn) fi_50 mo_50) := hD
        exact ret _ _ _ (va_up T L sn, L + 1, fi_50, mo_50) _ _ dX1_push_53 (Or.inr ⟨sn, rfl, by omega, Or.inr ⟨h17, rfl, rfl, hr⟩⟩) hP hD hS
      · refine lv_bipush (v := zI (-2)) hx hb dX1_push_20 (by decide) ?_
        exact ret _ _ _ (T, L, fi, mo) _ _ dX1_push_22 (Or.inr ⟨sn, rfl, by omega, Or.inl ⟨h17, rfl, rfl, rfl⟩⟩) hP hD hS
    · refine lv_iconst (v := zI (-1)) hx hb dX1_push_9 (by decide) ?_
      exact ret _ _ _ (T, L, fi, mo) _ _ dX1_push_10 (Or.inl ⟨by omega, rfl, rfl, rfl⟩) hP hD hS
set_option maxRecDepth 100000 in
theorem mX1_push (l : Launch) {D : va_G} {o : Nat} {ad : Nat → Nat} {kc : Nat → ClassId} {Sz : Nat → Nat} {St : Nat → Nat} {Ct : Nat → Nat} {L : Nat} {T : Nat → Nat} {fi : Nat → Nat} {mo : Nat → Nat} {zs : Int} (hlzs : -2147483648 ≤ zs) (huzs : zs < 2147483648) (hO : sw_Ok Sz St Ct T L) (sz : Nat) : Met l yX1_push (ws_ yX1_push cX1_push 2 (some .int)) ({ frames := 5, cells := 0, slots := 0, locals := 120 }) (sw_M D vwCl (wM o ad kc Sz St Ct L T fi mo) (tyM kc) sz [.ref o, .int (zI (zs))]) (va_Qi (fun (r : Int32) (u : (Nat → Nat) × Nat × (Nat → Nat) × (Nat → Nat)) => sw_psh Sz St Ct zs T L r u.1 u.2.1) (sw_B D vwCl (tyM kc) (va_A (wM o ad kc Sz St Ct L T fi mo) sz) (fun u : (Nat → Nat) × Nat × (Nat → Nat) × (Nat → Nat) => wM o ad kc Sz St Ct (u.2.1) (u.1) (u.2.2.1) (u.2.2.2))) (va_A (wM o ad kc Sz St Ct L T fi mo) sz)) 0 0 (va_A (wM o ad kc Sz St Ct L T fi mo) sz) := sw_metI (by decide) (Nat.le_of_ble_eq_true rfl) (fun p e s m below meth c Q ls A S hK hP hD hA hl ret => bX1_push S (Nat.le_refl _) (Nat.le_refl _) hK hP hD va_S.rf hA hlzs huzs hO ret hl) sz
set_option maxHeartbeats 4000000 in
set_option maxRecDepth 100000 in
theorem bX1_ends {D : va_G} {o : Nat} {ad : Nat → Nat} {kc : Nat → ClassId} {Sz : Nat → Nat} {St : Nat → Nat} {Ct : Nat → Nat} {L : Nat} {T : Nat → Nat} {fi : Nat → Nat} {mo : Nat → Nat} {zp : Int} (S : CallFix p m c cX1_ends 4 s args lw_all RX1) (hRf : 4 ≤ R.frames) (hRl : 97 ≤ R.locals) (hK : va_K D vwCl (tyM kc) s) (hP : va_P D vwCl (wM o ad kc Sz St Ct L T fi mo) H) (hD : va_D A (wM o ad kc Sz St Ct L T fi mo)) (hS : va_S A H0 H locs) (hA : ∀ q, H0.size ≤ q → A q) (hlzp : -2147483648 ≤ zp) (huzp : zp < 2147483648) (hO : sw_Ok Sz St Ct T L) (ret : ∀ (pc : Nat) (ls : Array Slot) (r : Int32) (u : (Nat → Nat) × (Nat → Nat)) (H1 : Heap) (locs1 : List Loc), decode cX1_ends pc = .ok (.ireturn, 1) → (sw_endR Sz St Ct T L zp r) → va_P D vwCl ((fun u : (Nat → Nat) × (Nat → Nat) => wM o ad kc Sz St Ct L T (u.1) (u.2)) u) H1 → va_D A ((fun u : (Nat → Nat) × (Nat → Nat) => wM o ad kc Sz St Ct L T (u.1) (u.2)) u) → va_S A H0 H1 locs1 → W p l e R s m args below meth c H1 locs1 0 0 Q (F0 m pc ls [.int r])) (hl : lv_has ls 4 [(0, .ref (o)), (1, .int (zI (zp)))]) : W p l e R s m args below meth c H locs 0 0 Q (F0 m 0 ls []) := by
  have hx := S.1
  have hb := S.2.1
  have hown := S.2.2.2.1
  have hts := S.2.2.2.2
  have hO2 := hO
  obtain ⟨hs, ht, hc, hT, hL⟩ := hO
  refine lv_iconst (v := nI (0)) hx hb dX1_ends_0 (by decide) ?_
  refine lv_istore_n (lv' := [(2, .int (nI (0))), (0, .ref (o)), (1, .int (zI (zp)))]) hx hb dX1_ends_1 rfl hl (by decide) rfl (fun ls hl => ?_)
  refine lv_iconst (v := nI (0)) hx hb dX1_ends_2 (by decide) ?_
  refine lv_istore_n (lv' := [(3, .int (nI (0))), (2, .int (nI (0))), (0, .ref (o)), (1, .int (zI (zp)))]) hx hb dX1_ends_3 rfl hl (by decide) rfl (fun ls hl => ?_)
  have L4 : ∀ (n : Nat) (x : Nat) (ti : Nat) (f1 : Nat → Nat) (m1 : Nat → Nat), (ti ≤ L) → (x = sw_cnt (sw_enP Sz St Ct T zp) ti) → L - ti < n → ∀ (H : Heap) (locs : List Loc), va_P D vwCl (wM o ad kc Sz St Ct L T f1 m1) H → va_D A (wM o ad kc Sz St Ct L T f1 m1) → va_S A H0 H locs → ∀ (ls : Array Slot), lv_has ls 4 [(0, .ref (o)), (1, .int (zI (zp))), (2, .int (nI (x))), (3, .int (nI (ti)))] → W p l e R s m args below meth c H locs 0 0 Q (F0 m 4 ls []) := by
    intro n
    induction n with
    | zero => intro x ti f1 m1 _ _ hm; exact absurd hm (Nat.not_lt_zero _)
    | succ n ihL4 =>
      intro x ti f1 m1 hti hI hmL4 H locs hP hD hS ls hl
      have hcl := sw_cnt_le (P := sw_enP Sz St Ct T zp) ti
      refine lv_iload_n hx hb dX1_ends_4 rfl (lv_at hl 3 rfl) ?_
      refine lv_aload_n hx hb dX1_ends_5 rfl (lv_at hl 0 rfl) ?_
      refine va_get (D := D) (ci := 1) (v := .int (nI (L))) (C := RX1) (T := TX1) (N := 7) hx hb hts in_X1 hown hK hP 0 rfl rfl 3 (by decide) (hts _ q210) (fun _ h9 => h9) rfl dX1_ends_6 ?_
      refine sw_cge (tgt := 46) hx hb dX1_ends_9 (by decide) (by omega) (by omega) (fun h9 => ?_) (fun h9 => ?_)
      · have hE := sw_endR_of (L := L) hI (Or.inl (by omega))
        refine lv_iload_n hx hb dX1_ends_46 rfl (lv_at hl 2 rfl) ?_
        exact ret _ _ _ (f1, m1) _ _ dX1_ends_47 (hE) hP hD hS
      · refine lv_aload_n hx hb dX1_ends_12 rfl (lv_at hl 0 rfl) ?_
        refine lv_iload_n hx hb dX1_ends_13 rfl (lv_at hl 1 rfl) ?_
        refine sw_cvR (As := [.int (zI (zp))]) (rest := []) (C := RX1) (ci := 1) (q0 := 0) S (mX1_pattern l hlzp huzp) (cwV 1 hts (lw_V q234 q236 qs14 q21 q237) rfl rfl rfl (by decide +kernel) ⟨Nat.le_trans (Nat.le_of_ble_eq_true rfl) hRf, Nat.le_trans (Nat.le_of_ble_eq_true rfl) hRl⟩) hK hP rfl rfl rfl rfl hl.1 rfl (Nat.le_of_ble_eq_true rfl) dX1_ends_14 ⟨Nat.zero_le _, Nat.zero_le _⟩ (fun r hr => ?_)
        rcases hr with ⟨rfl, hr14⟩ | ⟨rfl, hr14⟩
        · obtain ⟨pn, rfl⟩ := Int.eq_ofNat_of_zero_le hr14.1
          refine sw_ifeq (tgt := 46) hx hb dX1_ends_17 (by decide) (by decide) (fun q => absurd q (by decide)) (fun _ => ?_)
          refine lv_aload_n hx hb dX1_ends_20 rfl (lv_at hl 0 rfl) ?_
          refine lv_iload_n hx hb dX1_ends_21 rfl (lv_at hl 1 rfl) ?_
          refine sw_top (y := nI (pn)) (zI_n pn) ?_
          refine lv_iload_n hx hb dX1_ends_22 rfl (lv_at hl 3 rfl) ?_
          refine lv_iload_n hx hb dX1_ends_23 rfl (lv_at hl 3 rfl) ?_
          refine lv_iconst (v := nI (1)) hx hb dX1_ends_24 (by decide) ?_
          refine sw_add hx hb dX1_ends_25 ?_
          refine sw_cvI (As := [.int (nI (pn)), .int (nI (ti)), .int (nI (ti + 1))]) (rest := []) (C := RX1) (ci := 1) (q0 := 0) S (fun sz => (mX1_endsAt l (by omega) (by omega) hO2 sz)) (cwV 3 hts (lw_V q254 q256 qs15 q21 q257) rfl rfl rfl (by decide +kernel) ⟨Nat.le_trans (Nat.le_of_ble_eq_true rfl) hRf, Nat.le_trans (Nat.le_of_ble_eq_true rfl) hRl⟩) hK hP hD hS hA rfl rfl rfl rfl hl.1 rfl (Nat.le_of_ble_eq_true rfl) dX1_ends_26 ⟨Nat.zero_le _, Nat.zero_le _⟩ (fun r u H locs hr hP hD hS => ?_)
          obtain ⟨fi_26, mo_26⟩ := u
          have hP : va_P D vwCl (wM o ad kc Sz St Ct L T fi_26 mo_26) H := hP
          have hD : va_D A (wM o ad kc Sz St Ct L T fi_26 mo_26) := hD
          rcases hr with ⟨rfl, hr26⟩ | ⟨rfl, hr26⟩
          · have hI2 : x + 1 = sw_cnt (sw_enP Sz St Ct T (pn : Int)) (ti + 1) := by rw [sw_cnt_1 ((sw_enP_iff (by omega)).mpr hr26), hI]
            refine sw_ifeq (tgt := 38) hx hb dX1_ends_29 (by decide) (by decide) (fun q => absurd q (by decide)) (fun _ => ?_)
            refine lv_iload_n hx hb dX1_ends_32 rfl (lv_at hl 2 rfl) ?_
            refine lv_iconst (v := nI (1)) hx hb dX1_ends_33 (by decide) ?_
            refine sw_add hx hb dX1_ends_34 ?_
            refine lv_goto (tgt := 39) hx hb dX1_ends_35 (by decide) ?_
            refine lv_istore_n (lv' := [(2, .int (nI (x + 1))), (0, .ref (o)), (1, .int (zI ((pn : Int)))), (3, .int (nI (ti)))]) hx hb dX1_ends_39 rfl hl (by decide) rfl (fun ls hl => ?_)
            refine lv_iinc (k := 3) (v := nI (ti + 1)) (lv' := [(3, .int (nI (ti + 1))), (2, .int (nI (x + 1))), (0, .ref (o)), (1, .int (zI ((pn : Int))))]) hx hb dX1_ends_40 hl rfl (nI_add _ 1) (by decide) rfl (fun ls hl => ?_)
            refine lv_goto (tgt := 4) hx hb dX1_ends_43 (by decide) ?_
            exact ihL4 (x + 1) (ti + 1) (fi_26) (mo_26) (by omega) hI2 (by omega) _ _ hP hD hS _ (lv_sub hl [2, 3, 1, 0] rfl)
          · have hI2 : x = sw_cnt (sw_enP Sz St Ct T (pn : Int)) (ti + 1) := by rw [sw_cnt_n (fun q => hr26 ((sw_enP_iff (by omega)).mp q))]; exact hI
            refine sw_ifeq (tgt := 38) hx hb dX1_ends_29 (by decide) (by decide) (fun _ => ?_) (fun q => absurd rfl q)
            refine lv_iload_n hx hb dX1_ends_38 rfl (lv_at hl 2 rfl) ?_
            refine lv_istore_n (lv' := [(2, .int (nI (x))), (0, .ref (o)), (1, .int (zI ((pn : Int)))), (3, .int (nI (ti)))]) hx hb dX1_ends_39 rfl hl (by decide) rfl (fun ls hl => ?_)
            refine lv_iinc (k := 3) (v := nI (ti + 1)) (lv' := [(3, .int (nI (ti + 1))), (2, .int (nI (x))), (0, .ref (o)), (1, .int (zI ((pn : Int))))]) hx hb dX1_ends_40 hl rfl (nI_add _ 1) (by decide) rfl (fun ls hl => ?_)
            refine lv_goto (tgt := 4) hx hb dX1_ends_43 (by decide) ?_
            exact ihL4 (x) (ti + 1) (fi_26) (mo_26) (by omega) hI2 (by omega) _ _ hP hD hS _ (lv_sub hl [2, 3, 1, 0] rfl)
        · have hE := sw_endR_of (L := L) hI (Or.inr hr14)
          refine sw_ifeq (tgt := 46) hx hb dX1_ends_17 (by decide) (by decide) (fun _ => ?_) (fun q => absurd rfl q)
          refine lv_iload_n hx hb dX1_ends_46 rfl (lv_at hl 2 rfl) ?_
          exact ret _ _ _ (f1, m1) _ _ dX1_ends_47 (hE) hP hD hS
  exact L4 (L - (0) + 1) (0) (0) (fi) (mo) (by omega) rfl (Nat.lt_succ_self _) _ _ hP hD hS _ (lv_sub hl [2, 3, 1, 0] rfl)
set_option maxRecDepth 100000 in
theorem mX1_ends (l : Launch) {D : va_G} {o : Nat} {ad : Nat → Nat} {kc : Nat → ClassId} {Sz : Nat → Nat} {St : Nat → Nat} {Ct : Nat → Nat} {L : Nat} {T : Nat → Nat} {fi : Nat → Nat} {mo : Nat → Nat} {zp : Int} (hlzp : -2147483648 ≤ zp) (huzp : zp < 2147483648) (hO : sw_Ok Sz St Ct T L) (sz : Nat) : Met l yX1_ends (ws_ yX1_ends cX1_ends 4 (some .int)) ({ frames := 4, cells := 0, slots := 0, locals := 97 }) (sw_M D vwCl (wM o ad kc Sz St Ct L T fi mo) (tyM kc) sz [.ref o, .int (zI (zp))]) (va_Qi (fun (r : Int32) (u : (Nat → Nat) × (Nat → Nat)) => sw_endR Sz St Ct T L zp r) (sw_B D vwCl (tyM kc) (va_A (wM o ad kc Sz St Ct L T fi mo) sz) (fun u : (Nat → Nat) × (Nat → Nat) => wM o ad kc Sz St Ct L T (u.1) (u.2))) (va_A (wM o ad kc Sz St Ct L T fi mo) sz)) 0 0 (va_A (wM o ad kc Sz St Ct L T fi mo) sz) := sw_metI (by decide) (Nat.le_of_ble_eq_true rfl) (fun p e s m below meth c Q ls A S hK hP hD hA hl ret => bX1_ends S (Nat.le_refl _) (Nat.le_refl _) hK hP hD va_S.rf hA hlzp huzp hO ret hl) sz
set_option maxHeartbeats 4000000 in
set_option maxRecDepth 100000 in
theorem bX1_firstEnd {D : va_G} {o : Nat} {ad : Nat → Nat} {kc : Nat → ClassId} {Sz : Nat → Nat} {St : Nat → Nat} {Ct : Nat → Nat} {L : Nat} {T : Nat → Nat} {fi : Nat → Nat} {mo : Nat → Nat} {zp : Int} (S : CallFix p m c cX1_firstEnd 3 s args lw_all RX1) (hRf : 4 ≤ R.frames) (hRl : 97 ≤ R.locals) (hK : va_K D vwCl (tyM kc) s) (hP : va_P D vwCl (wM o ad kc Sz St Ct L T fi mo) H) (hD : va_D A (wM o ad kc Sz St Ct L T fi mo)) (hS : va_S A H0 H locs) (hA : ∀ q, H0.size ≤ q → A q) (hlzp : -2147483648 ≤ zp) (huzp : zp < 2147483648) (hO : sw_Ok Sz St Ct T L) (ret : ∀ (pc : Nat) (ls : Array Slot) (r : Int32) (u : (Nat → Nat) × (Nat → Nat)) (H1 : Heap) (locs1 : List Loc), decode cX1_firstEnd pc = .ok (.ireturn, 1) → (sw_feR Sz St Ct T L zp r) → va_P D vwCl ((fun u : (Nat → Nat) × (Nat → Nat) => wM o ad kc Sz St Ct L T (u.1) (u.2)) u) H1 → va_D A ((fun u : (Nat → Nat) × (Nat → Nat) => wM o ad kc Sz St Ct L T (u.1) (u.2)) u) → va_S A H0 H1 locs1 → W p l e R s m args below meth c H1 locs1 0 0 Q (F0 m pc ls [.int r])) (hl : lv_has ls 3 [(0, .ref (o)), (1, .int (zI (zp)))]) : W p l e R s m args below meth c H locs 0 0 Q (F0 m 0 ls []) := by
  have hx := S.1
  have hb := S.2.1
  have hown := S.2.2.2.1
  have hts := S.2.2.2.2
  have hO2 := hO
  obtain ⟨hs, ht, hc, hT, hL⟩ := hO
  refine lv_iconst (v := nI (0)) hx hb dX1_firstEnd_0 (by decide) ?_
  refine lv_istore_n (lv' := [(2, .int (nI (0))), (0, .ref (o)), (1, .int (zI (zp)))]) hx hb dX1_firstEnd_1 rfl hl (by decide) rfl (fun ls hl => ?_)
  have L2 : ∀ (n : Nat) (ti : Nat) (f1 : Nat → Nat) (m1 : Nat → Nat), (ti ≤ L) → (∀ t, t < ti → ¬ sw_enP Sz St Ct T zp t) → L - ti < n → ∀ (H : Heap) (locs : List Loc), va_P D vwCl (wM o ad kc Sz St Ct L T f1 m1) H → va_D A (wM o ad kc Sz St Ct L T f1 m1) → va_S A H0 H locs → ∀ (ls : Array Slot), lv_has ls 3 [(0, .ref (o)), (1, .int (zI (zp))), (2, .int (nI (ti)))] → W p l e R s m args below meth c H locs 0 0 Q (F0 m 2 ls []) := by
    intro n
    induction n with
    | zero => intro ti f1 m1 _ _ hm; exact absurd hm (Nat.not_lt_zero _)
    | succ n ihL2 =>
      intro ti f1 m1 hti hI hmL2 H locs hP hD hS ls hl
      refine lv_iload_n hx hb dX1_firstEnd_2 rfl (lv_at hl 2 rfl) ?_
      refine lv_aload_n hx hb dX1_firstEnd_3 rfl (lv_at hl 0 rfl) ?_
      refine va_get (D := D) (ci := 1) (v := .int (nI (L))) (C := RX1) (T := TX1) (N := 7) hx hb hts in_X1 hown hK hP 0 rfl rfl 3 (by decide) (hts _ q210) (fun _ h9 => h9) rfl dX1_firstEnd_4 ?_
      refine sw_cge (tgt := 38) hx hb dX1_firstEnd_7 (by decide) (by omega) (by omega) (fun h7 => ?_) (fun h7 => ?_)
      · have hE := sw_feR_no (Or.inl h7) hI
        refine lv_iconst (v := zI (-1)) hx hb dX1_firstEnd_38 (by decide) ?_
        exact ret _ _ _ (f1, m1) _ _ dX1_firstEnd_39 (hE) hP hD hS
      · refine lv_aload_n hx hb dX1_firstEnd_10 rfl (lv_at hl 0 rfl) ?_
        refine lv_iload_n hx hb dX1_firstEnd_11 rfl (lv_at hl 1 rfl) ?_
        refine sw_cvR (As := [.int (zI (zp))]) (rest := []) (C := RX1) (ci := 1) (q0 := 0) S (mX1_pattern l hlzp huzp) (cwV 1 hts (lw_V q234 q236 qs14 q21 q237) rfl rfl rfl (by decide +kernel) ⟨Nat.le_trans (Nat.le_of_ble_eq_true rfl) hRf, Nat.le_trans (Nat.le_of_ble_eq_true rfl) hRl⟩) hK hP rfl rfl rfl rfl hl.1 rfl (Nat.le_of_ble_eq_true rfl) dX1_firstEnd_12 ⟨Nat.zero_le _, Nat.zero_le _⟩ (fun r hr => ?_)
        rcases hr with ⟨rfl, hr12⟩ | ⟨rfl, hr12⟩
        · obtain ⟨pn, rfl⟩ := Int.eq_ofNat_of_zero_le hr12.1
          refine sw_ifeq (tgt := 38) hx hb dX1_firstEnd_15 (by decide) (by decide) (fun q => absurd q (by decide)) (fun _ => ?_)
          refine lv_aload_n hx hb dX1_firstEnd_18 rfl (lv_at hl 0 rfl) ?_
          refine lv_iload_n hx hb dX1_firstEnd_19 rfl (lv_at hl 1 rfl) ?_
          refine sw_top (y := nI (pn)) (zI_n pn) ?_
          refine lv_iload_n hx hb dX1_firstEnd_20 rfl (lv_at hl 2 rfl) ?_
          refine lv_iload_n hx hb dX1_firstEnd_21 rfl (lv_at hl 2 rfl) ?_
          refine lv_iconst (v := nI (1)) hx hb dX1_firstEnd_22 (by decide) ?_
          refine sw_add hx hb dX1_firstEnd_23 ?_
          refine sw_cvI (As := [.int (nI (pn)), .int (nI (ti)), .int (nI (ti + 1))]) (rest := []) (C := RX1) (ci := 1) (q0 := 0) S (fun sz => (mX1_endsAt l (by omega) (by omega) hO2 sz)) (cwV 3 hts (lw_V q254 q256 qs15 q21 q257) rfl rfl rfl (by decide +kernel) ⟨Nat.le_trans (Nat.le_of_ble_eq_true rfl) hRf, Nat.le_trans (Nat.le_of_ble_eq_true rfl) hRl⟩) hK hP hD hS hA rfl rfl rfl rfl hl.1 rfl (Nat.le_of_ble_eq_true rfl) dX1_firstEnd_24 ⟨Nat.zero_le _, Nat.zero_le _⟩ (fun r u H locs hr hP hD hS => ?_)
          obtain ⟨fi_24, mo_24⟩ := u
          have hP : va_P D vwCl (wM o ad kc Sz St Ct L T fi_24 mo_24) H := hP
          have hD : va_D A (wM o ad kc Sz St Ct L T fi_24 mo_24) := hD
          rcases hr with ⟨rfl, hr24⟩ | ⟨rfl, hr24⟩
          · have hE := sw_feR_at (L := L) (by omega) h7 hr24 hI
            refine sw_ifeq (tgt := 32) hx hb dX1_firstEnd_27 (by decide) (by decide) (fun q => absurd q (by decide)) (fun _ => ?_)
            refine lv_iload_n hx hb dX1_firstEnd_30 rfl (lv_at hl 2 rfl) ?_
            exact ret _ _ _ (fi_24, mo_24) _ _ dX1_firstEnd_31 (hE) hP hD hS
          · have hI2 : ∀ t, t < ti + 1 → ¬ sw_enP Sz St Ct T (pn : Int) t := fun t q => by by_cases e : t = ti; rw [e]; exact fun z => hr24 ((sw_enP_iff (by omega)).mp z); exact hI t (by omega)
            refine sw_ifeq (tgt := 32) hx hb dX1_firstEnd_27 (by decide) (by decide) (fun _ => ?_) (fun q => absurd rfl q)
            refine lv_iinc (k := 2) (v := nI (ti + 1)) (lv' := [(2, .int (nI (ti + 1))), (0, .ref (o)), (1, .int (zI ((pn : Int))))]) hx hb dX1_firstEnd_32 hl rfl (nI_add _ 1) (by decide) rfl (fun ls hl => ?_)
            refine lv_goto (tgt := 2) hx hb dX1_firstEnd_35 (by decide) ?_
            exact ihL2 (ti + 1) (fi_24) (mo_24) (by omega) hI2 (by omega) _ _ hP hD hS _ (lv_sub hl [1, 2, 0] rfl)
        · have hE := sw_feR_no (L := L) (Or.inr hr12) hI
          refine sw_ifeq (tgt := 38) hx hb dX1_firstEnd_15 (by decide) (by decide) (fun _ => ?_) (fun q => absurd rfl q)
          refine lv_iconst (v := zI (-1)) hx hb dX1_firstEnd_38 (by decide) ?_
          exact ret _ _ _ (f1, m1) _ _ dX1_firstEnd_39 (hE) hP hD hS
  exact L2 (L - (0) + 1) (0) (fi) (mo) (by omega) (fun t q => absurd q (Nat.not_lt_zero _)) (Nat.lt_succ_self _) _ _ hP hD hS _ (lv_sub hl [1, 2, 0] rfl)
set_option maxRecDepth 100000 in
theorem mX1_firstEnd (l : Launch) {D : va_G} {o : Nat} {ad : Nat → Nat} {kc : Nat → ClassId} {Sz : Nat → Nat} {St : Nat → Nat} {Ct : Nat → Nat} {L : Nat} {T : Nat → Nat} {fi : Nat → Nat} {mo : Nat → Nat} {zp : Int} (hlzp : -2147483648 ≤ zp) (huzp : zp < 2147483648) (hO : sw_Ok Sz St Ct T L) (sz : Nat) : Met l yX1_firstEnd (ws_ yX1_firstEnd cX1_firstEnd 3 (some .int)) ({ frames := 4, cells := 0, slots := 0, locals := 97 }) (sw_M D vwCl (wM o ad kc Sz St Ct L T fi mo) (tyM kc) sz [.ref o, .int (zI (zp))]) (va_Qi (fun (r : Int32) (u : (Nat → Nat) × (Nat → Nat)) => sw_feR Sz St Ct T L zp r) (sw_B D vwCl (tyM kc) (va_A (wM o ad kc Sz St Ct L T fi mo) sz) (fun u : (Nat → Nat) × (Nat → Nat) => wM o ad kc Sz St Ct L T (u.1) (u.2))) (va_A (wM o ad kc Sz St Ct L T fi mo) sz)) 0 0 (va_A (wM o ad kc Sz St Ct L T fi mo) sz) := sw_metI (by decide) (Nat.le_of_ble_eq_true rfl) (fun p e s m below meth c Q ls A S hK hP hD hA hl ret => bX1_firstEnd S (Nat.le_refl _) (Nat.le_refl _) hK hP hD va_S.rf hA hlzp huzp hO ret hl) sz
set_option maxHeartbeats 4000000 in
set_option maxRecDepth 100000 in
theorem bX1_earliest {D : va_G} {o : Nat} {ad : Nat → Nat} {kc : Nat → ClassId} {Sz : Nat → Nat} {St : Nat → Nat} {Ct : Nat → Nat} {L : Nat} {T : Nat → Nat} {fi : Nat → Nat} {mo : Nat → Nat} {zp : Int} {zt : Int} (S : CallFix p m c cX1_earliest 4 s args lw_all RX1) (hRf : 3 ≤ R.frames) (hRl : 72 ≤ R.locals) (hK : va_K D vwCl (tyM kc) s) (hP : va_P D vwCl (wM o ad kc Sz St Ct L T fi mo) H) (hD : va_D A (wM o ad kc Sz St Ct L T fi mo)) (hS : va_S A H0 H locs) (hA : ∀ q, H0.size ≤ q → A q) (hlzp : -2147483648 ≤ zp) (huzp : zp < 2147483648) (hlzt : -2147483648 ≤ zt) (huzt : zt < 2147483648) (hO : sw_Ok Sz St Ct T L) (ret : ∀ (pc : Nat) (ls : Array Slot) (r : Int32) (u : (Nat → Nat) × (Nat → Nat)) (H1 : Heap) (locs1 : List Loc), decode cX1_earliest pc = .ok (.ireturn, 1) → (sw_eaR Sz St Ct T L zp zt r) → va_P D vwCl ((fun u : (Nat → Nat) × (Nat → Nat) => wM o ad kc Sz St Ct L T (u.1) (u.2)) u) H1 → va_D A ((fun u : (Nat → Nat) × (Nat → Nat) => wM o ad kc Sz St Ct L T (u.1) (u.2)) u) → va_S A H0 H1 locs1 → W p l e R s m args below meth c H1 locs1 0 0 Q (F0 m pc ls [.int r])) (hl : lv_has ls 4 [(0, .ref (o)), (1, .int (zI (zp))), (2, .int (zI (zt)))]) : W p l e R s m args below meth c H locs 0 0 Q (F0 m 0 ls []) := by
  have hx := S.1
  have hb := S.2.1
  have hown := S.2.2.2.1
  have hts := S.2.2.2.2
  have hO2 := hO
  obtain ⟨hs, ht, hc, hT, hL⟩ := hO
  refine lv_iconst (v := nI (0)) hx hb dX1_earliest_0 (by decide) ?_
  refine lv_istore_n (lv' := [(3, .int (nI (0))), (0, .ref (o)), (1, .int (zI (zp))), (2, .int (zI (zt)))]) hx hb dX1_earliest_1 rfl hl (by decide) rfl (fun ls hl => ?_)
  have L2 : ∀ (n : Nat) (fr : Nat) (f1 : Nat → Nat) (m1 : Nat → Nat), (fr ≤ 61) → (∀ b, b < fr → ¬ sw_ebZ Sz St Ct T L zp zt b) → zt.toNat + 1 - fr < n → ∀ (H : Heap) (locs : List Loc), va_P D vwCl (wM o ad kc Sz St Ct L T f1 m1) H → va_D A (wM o ad kc Sz St Ct L T f1 m1) → va_S A H0 H locs → ∀ (ls : Array Slot), lv_has ls 4 [(0, .ref (o)), (1, .int (zI (zp))), (2, .int (zI (zt))), (3, .int (nI (fr)))] → W p l e R s m args below meth c H locs 0 0 Q (F0 m 2 ls []) := by
    intro n
    induction n with
    | zero => intro fr f1 m1 _ _ hm; exact absurd hm (Nat.not_lt_zero _)
    | succ n ihL2 =>
      intro fr f1 m1 hfr hI hmL2 H locs hP hD hS ls hl
      refine lv_iload_n hx hb dX1_earliest_2 rfl (lv_at hl 3 rfl) ?_
      refine lv_iload_n hx hb dX1_earliest_3 rfl (lv_at hl 2 rfl) ?_
      refine sw_dgt (tgt := 51) hx hb dX1_earliest_4 (by decide) (nI_toInt (show (fr) < 2 ^ 31 by omega)) (zI_toInt (z := zt) (by omega) (by omega)) (fun h4 => ?_) (fun h4 => ?_)
      · have hE := sw_eaR_of (z := -1) (Or.inl ⟨rfl, fun b q => by have := (sw_ebZ_le q).1; exact hI b (by omega) q⟩)
        refine lv_iconst (v := zI (-1)) hx hb dX1_earliest_51 (by decide) ?_
        exact ret _ _ _ (f1, m1) _ _ dX1_earliest_52 (hE) hP hD hS
      · refine lv_aload_n hx hb dX1_earliest_7 rfl (lv_at hl 0 rfl) ?_
        refine lv_iload_n hx hb dX1_earliest_8 rfl (lv_at hl 1 rfl) ?_
        refine sw_cvR (As := [.int (zI (zp))]) (rest := []) (C := RX1) (ci := 1) (q0 := 0) S (mX1_pattern l hlzp huzp) (cwV 1 hts (lw_V q234 q236 qs14 q21 q237) rfl rfl rfl (by decide +kernel) ⟨Nat.le_trans (Nat.le_of_ble_eq_true rfl) hRf, Nat.le_trans (Nat.le_of_ble_eq_true rfl) hRl⟩) hK hP rfl rfl rfl rfl hl.1 rfl (Nat.le_of_ble_eq_true rfl) dX1_earliest_9 ⟨Nat.zero_le _, Nat.zero_le _⟩ (fun r hr => ?_)
        rcases hr with ⟨rfl, hr9⟩ | ⟨rfl, hr9⟩
        · refine sw_ifeq (tgt := 51) hx hb dX1_earliest_12 (by decide) (by decide) (fun q => absurd q (by decide)) (fun _ => ?_)
          refine lv_iload_n hx hb dX1_earliest_15 rfl (lv_at hl 2 rfl) ?_
          refine lv_aload_n hx hb dX1_earliest_16 rfl (lv_at hl 0 rfl) ?_
          refine va_get (D := D) (ci := 1) (v := .int (nI (L))) (C := RX1) (T := TX1) (N := 7) hx hb hts in_X1 hown hK hP 0 rfl rfl 3 (by decide) (hts _ q210) (fun _ h9 => h9) rfl dX1_earliest_17 ?_
          refine sw_dge (tgt := 51) hx hb dX1_earliest_20 (by decide) (zI_toInt (z := zt) (by omega) (by omega)) (nI_toInt (show (L) < 2 ^ 31 by omega)) (fun h20 => ?_) (fun h20 => ?_)
          · have hE := sw_eaR_of (z := -1) (Or.inl ⟨rfl, sw_ebZ_not (Sz := Sz) (St := St) (Ct := Ct) (T := T) (zp := zp) h20⟩)
            refine lv_iconst (v := zI (-1)) hx hb dX1_earliest_51 (by decide) ?_
            exact ret _ _ _ (f1, m1) _ _ dX1_earliest_52 (hE) hP hD hS
          · obtain ⟨pn, rfl⟩ := Int.eq_ofNat_of_zero_le hr9.1
            obtain ⟨tn, rfl⟩ := Int.eq_ofNat_of_zero_le (show 0 ≤ zt by omega)
            refine lv_aload_n hx hb dX1_earliest_23 rfl (lv_at hl 0 rfl) ?_
            refine lv_iload_n hx hb dX1_earliest_24 rfl (lv_at hl 1 rfl) ?_
            refine sw_top (y := nI (pn)) (zI_n pn) ?_
            refine lv_iload_n hx hb dX1_earliest_25 rfl (lv_at hl 3 rfl) ?_
            refine lv_iload_n hx hb dX1_earliest_26 rfl (lv_at hl 2 rfl) ?_
            refine sw_top (y := nI (tn)) (zI_n tn) ?_
            refine lv_iconst (v := nI (1)) hx hb dX1_earliest_27 (by decide) ?_
            refine sw_add hx hb dX1_earliest_28 ?_
            refine sw_cvV (As := [.int (nI (pn)), .int (nI (fr)), .int (nI (tn + 1))]) (rest := []) (C := RX1) (ci := 1) (q0 := 0) S (fun sz => (mX1_work l (by omega) (by omega) (by omega) hO2 sz)) (cwV 3 hts (lw_V q258 q260 qs16 q21 q261) rfl rfl rfl (by decide +kernel) ⟨Nat.le_trans (Nat.le_of_ble_eq_true rfl) hRf, Nat.le_trans (Nat.le_of_ble_eq_true rfl) hRl⟩) hK hP hD hS hA rfl rfl rfl rfl hl.1 rfl (Nat.le_of_ble_eq_true rfl) dX1_earliest_29 ⟨Nat.zero_le _, Nat.zero_le _⟩ (fun u H locs hr hP hD hS => ?_)
            obtain ⟨fi_29, mo_29⟩ := u
            have hP : va_P D vwCl (wM o ad kc Sz St Ct L T fi_29 mo_29) H := hP
            have hD : va_D A (wM o ad kc Sz St Ct L T fi_29 mo_29) := hD
            have hX : sw_t (sw_E Sz St Ct T pn fr (tn + 1)) (fi_29 (tn + 1)) := hr (tn + 1) (by omega) (Nat.le_refl _)
            have hXl := sw_t_lt hX
            refine lv_aload_n hx hb dX1_earliest_32 rfl (lv_at hl 0 rfl) ?_
            refine va_get (D := D) (ci := 1) (v := .ref (ad 4)) (C := RX1) (T := TX1) (N := 7) hx hb hts in_X1 hown hK hP 0 rfl rfl 5 (by decide) (hts _ q212) (fun _ h9 => h9) rfl dX1_earliest_33 ?_
            refine lv_iload_n hx hb dX1_earliest_36 rfl (lv_at hl 2 rfl) ?_
            refine sw_top (y := nI (tn)) (zI_n tn) ?_
            refine lv_iconst (v := nI (1)) hx hb dX1_earliest_37 (by decide) ?_
            refine sw_add hx hb dX1_earliest_38 ?_
            refine sw_zld hx hb hK hP 5 4 rfl rfl (by omega) (by decide) (v := nI (fi_29 (tn + 1))) rfl dX1_earliest_39 ?_
            refine sw_ifeq (tgt := 45) hx hb dX1_earliest_40 (by decide) (by omega) (fun h40 => ?_) (fun h40 => ?_)
            · have hI2 : ∀ b, b < fr + 1 → ¬ sw_ebZ Sz St Ct T L (pn : Int) (tn : Int) b := fun b q => by by_cases e : b = fr; rw [e]; exact fun z => sw_t_0 hX h40 ((sw_ebZ_iff (by omega) (by omega)).mp z).2; exact hI b (by omega)
              refine lv_iinc (k := 3) (v := nI (fr + 1)) (lv' := [(3, .int (nI (fr + 1))), (0, .ref (o)), (1, .int (zI ((pn : Int)))), (2, .int (zI ((tn : Int))))]) hx hb dX1_earliest_45 hl rfl (nI_add _ 1) (by decide) rfl (fun ls hl => ?_)
              refine lv_goto (tgt := 2) hx hb dX1_earliest_48 (by decide) ?_
              exact ihL2 (fr + 1) (fi_29) (mo_29) (by omega) hI2 (by omega) _ _ hP hD hS _ (lv_sub hl [1, 2, 3, 0] rfl)
            · have hE := sw_eaR_of (z := (fr : Int)) (Or.inr ⟨fr, rfl, (sw_ebZ_iff (L := L) (by omega) (by omega)).mpr ⟨by omega, sw_t_ne hX h40⟩, fun c q => Classical.byContradiction (fun z => hI c (by omega) q)⟩)
              rw [zI_n] at hE
              refine lv_iload_n hx hb dX1_earliest_43 rfl (lv_at hl 3 rfl) ?_
              exact ret _ _ _ (fi_29, mo_29) _ _ dX1_earliest_44 (hE) hP hD hS
        · have hE := sw_eaR_of (z := -1) (Or.inl ⟨rfl, sw_ebZ_nop (Sz := Sz) (St := St) (Ct := Ct) (T := T) (L := L) (zt := zt) hr9⟩)
          refine sw_ifeq (tgt := 51) hx hb dX1_earliest_12 (by decide) (by decide) (fun _ => ?_) (fun q => absurd rfl q)
          refine lv_iconst (v := zI (-1)) hx hb dX1_earliest_51 (by decide) ?_
          exact ret _ _ _ (f1, m1) _ _ dX1_earliest_52 (hE) hP hD hS
  exact L2 (zt.toNat + 1 - (0) + 1) (0) (fi) (mo) (by omega) (fun t q => absurd q (Nat.not_lt_zero _)) (Nat.lt_succ_self _) _ _ hP hD hS _ (lv_sub hl [1, 2, 3, 0] rfl)
set_option maxRecDepth 100000 in
theorem mX1_earliest (l : Launch) {D : va_G} {o : Nat} {ad : Nat → Nat} {kc : Nat → ClassId} {Sz : Nat → Nat} {St : Nat → Nat} {Ct : Nat → Nat} {L : Nat} {T : Nat → Nat} {fi : Nat → Nat} {mo : Nat → Nat} {zp : Int} {zt : Int} (hlzp : -2147483648 ≤ zp) (huzp : zp < 2147483648) (hlzt : -2147483648 ≤ zt) (huzt : zt < 2147483648) (hO : sw_Ok Sz St Ct T L) (sz : Nat) : Met l yX1_earliest (ws_ yX1_earliest cX1_earliest 4 (some .int)) ({ frames := 3, cells := 0, slots := 0, locals := 72 }) (sw_M D vwCl (wM o ad kc Sz St Ct L T fi mo) (tyM kc) sz [.ref o, .int (zI (zp)), .int (zI (zt))]) (va_Qi (fun (r : Int32) (u : (Nat → Nat) × (Nat → Nat)) => sw_eaR Sz St Ct T L zp zt r) (sw_B D vwCl (tyM kc) (va_A (wM o ad kc Sz St Ct L T fi mo) sz) (fun u : (Nat → Nat) × (Nat → Nat) => wM o ad kc Sz St Ct L T (u.1) (u.2))) (va_A (wM o ad kc Sz St Ct L T fi mo) sz)) 0 0 (va_A (wM o ad kc Sz St Ct L T fi mo) sz) := sw_metI (by decide) (Nat.le_of_ble_eq_true rfl) (fun p e s m below meth c Q ls A S hK hP hD hA hl ret => bX1_earliest S (Nat.le_refl _) (Nat.le_refl _) hK hP hD va_S.rf hA hlzp huzp hlzt huzt hO ret hl) sz
set_option maxHeartbeats 4000000 in
set_option maxRecDepth 100000 in
theorem bX1_latest {D : va_G} {o : Nat} {ad : Nat → Nat} {kc : Nat → ClassId} {Sz : Nat → Nat} {St : Nat → Nat} {Ct : Nat → Nat} {L : Nat} {T : Nat → Nat} {fi : Nat → Nat} {mo : Nat → Nat} {zp : Int} {zt : Int} (S : CallFix p m c cX1_latest 4 s args lw_all RX1) (hRf : 3 ≤ R.frames) (hRl : 72 ≤ R.locals) (hK : va_K D vwCl (tyM kc) s) (hP : va_P D vwCl (wM o ad kc Sz St Ct L T fi mo) H) (hD : va_D A (wM o ad kc Sz St Ct L T fi mo)) (hS : va_S A H0 H locs) (hA : ∀ q, H0.size ≤ q → A q) (hlzp : -2147483648 ≤ zp) (huzp : zp < 2147483648) (hlzt : -2147483648 ≤ zt) (huzt : zt < 2147483648) (hO : sw_Ok Sz St Ct T L) (ret : ∀ (pc : Nat) (ls : Array Slot) (r : Int32) (u : (Nat → Nat) × (Nat → Nat)) (H1 : Heap) (locs1 : List Loc), decode cX1_latest pc = .ok (.ireturn, 1) → (sw_laR Sz St Ct T L zp zt r) → va_P D vwCl ((fun u : (Nat → Nat) × (Nat → Nat) => wM o ad kc Sz St Ct L T (u.1) (u.2)) u) H1 → va_D A ((fun u : (Nat → Nat) × (Nat → Nat) => wM o ad kc Sz St Ct L T (u.1) (u.2)) u) → va_S A H0 H1 locs1 → W p l e R s m args below meth c H1 locs1 0 0 Q (F0 m pc ls [.int r])) (hl : lv_has ls 4 [(0, .ref (o)), (1, .int (zI (zp))), (2, .int (zI (zt)))]) : W p l e R s m args below meth c H locs 0 0 Q (F0 m 0 ls []) := by
  have hx := S.1
  have hb := S.2.1
  have hown := S.2.2.2.1
  have hts := S.2.2.2.2
  have hO2 := hO
  obtain ⟨hs, ht, hc, hT, hL⟩ := hO
  refine lv_iload_n hx hb dX1_latest_0 rfl (lv_at hl 2 rfl) ?_
  refine lv_aload_n hx hb dX1_latest_1 rfl (lv_at hl 0 rfl) ?_
  refine va_get (D := D) (ci := 1) (v := .int (nI (L))) (C := RX1) (T := TX1) (N := 7) hx hb hts in_X1 hown hK hP 0 rfl rfl 3 (by decide) (hts _ q210) (fun _ h9 => h9) rfl dX1_latest_2 ?_
  refine sw_dge (tgt := 12) hx hb dX1_latest_5 (by decide) (zI_toInt (z := zt) (by omega) (by omega)) (nI_toInt (show (L) < 2 ^ 31 by omega)) (fun h5 => ?_) (fun h5 => ?_)
  · have hI0 : ∀ b : Nat, (-1 : Int) < (b : Int) → ¬ sw_ebZ Sz St Ct T L zp zt b := fun b _ => sw_ebZ_not h5 b
    have hz0 : (0 : Int) ≤ -1 → (-1 : Int) ≤ zt ∧ zt < (L : Int) := fun q => absurd q (by omega)
    refine lv_iconst (v := zI (-1)) hx hb dX1_latest_12 (by decide) ?_
    refine lv_istore_n (lv' := [(3, .int (zI (-1))), (0, .ref (o)), (1, .int (zI (zp))), (2, .int (zI (zt)))]) hx hb dX1_latest_13 rfl hl (by decide) rfl (fun ls hl => ?_)
    have L14 : ∀ (n : Nat) (zf : Int) (f1 : Nat → Nat) (m1 : Nat → Nat), (-2147483648 ≤ zf) → (zf < 2147483648) → (0 ≤ zf → zf ≤ zt ∧ zt < (L : Int)) → (∀ b : Nat, zf < (b : Int) → ¬ sw_ebZ Sz St Ct T L zp zt b) → (zf + 1).toNat < n → ∀ (H : Heap) (locs : List Loc), va_P D vwCl (wM o ad kc Sz St Ct L T f1 m1) H → va_D A (wM o ad kc Sz St Ct L T f1 m1) → va_S A H0 H locs → ∀ (ls : Array Slot), lv_has ls 4 [(0, .ref (o)), (1, .int (zI (zp))), (2, .int (zI (zt))), (3, .int (zI (zf)))] → W p l e R s m args below meth c H locs 0 0 Q (F0 m 14 ls []) := by
      intro n
      induction n with
      | zero => intro zf f1 m1 _ _ _ _ hm; exact absurd hm (Nat.not_lt_zero _)
      | succ n ihL14 =>
        intro zf f1 m1 hz1 hz2 hz3 hI hmL14 H locs hP hD hS ls hl
        refine lv_iload_n hx hb dX1_latest_14 rfl (lv_at hl 3 rfl) ?_
        refine sw_zlt (tgt := 54) hx hb dX1_latest_15 (by decide) (zI_toInt (z := zf) (by omega) (by omega)) (fun h15 => ?_) (fun h15 => ?_)
        · have hE := sw_laR_of (z := -1) (Or.inl ⟨rfl, fun b => hI b (by omega)⟩)
          refine lv_iconst (v := zI (-1)) hx hb dX1_latest_54 (by decide) ?_
          exact ret _ _ _ (f1, m1) _ _ dX1_latest_55 (hE) hP hD hS
        · refine lv_aload_n hx hb dX1_latest_18 rfl (lv_at hl 0 rfl) ?_
          refine lv_iload_n hx hb dX1_latest_19 rfl (lv_at hl 1 rfl) ?_
          refine sw_cvR (As := [.int (zI (zp))]) (rest := []) (C := RX1) (ci := 1) (q0 := 0) S (mX1_pattern l hlzp huzp) (cwV 1 hts (lw_V q234 q236 qs14 q21 q237) rfl rfl rfl (by decide +kernel) ⟨Nat.le_trans (Nat.le_of_ble_eq_true rfl) hRf, Nat.le_trans (Nat.le_of_ble_eq_true rfl) hRl⟩) hK hP rfl rfl rfl rfl hl.1 rfl (Nat.le_of_ble_eq_true rfl) dX1_latest_20 ⟨Nat.zero_le _, Nat.zero_le _⟩ (fun r hr => ?_)
          rcases hr with ⟨rfl, hr20⟩ | ⟨rfl, hr20⟩
          · obtain ⟨pn, rfl⟩ := Int.eq_ofNat_of_zero_le hr20.1
            have hz4 := hz3 h15
            obtain ⟨tn, rfl⟩ := Int.eq_ofNat_of_zero_le (show 0 ≤ zt by omega)
            obtain ⟨fr, rfl⟩ := Int.eq_ofNat_of_zero_le h15
            refine sw_ifeq (tgt := 54) hx hb dX1_latest_23 (by decide) (by decide) (fun q => absurd q (by decide)) (fun _ => ?_)
            refine lv_aload_n hx hb dX1_latest_26 rfl (lv_at hl 0 rfl) ?_
            refine lv_iload_n hx hb dX1_latest_27 rfl (lv_at hl 1 rfl) ?_
            refine sw_top (y := nI (pn)) (zI_n pn) ?_
            refine lv_iload_n hx hb dX1_latest_28 rfl (lv_at hl 3 rfl) ?_
            refine sw_top (y := nI (fr)) (zI_n fr) ?_
            refine lv_iload_n hx hb dX1_latest_29 rfl (lv_at hl 2 rfl) ?_
            refine sw_top (y := nI (tn)) (zI_n tn) ?_
            refine lv_iconst (v := nI (1)) hx hb dX1_latest_30 (by decide) ?_
            refine sw_add hx hb dX1_latest_31 ?_
            refine sw_cvV (As := [.int (nI (pn)), .int (nI (fr)), .int (nI (tn + 1))]) (rest := []) (C := RX1) (ci := 1) (q0 := 0) S (fun sz => (mX1_work l (by omega) (by omega) (by omega) hO2 sz)) (cwV 3 hts (lw_V q258 q260 qs16 q21 q261) rfl rfl rfl (by decide +kernel) ⟨Nat.le_trans (Nat.le_of_ble_eq_true rfl) hRf, Nat.le_trans (Nat.le_of_ble_eq_true rfl) hRl⟩) hK hP hD hS hA rfl rfl rfl rfl hl.1 rfl (Nat.le_of_ble_eq_true rfl) dX1_latest_32 ⟨Nat.zero_le _, Nat.zero_le _⟩ (fun u H locs hr hP hD hS => ?_)
            obtain ⟨fi_32, mo_32⟩ := u
            have hP : va_P D vwCl (wM o ad kc Sz St Ct L T fi_32 mo_32) H := hP
            have hD : va_D A (wM o ad kc Sz St Ct L T fi_32 mo_32) := hD
            have hX : sw_t (sw_E Sz St Ct T pn fr (tn + 1)) (fi_32 (tn + 1)) := hr (tn + 1) (by omega) (Nat.le_refl _)
            have hXl := sw_t_lt hX
            refine lv_aload_n hx hb dX1_latest_35 rfl (lv_at hl 0 rfl) ?_
            refine va_get (D := D) (ci := 1) (v := .ref (ad 4)) (C := RX1) (T := TX1) (N := 7) hx hb hts in_X1 hown hK hP 0 rfl rfl 5 (by decide) (hts _ q212) (fun _ h9 => h9) rfl dX1_latest_36 ?_
            refine lv_iload_n hx hb dX1_latest_39 rfl (lv_at hl 2 rfl) ?_
            refine sw_top (y := nI (tn)) (zI_n tn) ?_
            refine lv_iconst (v := nI (1)) hx hb dX1_latest_40 (by decide) ?_
            refine sw_add hx hb dX1_latest_41 ?_
            refine sw_zld hx hb hK hP 5 4 rfl rfl (by omega) (by decide) (v := nI (fi_32 (tn + 1))) rfl dX1_latest_42 ?_
            refine sw_ifeq (tgt := 48) hx hb dX1_latest_43 (by decide) (by omega) (fun h43 => ?_) (fun h43 => ?_)
            · have hI2 : ∀ b : Nat, (fr : Int) + (-1) < (b : Int) → ¬ sw_ebZ Sz St Ct T L (pn : Int) (tn : Int) b := fun b q => by by_cases e : b = fr; rw [e]; exact fun z => sw_t_0 hX h43 ((sw_ebZ_iff (by omega) (by omega)).mp z).2; exact hI b (by omega)
              refine lv_iinc (k := 3) (v := zI (((fr : Int)) + (-1))) (lv' := [(3, .int (zI (((fr : Int)) + (-1)))), (0, .ref (o)), (1, .int (zI ((pn : Int)))), (2, .int (zI ((tn : Int))))]) hx hb dX1_latest_48 hl rfl (Int32.ofInt_add _ _).symm (by decide) rfl (fun ls hl => ?_)
              refine lv_goto (tgt := 14) hx hb dX1_latest_51 (by decide) ?_
              exact ihL14 (((fr : Int)) + (-1)) (fi_32) (mo_32) (by omega) (by omega) (by omega) hI2 (by omega) _ _ hP hD hS _ (lv_sub hl [1, 2, 3, 0] rfl)
            · have hE := sw_laR_of (z := (fr : Int)) (Or.inr ⟨fr, rfl, (sw_ebZ_iff (L := L) (by omega) (by omega)).mpr ⟨by omega, sw_t_ne hX h43⟩, fun c q => Classical.byContradiction (fun z => hI c (by omega) q)⟩)
              refine lv_iload_n hx hb dX1_latest_46 rfl (lv_at hl 3 rfl) ?_
              exact ret _ _ _ (fi_32, mo_32) _ _ dX1_latest_47 (hE) hP hD hS
          · have hE := sw_laR_of (z := -1) (Or.inl ⟨rfl, sw_ebZ_nop (Sz := Sz) (St := St) (Ct := Ct) (T := T) (L := L) (zt := zt) hr20⟩)
            refine sw_ifeq (tgt := 54) hx hb dX1_latest_23 (by decide) (by decide) (fun _ => ?_) (fun q => absurd rfl q)
            refine lv_iconst (v := zI (-1)) hx hb dX1_latest_54 (by decide) ?_
            exact ret _ _ _ (f1, m1) _ _ dX1_latest_55 (hE) hP hD hS
    exact L14 (((-1) + 1).toNat + 1) (-1) (fi) (mo) (by omega) (by omega) hz0 hI0 (Nat.lt_succ_self _) _ _ hP hD hS _ (lv_sub hl [1, 2, 3, 0] rfl)
  · have hI0 : ∀ b : Nat, zt < (b : Int) → ¬ sw_ebZ Sz St Ct T L zp zt b := fun b q z => by have := (sw_ebZ_le z).1; omega
    have hz0 : 0 ≤ zt → zt ≤ zt ∧ zt < (L : Int) := fun _ => ⟨by omega, h5⟩
    refine lv_iload_n hx hb dX1_latest_8 rfl (lv_at hl 2 rfl) ?_
    refine lv_goto (tgt := 13) hx hb dX1_latest_9 (by decide) ?_
    refine lv_istore_n (lv' := [(3, .int (zI (zt))), (0, .ref (o)), (1, .int (zI (zp))), (2, .int (zI (zt)))]) hx hb dX1_latest_13 rfl hl (by decide) rfl (fun ls hl => ?_)
    have L14 : ∀ (n : Nat) (zf : Int) (f1 : Nat → Nat) (m1 : Nat → Nat), (-2147483648 ≤ zf) → (zf < 2147483648) → (0 ≤ zf → zf ≤ zt ∧ zt < (L : Int)) → (∀ b : Nat, zf < (b : Int) → ¬ sw_ebZ Sz St Ct T L zp zt b) → (zf + 1).toNat < n → ∀ (H : Heap) (locs : List Loc), va_P D vwCl (wM o ad kc Sz St Ct L T f1 m1) H → va_D A (wM o ad kc Sz St Ct L T f1 m1) → va_S A H0 H locs → ∀ (ls : Array Slot), lv_has ls 4 [(0, .ref (o)), (1, .int (zI (zp))), (2, .int (zI (zt))), (3, .int (zI (zf)))] → W p l e R s m args below meth c H locs 0 0 Q (F0 m 14 ls []) := by
      intro n
      induction n with
      | zero => intro zf f1 m1 _ _ _ _ hm; exact absurd hm (Nat.not_lt_zero _)
      | succ n ihL14 =>
        intro zf f1 m1 hz1 hz2 hz3 hI hmL14 H locs hP hD hS ls hl
        refine lv_iload_n hx hb dX1_latest_14 rfl (lv_at hl 3 rfl) ?_
        refine sw_zlt (tgt := 54) hx hb dX1_latest_15 (by decide) (zI_toInt (z := zf) (by omega) (by omega)) (fun h15 => ?_) (fun h15 => ?_)
        · have hE := sw_laR_of (z := -1) (Or.inl ⟨rfl, fun b => hI b (by omega)⟩)
          refine lv_iconst (v := zI (-1)) hx hb dX1_latest_54 (by decide) ?_
          exact ret _ _ _ (f1, m1) _ _ dX1_latest_55 (hE) hP hD hS
        · refine lv_aload_n hx hb dX1_latest_18 rfl (lv_at hl 0 rfl) ?_
          refine lv_iload_n hx hb dX1_latest_19 rfl (lv_at hl 1 rfl) ?_
          refine sw_cvR (As := [.int (zI (zp))]) (rest := []) (C := RX1) (ci := 1) (q0 := 0) S (mX1_pattern l hlzp huzp) (cwV 1 hts (lw_V q234 q236 qs14 q21 q237) rfl rfl rfl (by decide +kernel) ⟨Nat.le_trans (Nat.le_of_ble_eq_true rfl) hRf, Nat.le_trans (Nat.le_of_ble_eq_true rfl) hRl⟩) hK hP rfl rfl rfl rfl hl.1 rfl (Nat.le_of_ble_eq_true rfl) dX1_latest_20 ⟨Nat.zero_le _, Nat.zero_le _⟩ (fun r hr => ?_)
          rcases hr with ⟨rfl, hr20⟩ | ⟨rfl, hr20⟩
          · obtain ⟨pn, rfl⟩ := Int.eq_ofNat_of_zero_le hr20.1
            have hz4 := hz3 h15
            obtain ⟨tn, rfl⟩ := Int.eq_ofNat_of_zero_le (show 0 ≤ zt by omega)
            obtain ⟨fr, rfl⟩ := Int.eq_ofNat_of_zero_le h15
            refine sw_ifeq (tgt := 54) hx hb dX1_latest_23 (by decide) (by decide) (fun q => absurd q (by decide)) (fun _ => ?_)
            refine lv_aload_n hx hb dX1_latest_26 rfl (lv_at hl 0 rfl) ?_
            refine lv_iload_n hx hb dX1_latest_27 rfl (lv_at hl 1 rfl) ?_
            refine sw_top (y := nI (pn)) (zI_n pn) ?_
            refine lv_iload_n hx hb dX1_latest_28 rfl (lv_at hl 3 rfl) ?_
            refine sw_top (y := nI (fr)) (zI_n fr) ?_
            refine lv_iload_n hx hb dX1_latest_29 rfl (lv_at hl 2 rfl) ?_
            refine sw_top (y := nI (tn)) (zI_n tn) ?_
            refine lv_iconst (v := nI (1)) hx hb dX1_latest_30 (by decide) ?_
            refine sw_add hx hb dX1_latest_31 ?_
            refine sw_cvV (As := [.int (nI (pn)), .int (nI (fr)), .int (nI (tn + 1))]) (rest := []) (C := RX1) (ci := 1) (q0 := 0) S (fun sz => (mX1_work l (by omega) (by omega) (by omega) hO2 sz)) (cwV 3 hts (lw_V q258 q260 qs16 q21 q261) rfl rfl rfl (by decide +kernel) ⟨Nat.le_trans (Nat.le_of_ble_eq_true rfl) hRf, Nat.le_trans (Nat.le_of_ble_eq_true rfl) hRl⟩) hK hP hD hS hA rfl rfl rfl rfl hl.1 rfl (Nat.le_of_ble_eq_true rfl) dX1_latest_32 ⟨Nat.zero_le _, Nat.zero_le _⟩ (fun u H locs hr hP hD hS => ?_)
            obtain ⟨fi_32, mo_32⟩ := u
            have hP : va_P D vwCl (wM o ad kc Sz St Ct L T fi_32 mo_32) H := hP
            have hD : va_D A (wM o ad kc Sz St Ct L T fi_32 mo_32) := hD
            have hX : sw_t (sw_E Sz St Ct T pn fr (tn + 1)) (fi_32 (tn + 1)) := hr (tn + 1) (by omega) (Nat.le_refl _)
            have hXl := sw_t_lt hX
            refine lv_aload_n hx hb dX1_latest_35 rfl (lv_at hl 0 rfl) ?_
            refine va_get (D := D) (ci := 1) (v := .ref (ad 4)) (C := RX1) (T := TX1) (N := 7) hx hb hts in_X1 hown hK hP 0 rfl rfl 5 (by decide) (hts _ q212) (fun _ h9 => h9) rfl dX1_latest_36 ?_
            refine lv_iload_n hx hb dX1_latest_39 rfl (lv_at hl 2 rfl) ?_
            refine sw_top (y := nI (tn)) (zI_n tn) ?_
            refine lv_iconst (v := nI (1)) hx hb dX1_latest_40 (by decide) ?_
            refine sw_add hx hb dX1_latest_41 ?_
            refine sw_zld hx hb hK hP 5 4 rfl rfl (by omega) (by decide) (v := nI (fi_32 (tn + 1))) rfl dX1_latest_42 ?_
            refine sw_ifeq (tgt := 48) hx hb dX1_latest_43 (by decide) (by omega) (fun h43 => ?_) (fun h43 => ?_)
            · have hI2 : ∀ b : Nat, (fr : Int) + (-1) < (b : Int) → ¬ sw_ebZ Sz St Ct T L (pn : Int) (tn : Int) b := fun b q => by by_cases e : b = fr; rw [e]; exact fun z => sw_t_0 hX h43 ((sw_ebZ_iff (by omega) (by omega)).mp z).2; exact hI b (by omega)
              refine lv_iinc (k := 3) (v := zI (((fr : Int)) + (-1))) (lv' := [(3, .int (zI (((fr : Int)) + (-1)))), (0, .ref (o)), (1, .int (zI ((pn : Int)))), (2, .int (zI ((tn : Int))))]) hx hb dX1_latest_48 hl rfl (Int32.ofInt_add _ _).symm (by decide) rfl (fun ls hl => ?_)
              refine lv_goto (tgt := 14) hx hb dX1_latest_51 (by decide) ?_
              exact ihL14 (((fr : Int)) + (-1)) (fi_32) (mo_32) (by omega) (by omega) (by omega) hI2 (by omega) _ _ hP hD hS _ (lv_sub hl [1, 2, 3, 0] rfl)
            · have hE := sw_laR_of (z := (fr : Int)) (Or.inr ⟨fr, rfl, (sw_ebZ_iff (L := L) (by omega) (by omega)).mpr ⟨by omega, sw_t_ne hX h43⟩, fun c q => Classical.byContradiction (fun z => hI c (by omega) q)⟩)
              refine lv_iload_n hx hb dX1_latest_46 rfl (lv_at hl 3 rfl) ?_
              exact ret _ _ _ (fi_32, mo_32) _ _ dX1_latest_47 (hE) hP hD hS
          · have hE := sw_laR_of (z := -1) (Or.inl ⟨rfl, sw_ebZ_nop (Sz := Sz) (St := St) (Ct := Ct) (T := T) (L := L) (zt := zt) hr20⟩)
            refine sw_ifeq (tgt := 54) hx hb dX1_latest_23 (by decide) (by decide) (fun _ => ?_) (fun q => absurd rfl q)
            refine lv_iconst (v := zI (-1)) hx hb dX1_latest_54 (by decide) ?_
            exact ret _ _ _ (f1, m1) _ _ dX1_latest_55 (hE) hP hD hS
    exact L14 (((zt) + 1).toNat + 1) (zt) (fi) (mo) (by omega) (by omega) hz0 hI0 (Nat.lt_succ_self _) _ _ hP hD hS _ (lv_sub hl [1, 2, 3, 0] rfl)
set_option maxRecDepth 100000 in
theorem mX1_latest (l : Launch) {D : va_G} {o : Nat} {ad : Nat → Nat} {kc : Nat → ClassId} {Sz : Nat → Nat} {St : Nat → Nat} {Ct : Nat → Nat} {L : Nat} {T : Nat → Nat} {fi : Nat → Nat} {mo : Nat → Nat} {zp : Int} {zt : Int} (hlzp : -2147483648 ≤ zp) (huzp : zp < 2147483648) (hlzt : -2147483648 ≤ zt) (huzt : zt < 2147483648) (hO : sw_Ok Sz St Ct T L) (sz : Nat) : Met l yX1_latest (ws_ yX1_latest cX1_latest 4 (some .int)) ({ frames := 3, cells := 0, slots := 0, locals := 72 }) (sw_M D vwCl (wM o ad kc Sz St Ct L T fi mo) (tyM kc) sz [.ref o, .int (zI (zp)), .int (zI (zt))]) (va_Qi (fun (r : Int32) (u : (Nat → Nat) × (Nat → Nat)) => sw_laR Sz St Ct T L zp zt r) (sw_B D vwCl (tyM kc) (va_A (wM o ad kc Sz St Ct L T fi mo) sz) (fun u : (Nat → Nat) × (Nat → Nat) => wM o ad kc Sz St Ct L T (u.1) (u.2))) (va_A (wM o ad kc Sz St Ct L T fi mo) sz)) 0 0 (va_A (wM o ad kc Sz St Ct L T fi mo) sz) := sw_metI (by decide) (Nat.le_of_ble_eq_true rfl) (fun p e s m below meth c Q ls A S hK hP hD hA hl ret => bX1_latest S (Nat.le_refl _) (Nat.le_refl _) hK hP hD va_S.rf hA hlzp huzp hlzt huzt hO ret hl) sz
set_option maxHeartbeats 4000000 in
set_option maxRecDepth 100000 in
theorem bX1_longest {D : va_G} {o : Nat} {ad : Nat → Nat} {kc : Nat → ClassId} {Sz : Nat → Nat} {St : Nat → Nat} {Ct : Nat → Nat} {L : Nat} {T : Nat → Nat} {fi : Nat → Nat} {mo : Nat → Nat} {zp : Int} (S : CallFix p m c cX1_longest 5 s args lw_all RX1) (hRf : 3 ≤ R.frames) (hRl : 72 ≤ R.locals) (hK : va_K D vwCl (tyM kc) s) (hP : va_P D vwCl (wM o ad kc Sz St Ct L T fi mo) H) (hD : va_D A (wM o ad kc Sz St Ct L T fi mo)) (hS : va_S A H0 H locs) (hA : ∀ q, H0.size ≤ q → A q) (hlzp : -2147483648 ≤ zp) (huzp : zp < 2147483648) (hO : sw_Ok Sz St Ct T L) (ret : ∀ (pc : Nat) (ls : Array Slot) (r : Int32) (u : (Nat → Nat) × (Nat → Nat)) (H1 : Heap) (locs1 : List Loc), decode cX1_longest pc = .ok (.ireturn, 1) → ((∃ x, r = nI x ∧ sw_mx (sw_lonP Sz St Ct T zp L) x)) → va_P D vwCl ((fun u : (Nat → Nat) × (Nat → Nat) => wM o ad kc Sz St Ct L T (u.1) (u.2)) u) H1 → va_D A ((fun u : (Nat → Nat) × (Nat → Nat) => wM o ad kc Sz St Ct L T (u.1) (u.2)) u) → va_S A H0 H1 locs1 → W p l e R s m args below meth c H1 locs1 0 0 Q (F0 m pc ls [.int r])) (hl : lv_has ls 5 [(0, .ref (o)), (1, .int (zI (zp)))]) : W p l e R s m args below meth c H locs 0 0 Q (F0 m 0 ls []) := by
  have hx := S.1
  have hb := S.2.1
  have hown := S.2.2.2.1
  have hts := S.2.2.2.2
  have hO2 := hO
  obtain ⟨hs, ht, hc, hT, hL⟩ := hO
  refine lv_iconst (v := nI (0)) hx hb dX1_longest_0 (by decide) ?_
  refine lv_istore_n (lv' := [(2, .int (nI (0))), (0, .ref (o)), (1, .int (zI (zp)))]) hx hb dX1_longest_1 rfl hl (by decide) rfl (fun ls hl => ?_)
  refine lv_iconst (v := nI (0)) hx hb dX1_longest_2 (by decide) ?_
  refine lv_istore_n (lv' := [(3, .int (nI (0))), (2, .int (nI (0))), (0, .ref (o)), (1, .int (zI (zp)))]) hx hb dX1_longest_3 rfl hl (by decide) rfl (fun ls hl => ?_)
  have L4 : ∀ (n : Nat) (x : Nat) (fr : Nat) (f1 : Nat → Nat) (m1 : Nat → Nat), (fr ≤ L) → (sw_mx (sw_lonM Sz St Ct T L zp fr) x) → L - fr < n → ∀ (H : Heap) (locs : List Loc), va_P D vwCl (wM o ad kc Sz St Ct L T f1 m1) H → va_D A (wM o ad kc Sz St Ct L T f1 m1) → va_S A H0 H locs → ∀ (ls : Array Slot), lv_has ls 5 [(0, .ref (o)), (1, .int (zI (zp))), (2, .int (nI (x))), (3, .int (nI (fr)))] → W p l e R s m args below meth c H locs 0 0 Q (F0 m 4 ls []) := by
    intro n
    induction n with
    | zero => intro x fr f1 m1 _ _ hm; exact absurd hm (Nat.not_lt_zero _)
    | succ n ihL4 =>
      intro x fr f1 m1 hfr hI hmL4 H locs hP hD hS ls hl
      refine lv_iload_n hx hb dX1_longest_4 rfl (lv_at hl 3 rfl) ?_
      refine lv_aload_n hx hb dX1_longest_5 rfl (lv_at hl 0 rfl) ?_
      refine va_get (D := D) (ci := 1) (v := .int (nI (L))) (C := RX1) (T := TX1) (N := 7) hx hb hts in_X1 hown hK hP 0 rfl rfl 3 (by decide) (hts _ q210) (fun _ h9 => h9) rfl dX1_longest_6 ?_
      refine sw_cge (tgt := 83) hx hb dX1_longest_9 (by decide) (by omega) (by omega) (fun h9 => ?_) (fun h9 => ?_)
      · have hE := sw_lonM_e (Or.inl h9) hI
        refine lv_iload_n hx hb dX1_longest_83 rfl (lv_at hl 2 rfl) ?_
        exact ret _ _ _ (f1, m1) _ _ dX1_longest_84 (⟨x, rfl, hE⟩) hP hD hS
      · refine lv_aload_n hx hb dX1_longest_12 rfl (lv_at hl 0 rfl) ?_
        refine lv_iload_n hx hb dX1_longest_13 rfl (lv_at hl 1 rfl) ?_
        refine sw_cvR (As := [.int (zI (zp))]) (rest := []) (C := RX1) (ci := 1) (q0 := 0) S (mX1_pattern l hlzp huzp) (cwV 1 hts (lw_V q234 q236 qs14 q21 q237) rfl rfl rfl (by decide +kernel) ⟨Nat.le_trans (Nat.le_of_ble_eq_true rfl) hRf, Nat.le_trans (Nat.le_of_ble_eq_true rfl) hRl⟩) hK hP rfl rfl rfl rfl hl.1 rfl (Nat.le_of_ble_eq_true rfl) dX1_longest_14 ⟨Nat.zero_le _, Nat.zero_le _⟩ (fun r hr => ?_)
        rcases hr with ⟨rfl, hr14⟩ | ⟨rfl, hr14⟩
        · obtain ⟨pn, rfl⟩ := Int.eq_ofNat_of_zero_le hr14.1
          refine sw_ifeq (tgt := 83) hx hb dX1_longest_17 (by decide) (by decide) (fun q => absurd q (by decide)) (fun _ => ?_)
          refine lv_aload_n hx hb dX1_longest_20 rfl (lv_at hl 0 rfl) ?_
          refine lv_iload_n hx hb dX1_longest_21 rfl (lv_at hl 1 rfl) ?_
          refine sw_top (y := nI (pn)) (zI_n pn) ?_
          refine lv_iload_n hx hb dX1_longest_22 rfl (lv_at hl 3 rfl) ?_
          refine lv_aload_n hx hb dX1_longest_23 rfl (lv_at hl 0 rfl) ?_
          refine va_get (D := D) (ci := 1) (v := .int (nI (L))) (C := RX1) (T := TX1) (N := 7) hx hb hts in_X1 hown hK hP 0 rfl rfl 3 (by decide) (hts _ q210) (fun _ h9 => h9) rfl dX1_longest_24 ?_
          refine sw_cvV (As := [.int (nI (pn)), .int (nI (fr)), .int (nI (L))]) (rest := []) (C := RX1) (ci := 1) (q0 := 0) S (fun sz => (mX1_work l (by omega) (by omega) (by omega) hO2 sz)) (cwV 3 hts (lw_V q258 q260 qs16 q21 q261) rfl rfl rfl (by decide +kernel) ⟨Nat.le_trans (Nat.le_of_ble_eq_true rfl) hRf, Nat.le_trans (Nat.le_of_ble_eq_true rfl) hRl⟩) hK hP hD hS hA rfl rfl rfl rfl hl.1 rfl (Nat.le_of_ble_eq_true rfl) dX1_longest_27 ⟨Nat.zero_le _, Nat.zero_le _⟩ (fun u H locs hr hP hD hS => ?_)
          obtain ⟨fi_27, mo_27⟩ := u
          have hP : va_P D vwCl (wM o ad kc Sz St Ct L T fi_27 mo_27) H := hP
          have hD : va_D A (wM o ad kc Sz St Ct L T fi_27 mo_27) := hD
          have hW : ∀ q, fr ≤ q → q ≤ L → sw_t (sw_E Sz St Ct T pn fr q) (fi_27 q) := hr
          refine lv_iload_n hx hb dX1_longest_30 rfl (lv_at hl 3 rfl) ?_
          refine lv_iconst (v := nI (1)) hx hb dX1_longest_31 (by decide) ?_
          refine sw_add hx hb dX1_longest_32 ?_
          refine lv_istore (lv' := [(4, .int (nI (fr + 1))), (0, .ref (o)), (1, .int (zI ((pn : Int)))), (2, .int (nI (x))), (3, .int (nI (fr)))]) hx hb dX1_longest_33 hl (by decide) rfl (fun ls hl => ?_)
          have L35 : ∀ (n : Nat) (y : Nat) (qq : Nat), (fr < qq) → (qq ≤ L + 1) → (sw_mx (sw_lonQ Sz St Ct T L (pn : Int) fr qq) y) → L + 1 - qq < n → ∀ (H : Heap) (locs : List Loc), va_P D vwCl (wM o ad kc Sz St Ct L T fi_27 mo_27) H → va_D A (wM o ad kc Sz St Ct L T fi_27 mo_27) → va_S A H0 H locs → ∀ (ls : Array Slot), lv_has ls 5 [(0, .ref (o)), (1, .int (zI ((pn : Int)))), (2, .int (nI (y))), (3, .int (nI (fr))), (4, .int (nI (qq)))] → W p l e R s m args below meth c H locs 0 0 Q (F0 m 35 ls []) := by
            intro n
            induction n with
            | zero => intro y qq _ _ _ hm; exact absurd hm (Nat.not_lt_zero _)
            | succ n ihL35 =>
              intro y qq hq1 hq2 hQ hmL35 H locs hP hD hS ls hl
              have hyl := sw_lonQ_le hQ
              refine lv_iload hx hb dX1_longest_35 (lv_at hl 4 rfl) ?_
              refine lv_aload_n hx hb dX1_longest_37 rfl (lv_at hl 0 rfl) ?_
              refine va_get (D := D) (ci := 1) (v := .int (nI (L))) (C := RX1) (T := TX1) (N := 7) hx hb hts in_X1 hown hK hP 0 rfl rfl 3 (by decide) (hts _ q210) (fun _ h9 => h9) rfl dX1_longest_38 ?_
              refine sw_cgt (tgt := 77) hx hb dX1_longest_41 (by decide) (by omega) (by omega) (fun h41 => ?_) (fun h41 => ?_)
              · refine lv_iinc (k := 3) (v := nI (fr + 1)) (lv' := [(3, .int (nI (fr + 1))), (0, .ref (o)), (1, .int (zI ((pn : Int)))), (2, .int (nI (y))), (4, .int (nI (qq)))]) hx hb dX1_longest_77 hl rfl (nI_add _ 1) (by decide) rfl (fun ls hl => ?_)
                refine lv_goto (tgt := 4) hx hb dX1_longest_80 (by decide) ?_
                exact ihL4 (y) (fr + 1) (fi_27) (mo_27) (by omega) (sw_lonQ_e h41 hQ) (by omega) _ _ hP hD hS _ (lv_sub hl [1, 2, 3, 0] rfl)
              · have hX := hW qq (by omega) h41
                have hXl := sw_t_lt hX
                refine lv_aload_n hx hb dX1_longest_44 rfl (lv_at hl 0 rfl) ?_
                refine va_get (D := D) (ci := 1) (v := .ref (ad 4)) (C := RX1) (T := TX1) (N := 7) hx hb hts in_X1 hown hK hP 0 rfl rfl 5 (by decide) (hts _ q212) (fun _ h9 => h9) rfl dX1_longest_45 ?_
                refine lv_iload hx hb dX1_longest_48 (lv_at hl 4 rfl) ?_
                refine sw_zld hx hb hK hP 5 4 rfl rfl (by omega) (by decide) (v := nI (fi_27 qq)) rfl dX1_longest_50 ?_
                refine sw_ifeq (tgt := 69) hx hb dX1_longest_51 (by decide) (by omega) (fun h51 => ?_) (fun h51 => ?_)
                · have hQ2 := sw_lonQ_s (by omega) hq1 h41 (Or.inl ⟨sw_t_0 hX h51, rfl⟩) hQ
                  refine lv_iload_n hx hb dX1_longest_69 rfl (lv_at hl 2 rfl) ?_
                  refine lv_istore_n (lv' := [(2, .int (nI (y))), (0, .ref (o)), (1, .int (zI ((pn : Int)))), (3, .int (nI (fr))), (4, .int (nI (qq)))]) hx hb dX1_longest_70 rfl hl (by decide) rfl (fun ls hl => ?_)
                  refine lv_iinc (k := 4) (v := nI (qq + 1)) (lv' := [(4, .int (nI (qq + 1))), (2, .int (nI (y))), (0, .ref (o)), (1, .int (zI ((pn : Int)))), (3, .int (nI (fr)))]) hx hb dX1_longest_71 hl rfl (nI_add _ 1) (by decide) rfl (fun ls hl => ?_)
                  refine lv_goto (tgt := 35) hx hb dX1_longest_74 (by decide) ?_
                  exact ihL35 (y) (qq + 1) (by omega) (by omega) hQ2 (by omega) _ _ hP hD hS _ (lv_sub hl [2, 3, 1, 4, 0] rfl)
                · refine lv_iload hx hb dX1_longest_54 (lv_at hl 4 rfl) ?_
                  refine lv_iload_n hx hb dX1_longest_56 rfl (lv_at hl 3 rfl) ?_
                  refine sw_sub hx hb dX1_longest_57 (by omega) ?_
                  refine lv_iload_n hx hb dX1_longest_58 rfl (lv_at hl 2 rfl) ?_
                  refine sw_cle (tgt := 69) hx hb dX1_longest_59 (by decide) (by omega) (by omega) (fun h59 => ?_) (fun h59 => ?_)
                  · have hQ2 := sw_lonQ_s (by omega) hq1 h41 (Or.inr ⟨sw_t_ne hX h51, Or.inl ⟨h59, rfl⟩⟩) hQ
                    refine lv_iload_n hx hb dX1_longest_69 rfl (lv_at hl 2 rfl) ?_
                    refine lv_istore_n (lv' := [(2, .int (nI (y))), (0, .ref (o)), (1, .int (zI ((pn : Int)))), (3, .int (nI (fr))), (4, .int (nI (qq)))]) hx hb dX1_longest_70 rfl hl (by decide) rfl (fun ls hl => ?_)
                    refine lv_iinc (k := 4) (v := nI (qq + 1)) (lv' := [(4, .int (nI (qq + 1))), (2, .int (nI (y))), (0, .ref (o)), (1, .int (zI ((pn : Int)))), (3, .int (nI (fr)))]) hx hb dX1_longest_71 hl rfl (nI_add _ 1) (by decide) rfl (fun ls hl => ?_)
                    refine lv_goto (tgt := 35) hx hb dX1_longest_74 (by decide) ?_
                    exact ihL35 (y) (qq + 1) (by omega) (by omega) hQ2 (by omega) _ _ hP hD hS _ (lv_sub hl [2, 3, 1, 4, 0] rfl)
                  · have hQ2 := sw_lonQ_s (by omega) hq1 h41 (Or.inr ⟨sw_t_ne hX h51, Or.inr ⟨h59, rfl⟩⟩) hQ
                    refine lv_iload hx hb dX1_longest_62 (lv_at hl 4 rfl) ?_
                    refine lv_iload_n hx hb dX1_longest_64 rfl (lv_at hl 3 rfl) ?_
                    refine sw_sub hx hb dX1_longest_65 (by omega) ?_
                    refine lv_goto (tgt := 70) hx hb dX1_longest_66 (by decide) ?_
                    refine lv_istore_n (lv' := [(2, .int (nI (qq - fr))), (0, .ref (o)), (1, .int (zI ((pn : Int)))), (3, .int (nI (fr))), (4, .int (nI (qq)))]) hx hb dX1_longest_70 rfl hl (by decide) rfl (fun ls hl => ?_)
                    refine lv_iinc (k := 4) (v := nI (qq + 1)) (lv' := [(4, .int (nI (qq + 1))), (2, .int (nI (qq - fr))), (0, .ref (o)), (1, .int (zI ((pn : Int)))), (3, .int (nI (fr)))]) hx hb dX1_longest_71 hl rfl (nI_add _ 1) (by decide) rfl (fun ls hl => ?_)
                    refine lv_goto (tgt := 35) hx hb dX1_longest_74 (by decide) ?_
                    exact ihL35 (qq - fr) (qq + 1) (by omega) (by omega) hQ2 (by omega) _ _ hP hD hS _ (lv_sub hl [2, 3, 1, 4, 0] rfl)
          exact L35 (L + 1 - (fr + 1) + 1) (x) (fr + 1) (by omega) (by omega) (sw_lonQ_0 hI) (Nat.lt_succ_self _) _ _ hP hD hS _ (lv_sub hl [1, 2, 3, 4, 0] rfl)
        · have hE := sw_lonM_e (Or.inr hr14) hI
          refine sw_ifeq (tgt := 83) hx hb dX1_longest_17 (by decide) (by decide) (fun _ => ?_) (fun q => absurd rfl q)
          refine lv_iload_n hx hb dX1_longest_83 rfl (lv_at hl 2 rfl) ?_
          exact ret _ _ _ (f1, m1) _ _ dX1_longest_84 (⟨x, rfl, hE⟩) hP hD hS
  exact L4 (L - (0) + 1) (0) (0) (fi) (mo) (by omega) sw_lonM_0 (Nat.lt_succ_self _) _ _ hP hD hS _ (lv_sub hl [2, 3, 1, 0] rfl)
set_option maxRecDepth 100000 in
theorem mX1_longest (l : Launch) {D : va_G} {o : Nat} {ad : Nat → Nat} {kc : Nat → ClassId} {Sz : Nat → Nat} {St : Nat → Nat} {Ct : Nat → Nat} {L : Nat} {T : Nat → Nat} {fi : Nat → Nat} {mo : Nat → Nat} {zp : Int} (hlzp : -2147483648 ≤ zp) (huzp : zp < 2147483648) (hO : sw_Ok Sz St Ct T L) (sz : Nat) : Met l yX1_longest (ws_ yX1_longest cX1_longest 5 (some .int)) ({ frames := 3, cells := 0, slots := 0, locals := 72 }) (sw_M D vwCl (wM o ad kc Sz St Ct L T fi mo) (tyM kc) sz [.ref o, .int (zI (zp))]) (va_Qi (fun (r : Int32) (u : (Nat → Nat) × (Nat → Nat)) => (∃ x, r = nI x ∧ sw_mx (sw_lonP Sz St Ct T zp L) x)) (sw_B D vwCl (tyM kc) (va_A (wM o ad kc Sz St Ct L T fi mo) sz) (fun u : (Nat → Nat) × (Nat → Nat) => wM o ad kc Sz St Ct L T (u.1) (u.2))) (va_A (wM o ad kc Sz St Ct L T fi mo) sz)) 0 0 (va_A (wM o ad kc Sz St Ct L T fi mo) sz) := sw_metI (by decide) (Nat.le_of_ble_eq_true rfl) (fun p e s m below meth c Q ls A S hK hP hD hA hl ret => bX1_longest S (Nat.le_refl _) (Nat.le_refl _) hK hP hD va_S.rf hA hlzp huzp hO ret hl) sz
set_option maxHeartbeats 4000000 in
set_option maxRecDepth 100000 in
theorem bX1_completing {D : va_G} {o : Nat} {ad : Nat → Nat} {kc : Nat → ClassId} {Sz : Nat → Nat} {St : Nat → Nat} {Ct : Nat → Nat} {L : Nat} {T : Nat → Nat} {fi : Nat → Nat} {mo : Nat → Nat} {zp : Int} (S : CallFix p m c cX1_completing 4 s args lw_all RX1) (hRf : 4 ≤ R.frames) (hRl : 97 ≤ R.locals) (hK : va_K D vwCl (tyM kc) s) (hP : va_P D vwCl (wM o ad kc Sz St Ct L T fi mo) H) (hD : va_D A (wM o ad kc Sz St Ct L T fi mo)) (hS : va_S A H0 H locs) (hA : ∀ q, H0.size ≤ q → A q) (hlzp : -2147483648 ≤ zp) (huzp : zp < 2147483648) (hO : sw_Ok Sz St Ct T L) (ret : ∀ (pc : Nat) (ls : Array Slot) (r : Int32) (u : (Nat → Nat) × (Nat → Nat) × (Nat → Nat)) (H1 : Heap) (locs1 : List Loc), decode cX1_completing pc = .ok (.ireturn, 1) → (sw_coR Sz St Ct T L zp r ∧ (∀ t, t < L → u.1 t = T t) ∧ ∀ t, u.1 t < 4) → va_P D vwCl ((fun u : (Nat → Nat) × (Nat → Nat) × (Nat → Nat) => wM o ad kc Sz St Ct L (u.1) (u.2.1) (u.2.2)) u) H1 → va_D A ((fun u : (Nat → Nat) × (Nat → Nat) × (Nat → Nat) => wM o ad kc Sz St Ct L (u.1) (u.2.1) (u.2.2)) u) → va_S A H0 H1 locs1 → W p l e R s m args below meth c H1 locs1 0 0 Q (F0 m pc ls [.int r])) (hl : lv_has ls 4 [(0, .ref (o)), (1, .int (zI (zp)))]) : W p l e R s m args below meth c H locs 0 0 Q (F0 m 0 ls []) := by
  have hx := S.1
  have hb := S.2.1
  have hown := S.2.2.2.1
  have hts := S.2.2.2.2
  have hO2 := hO
  obtain ⟨hs, ht, hc, hT, hL⟩ := hO
  refine lv_iconst (v := nI (0)) hx hb dX1_completing_0 (by decide) ?_
  refine lv_istore_n (lv' := [(2, .int (nI (0))), (0, .ref (o)), (1, .int (zI (zp)))]) hx hb dX1_completing_1 rfl hl (by decide) rfl (fun ls hl => ?_)
  refine lv_iconst (v := nI (0)) hx hb dX1_completing_2 (by decide) ?_
  refine lv_istore_n (lv' := [(3, .int (nI (0))), (2, .int (nI (0))), (0, .ref (o)), (1, .int (zI (zp)))]) hx hb dX1_completing_3 rfl hl (by decide) rfl (fun ls hl => ?_)
  have L4 : ∀ (n : Nat) (x : Nat) (sn : Nat) (T1 : Nat → Nat) (f1 : Nat → Nat) (m1 : Nat → Nat), (sn ≤ 4) → (∀ t, t < L → T1 t = T t) → (∀ t, T1 t < 4) → (sw_set sn (sw_coP Sz St Ct T L zp) x) → 4 - sn < n → ∀ (H : Heap) (locs : List Loc), va_P D vwCl (wM o ad kc Sz St Ct L T1 f1 m1) H → va_D A (wM o ad kc Sz St Ct L T1 f1 m1) → va_S A H0 H locs → ∀ (ls : Array Slot), lv_has ls 4 [(0, .ref (o)), (1, .int (zI (zp))), (2, .int (nI (x))), (3, .int (nI (sn)))] → W p l e R s m args below meth c H locs 0 0 Q (F0 m 4 ls []) := by
    intro n
    induction n with
    | zero => intro x sn T1 f1 m1 _ _ _ _ hm; exact absurd hm (Nat.not_lt_zero _)
    | succ n ihL4 =>
      intro x sn T1 f1 m1 hsn hT1 hT2 hI hmL4 H locs hP hD hS ls hl
      refine lv_iload_n hx hb dX1_completing_4 rfl (lv_at hl 3 rfl) ?_
      refine lv_iconst (v := nI (4)) hx hb dX1_completing_5 (by decide) ?_
      refine sw_cge (tgt := 61) hx hb dX1_completing_6 (by decide) (by omega) (by omega) (fun h6 => ?_) (fun h6 => ?_)
      · have hE := sw_coR_of (Or.inl (by omega)) hI
        refine lv_iload_n hx hb dX1_completing_61 rfl (lv_at hl 2 rfl) ?_
        exact ret _ _ _ (T1, f1, m1) _ _ dX1_completing_62 (⟨hE, hT1, hT2⟩) hP hD hS
      · refine lv_aload_n hx hb dX1_completing_9 rfl (lv_at hl 0 rfl) ?_
        refine lv_iload_n hx hb dX1_completing_10 rfl (lv_at hl 1 rfl) ?_
        refine sw_cvR (As := [.int (zI (zp))]) (rest := []) (C := RX1) (ci := 1) (q0 := 0) S (mX1_pattern l hlzp huzp) (cwV 1 hts (lw_V q234 q236 qs14 q21 q237) rfl rfl rfl (by decide +kernel) ⟨Nat.le_trans (Nat.le_of_ble_eq_true rfl) hRf, Nat.le_trans (Nat.le_of_ble_eq_true rfl) hRl⟩) hK hP rfl rfl rfl rfl hl.1 rfl (Nat.le_of_ble_eq_true rfl) dX1_completing_11 ⟨Nat.zero_le _, Nat.zero_le _⟩ (fun r hr => ?_)
        rcases hr with ⟨rfl, hr11⟩ | ⟨rfl, hr11⟩
        · obtain ⟨pn, rfl⟩ := Int.eq_ofNat_of_zero_le hr11.1
          refine sw_ifeq (tgt := 61) hx hb dX1_completing_14 (by decide) (by decide) (fun q => absurd q (by decide)) (fun _ => ?_)
          refine lv_aload_n hx hb dX1_completing_17 rfl (lv_at hl 0 rfl) ?_
          refine va_get (D := D) (ci := 1) (v := .ref (ad 3)) (C := RX1) (T := TX1) (N := 7) hx hb hts in_X1 hown hK hP 0 rfl rfl 4 (by decide) (hts _ q211) (fun _ h9 => h9) rfl dX1_completing_18 ?_
          refine lv_aload_n hx hb dX1_completing_21 rfl (lv_at hl 0 rfl) ?_
          refine va_get (D := D) (ci := 1) (v := .int (nI (L))) (C := RX1) (T := TX1) (N := 7) hx hb hts in_X1 hown hK hP 0 rfl rfl 3 (by decide) (hts _ q210) (fun _ h9 => h9) rfl dX1_completing_22 ?_
          refine lv_iload_n hx hb dX1_completing_25 rfl (lv_at hl 3 rfl) ?_
          refine sw_ist hx hb hK hP hD hS 4 3 rfl rfl (by omega) (by decide) rfl (sw_updN _ _ _) dX1_completing_26 (fun H locs hP hD hS => ?_)
          have hP : va_P D vwCl (wM o ad kc Sz St Ct L (va_up T1 L sn) f1 m1) H := hP
          have hD : va_D A (wM o ad kc Sz St Ct L (va_up T1 L sn) f1 m1) := hD
          have hT3 : ∀ t, va_up T1 L sn t < 4 := sw_up_lt hT2 h6
          refine lv_aload_n hx hb dX1_completing_27 rfl (lv_at hl 0 rfl) ?_
          refine lv_iload_n hx hb dX1_completing_28 rfl (lv_at hl 1 rfl) ?_
          refine sw_top (y := nI (pn)) (zI_n pn) ?_
          refine lv_aload_n hx hb dX1_completing_29 rfl (lv_at hl 0 rfl) ?_
          refine va_get (D := D) (ci := 1) (v := .int (nI (L))) (C := RX1) (T := TX1) (N := 7) hx hb hts in_X1 hown hK hP 0 rfl rfl 3 (by decide) (hts _ q210) (fun _ h9 => h9) rfl dX1_completing_30 ?_
          refine lv_aload_n hx hb dX1_completing_33 rfl (lv_at hl 0 rfl) ?_
          refine va_get (D := D) (ci := 1) (v := .int (nI (L))) (C := RX1) (T := TX1) (N := 7) hx hb hts in_X1 hown hK hP 0 rfl rfl 3 (by decide) (hts _ q210) (fun _ h9 => h9) rfl dX1_completing_34 ?_
          refine lv_iconst (v := nI (1)) hx hb dX1_completing_37 (by decide) ?_
          refine sw_add hx hb dX1_completing_38 ?_
          refine sw_cvI (As := [.int (nI (pn)), .int (nI (L)), .int (nI (L + 1))]) (rest := []) (C := RX1) (ci := 1) (q0 := 0) S (fun sz => (mX1_endsAt l (by omega) (by omega) ⟨hs, ht, hc, hT3, hL⟩ sz)) (cwV 3 hts (lw_V q254 q256 qs15 q21 q257) rfl rfl rfl (by decide +kernel) ⟨Nat.le_trans (Nat.le_of_ble_eq_true rfl) hRf, Nat.le_trans (Nat.le_of_ble_eq_true rfl) hRl⟩) hK hP hD hS hA rfl rfl rfl rfl hl.1 rfl (Nat.le_of_ble_eq_true rfl) dX1_completing_39 ⟨Nat.zero_le _, Nat.zero_le _⟩ (fun r u H locs hr hP hD hS => ?_)
          obtain ⟨fi_39, mo_39⟩ := u
          have hP : va_P D vwCl (wM o ad kc Sz St Ct L (va_up T1 L sn) fi_39 mo_39) H := hP
          have hD : va_D A (wM o ad kc Sz St Ct L (va_up T1 L sn) fi_39 mo_39) := hD
          rcases hr with ⟨rfl, hr39⟩ | ⟨rfl, hr39⟩
          · have hI2 := sw_set_1 (P := sw_coP Sz St Ct T L (pn : Int)) (n := sn) ((sw_coP_iff (by omega) hT1).mpr hr39) hI
            refine sw_ifeq (tgt := 53) hx hb dX1_completing_42 (by decide) (by decide) (fun q => absurd q (by decide)) (fun _ => ?_)
            refine lv_iload_n hx hb dX1_completing_45 rfl (lv_at hl 2 rfl) ?_
            refine lv_iconst (v := nI (1)) hx hb dX1_completing_46 (by decide) ?_
            refine lv_iload_n hx hb dX1_completing_47 rfl (lv_at hl 3 rfl) ?_
            refine sw_shl hx hb dX1_completing_48 (by omega) (sw_sh (by omega) (by omega)) ?_
            refine sw_or hx hb dX1_completing_49 ?_
            refine lv_goto (tgt := 54) hx hb dX1_completing_50 (by decide) ?_
            refine lv_istore_n (lv' := [(2, .int (nI (x ||| (1 * 2 ^ sn)))), (0, .ref (o)), (1, .int (zI ((pn : Int)))), (3, .int (nI (sn)))]) hx hb dX1_completing_54 rfl hl (by decide) rfl (fun ls hl => ?_)
            refine lv_iinc (k := 3) (v := nI (sn + 1)) (lv' := [(3, .int (nI (sn + 1))), (2, .int (nI (x ||| (1 * 2 ^ sn)))), (0, .ref (o)), (1, .int (zI ((pn : Int))))]) hx hb dX1_completing_55 hl rfl (nI_add _ 1) (by decide) rfl (fun ls hl => ?_)
            refine lv_goto (tgt := 4) hx hb dX1_completing_58 (by decide) ?_
            exact ihL4 (x ||| (1 * 2 ^ sn)) (sn + 1) (va_up T1 L sn) (fi_39) (mo_39) (by omega) (sw_up_L hT1) hT3 hI2 (by omega) _ _ hP hD hS _ (lv_sub hl [2, 3, 1, 0] rfl)
          · have hI2 := sw_set_n (P := sw_coP Sz St Ct T L (pn : Int)) (n := sn) (fun q => hr39 ((sw_coP_iff (by omega) hT1).mp q)) hI
            refine sw_ifeq (tgt := 53) hx hb dX1_completing_42 (by decide) (by decide) (fun _ => ?_) (fun q => absurd rfl q)
            refine lv_iload_n hx hb dX1_completing_53 rfl (lv_at hl 2 rfl) ?_
            refine lv_istore_n (lv' := [(2, .int (nI (x))), (0, .ref (o)), (1, .int (zI ((pn : Int)))), (3, .int (nI (sn)))]) hx hb dX1_completing_54 rfl hl (by decide) rfl (fun ls hl => ?_)
            refine lv_iinc (k := 3) (v := nI (sn + 1)) (lv' := [(3, .int (nI (sn + 1))), (2, .int (nI (x))), (0, .ref (o)), (1, .int (zI ((pn : Int))))]) hx hb dX1_completing_55 hl rfl (nI_add _ 1) (by decide) rfl (fun ls hl => ?_)
            refine lv_goto (tgt := 4) hx hb dX1_completing_58 (by decide) ?_
            exact ihL4 (x) (sn + 1) (va_up T1 L sn) (fi_39) (mo_39) (by omega) (sw_up_L hT1) hT3 hI2 (by omega) _ _ hP hD hS _ (lv_sub hl [2, 3, 1, 0] rfl)
        · have hE := sw_coR_of (Or.inr hr11) hI
          refine sw_ifeq (tgt := 61) hx hb dX1_completing_14 (by decide) (by decide) (fun _ => ?_) (fun q => absurd rfl q)
          refine lv_iload_n hx hb dX1_completing_61 rfl (lv_at hl 2 rfl) ?_
          exact ret _ _ _ (T1, f1, m1) _ _ dX1_completing_62 (⟨hE, hT1, hT2⟩) hP hD hS
  exact L4 (4 - (0) + 1) (0) (0) (T) (fi) (mo) (by omega) (fun _ _ => rfl) hT sw_set_0 (Nat.lt_succ_self _) _ _ hP hD hS _ (lv_sub hl [2, 3, 1, 0] rfl)
set_option maxRecDepth 100000 in
theorem mX1_completing (l : Launch) {D : va_G} {o : Nat} {ad : Nat → Nat} {kc : Nat → ClassId} {Sz : Nat → Nat} {St : Nat → Nat} {Ct : Nat → Nat} {L : Nat} {T : Nat → Nat} {fi : Nat → Nat} {mo : Nat → Nat} {zp : Int} (hlzp : -2147483648 ≤ zp) (huzp : zp < 2147483648) (hO : sw_Ok Sz St Ct T L) (sz : Nat) : Met l yX1_completing (ws_ yX1_completing cX1_completing 4 (some .int)) ({ frames := 4, cells := 0, slots := 0, locals := 97 }) (sw_M D vwCl (wM o ad kc Sz St Ct L T fi mo) (tyM kc) sz [.ref o, .int (zI (zp))]) (va_Qi (fun (r : Int32) (u : (Nat → Nat) × (Nat → Nat) × (Nat → Nat)) => sw_coR Sz St Ct T L zp r ∧ (∀ t, t < L → u.1 t = T t) ∧ ∀ t, u.1 t < 4) (sw_B D vwCl (tyM kc) (va_A (wM o ad kc Sz St Ct L T fi mo) sz) (fun u : (Nat → Nat) × (Nat → Nat) × (Nat → Nat) => wM o ad kc Sz St Ct L (u.1) (u.2.1) (u.2.2))) (va_A (wM o ad kc Sz St Ct L T fi mo) sz)) 0 0 (va_A (wM o ad kc Sz St Ct L T fi mo) sz) := sw_metI (by decide) (Nat.le_of_ble_eq_true rfl) (fun p e s m below meth c Q ls A S hK hP hD hA hl ret => bX1_completing S (Nat.le_refl _) (Nat.le_refl _) hK hP hD va_S.rf hA hlzp huzp hO ret hl) sz
set_option maxHeartbeats 4000000 in
set_option maxRecDepth 100000 in
theorem bX1_emptyFits {D : va_G} {o : Nat} {ad : Nat → Nat} {kc : Nat → ClassId} {Sz : Nat → Nat} {St : Nat → Nat} {Ct : Nat → Nat} {L : Nat} {T : Nat → Nat} {fi : Nat → Nat} {mo : Nat → Nat} (S : CallFix p m c cX1_emptyFits 3 s args lw_all RX1) (hRf : 3 ≤ R.frames) (hRl : 72 ≤ R.locals) (hK : va_K D vwCl (tyM kc) s) (hP : va_P D vwCl (wM o ad kc Sz St Ct L T fi mo) H) (hD : va_D A (wM o ad kc Sz St Ct L T fi mo)) (hS : va_S A H0 H locs) (hA : ∀ q, H0.size ≤ q → A q) (hO : sw_Ok Sz St Ct T L) (ret : ∀ (pc : Nat) (ls : Array Slot) (r : Int32) (u : (Nat → Nat) × (Nat → Nat)) (H1 : Heap) (locs1 : List Loc), decode cX1_emptyFits pc = .ok (.ireturn, 1) → ((∃ x, r = nI x ∧ sw_set 4 (fun j => sw_open Ct (j * 6) (j * 6 + Sz j)) x)) → va_P D vwCl ((fun u : (Nat → Nat) × (Nat → Nat) => wM o ad kc Sz St Ct L T (u.1) (u.2)) u) H1 → va_D A ((fun u : (Nat → Nat) × (Nat → Nat) => wM o ad kc Sz St Ct L T (u.1) (u.2)) u) → va_S A H0 H1 locs1 → W p l e R s m args below meth c H1 locs1 0 0 Q (F0 m pc ls [.int r])) (hl : lv_has ls 3 [(0, .ref (o))]) : W p l e R s m args below meth c H locs 0 0 Q (F0 m 0 ls []) := by
  have hx := S.1
  have hb := S.2.1
  have hown := S.2.2.2.1
  have hts := S.2.2.2.2
  have hO2 := hO
  obtain ⟨hs, ht, hc, hT, hL⟩ := hO
  refine lv_iconst (v := nI (0)) hx hb dX1_emptyFits_0 (by decide) ?_
  refine lv_istore_n (lv' := [(1, .int (nI (0))), (0, .ref (o))]) hx hb dX1_emptyFits_1 rfl hl (by decide) rfl (fun ls hl => ?_)
  refine lv_iconst (v := nI (0)) hx hb dX1_emptyFits_2 (by decide) ?_
  refine lv_istore_n (lv' := [(2, .int (nI (0))), (1, .int (nI (0))), (0, .ref (o))]) hx hb dX1_emptyFits_3 rfl hl (by decide) rfl (fun ls hl => ?_)
  have L4 : ∀ (n : Nat) (x : Nat) (pn : Nat) (f1 : Nat → Nat) (m1 : Nat → Nat), (pn ≤ 4) → (sw_set pn (fun j => sw_open Ct (j * 6) (j * 6 + Sz j)) x) → 4 - pn < n → ∀ (H : Heap) (locs : List Loc), va_P D vwCl (wM o ad kc Sz St Ct L T f1 m1) H → va_D A (wM o ad kc Sz St Ct L T f1 m1) → va_S A H0 H locs → ∀ (ls : Array Slot), lv_has ls 3 [(0, .ref (o)), (1, .int (nI (x))), (2, .int (nI (pn)))] → W p l e R s m args below meth c H locs 0 0 Q (F0 m 4 ls []) := by
    intro n
    induction n with
    | zero => intro x pn f1 m1 _ _ hm; exact absurd hm (Nat.not_lt_zero _)
    | succ n ihL4 =>
      intro x pn f1 m1 hp hI hmL4 H locs hP hD hS ls hl
      refine lv_iload_n hx hb dX1_emptyFits_4 rfl (lv_at hl 2 rfl) ?_
      refine lv_iconst (v := nI (4)) hx hb dX1_emptyFits_5 (by decide) ?_
      refine sw_cge (tgt := 41) hx hb dX1_emptyFits_6 (by decide) (by omega) (by omega) (fun h6 => ?_) (fun h6 => ?_)
      · refine lv_iload_n hx hb dX1_emptyFits_41 rfl (lv_at hl 1 rfl) ?_
        exact ret _ _ _ (f1, m1) _ _ dX1_emptyFits_42 (⟨x, rfl, by rw [show pn = 4 by omega] at hI; exact hI⟩) hP hD hS
      · refine lv_aload_n hx hb dX1_emptyFits_9 rfl (lv_at hl 0 rfl) ?_
        refine lv_iload_n hx hb dX1_emptyFits_10 rfl (lv_at hl 2 rfl) ?_
        refine lv_iconst (v := nI (0)) hx hb dX1_emptyFits_11 (by decide) ?_
        refine lv_iconst (v := nI (0)) hx hb dX1_emptyFits_12 (by decide) ?_
        refine sw_cvV (As := [.int (nI (pn)), .int (nI (0)), .int (nI (0))]) (rest := []) (C := RX1) (ci := 1) (q0 := 0) S (fun sz => (mX1_work l h6 (by omega) (by omega) hO2 sz)) (cwV 3 hts (lw_V q258 q260 qs16 q21 q261) rfl rfl rfl (by decide +kernel) ⟨Nat.le_trans (Nat.le_of_ble_eq_true rfl) hRf, Nat.le_trans (Nat.le_of_ble_eq_true rfl) hRl⟩) hK hP hD hS hA rfl rfl rfl rfl hl.1 rfl (Nat.le_of_ble_eq_true rfl) dX1_emptyFits_13 ⟨Nat.zero_le _, Nat.zero_le _⟩ (fun u H locs hr hP hD hS => ?_)
        obtain ⟨fi_13, mo_13⟩ := u
        have hP : va_P D vwCl (wM o ad kc Sz St Ct L T fi_13 mo_13) H := hP
        have hD : va_D A (wM o ad kc Sz St Ct L T fi_13 mo_13) := hD
        have hX : sw_t (sw_E Sz St Ct T pn 0 0) (fi_13 0) := hr 0 (Nat.le_refl _) (Nat.le_refl _)
        have hXl := sw_t_lt hX
        refine lv_aload_n hx hb dX1_emptyFits_16 rfl (lv_at hl 0 rfl) ?_
        refine va_get (D := D) (ci := 1) (v := .ref (ad 4)) (C := RX1) (T := TX1) (N := 7) hx hb hts in_X1 hown hK hP 0 rfl rfl 5 (by decide) (hts _ q212) (fun _ h9 => h9) rfl dX1_emptyFits_17 ?_
        refine lv_iconst (v := nI (0)) hx hb dX1_emptyFits_20 (by decide) ?_
        refine sw_zld hx hb hK hP 5 4 rfl rfl (by omega) (by decide) (v := nI (fi_13 0)) rfl dX1_emptyFits_21 ?_
        refine sw_ifeq (tgt := 33) hx hb dX1_emptyFits_22 (by decide) (by omega) (fun h22 => ?_) (fun h22 => ?_)
        · have hI2 := sw_set_n (P := fun j => sw_open Ct (j * 6) (j * 6 + Sz j)) (n := pn) (fun q => sw_t_0 hX h22 ((sw_E_nil hc).mpr q)) hI
          refine lv_iload_n hx hb dX1_emptyFits_33 rfl (lv_at hl 1 rfl) ?_
          refine lv_istore_n (lv' := [(1, .int (nI (x))), (0, .ref (o)), (2, .int (nI (pn)))]) hx hb dX1_emptyFits_34 rfl hl (by decide) rfl (fun ls hl => ?_)
          refine lv_iinc (k := 2) (v := nI (pn + 1)) (lv' := [(2, .int (nI (pn + 1))), (1, .int (nI (x))), (0, .ref (o))]) hx hb dX1_emptyFits_35 hl rfl (nI_add _ 1) (by decide) rfl (fun ls hl => ?_)
          refine lv_goto (tgt := 4) hx hb dX1_emptyFits_38 (by decide) ?_
          exact ihL4 (x) (pn + 1) (fi_13) (mo_13) (by omega) hI2 (by omega) _ _ hP hD hS _ (lv_sub hl [2, 1, 0] rfl)
        · have hI2 := sw_set_1 (P := fun j => sw_open Ct (j * 6) (j * 6 + Sz j)) (n := pn) ((sw_E_nil hc).mp (sw_t_ne hX h22)) hI
          refine lv_iload_n hx hb dX1_emptyFits_25 rfl (lv_at hl 1 rfl) ?_
          refine lv_iconst (v := nI (1)) hx hb dX1_emptyFits_26 (by decide) ?_
          refine lv_iload_n hx hb dX1_emptyFits_27 rfl (lv_at hl 2 rfl) ?_
          refine sw_shl hx hb dX1_emptyFits_28 (by omega) (sw_sh (by omega) (by omega)) ?_
          refine sw_or hx hb dX1_emptyFits_29 ?_
          refine lv_goto (tgt := 34) hx hb dX1_emptyFits_30 (by decide) ?_
          refine lv_istore_n (lv' := [(1, .int (nI (x ||| (1 * 2 ^ pn)))), (0, .ref (o)), (2, .int (nI (pn)))]) hx hb dX1_emptyFits_34 rfl hl (by decide) rfl (fun ls hl => ?_)
          refine lv_iinc (k := 2) (v := nI (pn + 1)) (lv' := [(2, .int (nI (pn + 1))), (1, .int (nI (x ||| (1 * 2 ^ pn)))), (0, .ref (o))]) hx hb dX1_emptyFits_35 hl rfl (nI_add _ 1) (by decide) rfl (fun ls hl => ?_)
          refine lv_goto (tgt := 4) hx hb dX1_emptyFits_38 (by decide) ?_
          exact ihL4 (x ||| (1 * 2 ^ pn)) (pn + 1) (fi_13) (mo_13) (by omega) hI2 (by omega) _ _ hP hD hS _ (lv_sub hl [2, 1, 0] rfl)
  exact L4 (4 - (0) + 1) (0) (0) (fi) (mo) (by omega) sw_set_0 (Nat.lt_succ_self _) _ _ hP hD hS _ (lv_sub hl [2, 1, 0] rfl)
set_option maxRecDepth 100000 in
theorem mX1_emptyFits (l : Launch) {D : va_G} {o : Nat} {ad : Nat → Nat} {kc : Nat → ClassId} {Sz : Nat → Nat} {St : Nat → Nat} {Ct : Nat → Nat} {L : Nat} {T : Nat → Nat} {fi : Nat → Nat} {mo : Nat → Nat} (hO : sw_Ok Sz St Ct T L) (sz : Nat) : Met l yX1_emptyFits (ws_ yX1_emptyFits cX1_emptyFits 3 (some .int)) ({ frames := 3, cells := 0, slots := 0, locals := 72 }) (sw_M D vwCl (wM o ad kc Sz St Ct L T fi mo) (tyM kc) sz [.ref o]) (va_Qi (fun (r : Int32) (u : (Nat → Nat) × (Nat → Nat)) => (∃ x, r = nI x ∧ sw_set 4 (fun j => sw_open Ct (j * 6) (j * 6 + Sz j)) x)) (sw_B D vwCl (tyM kc) (va_A (wM o ad kc Sz St Ct L T fi mo) sz) (fun u : (Nat → Nat) × (Nat → Nat) => wM o ad kc Sz St Ct L T (u.1) (u.2))) (va_A (wM o ad kc Sz St Ct L T fi mo) sz)) 0 0 (va_A (wM o ad kc Sz St Ct L T fi mo) sz) := sw_metI (by decide) (Nat.le_of_ble_eq_true rfl) (fun p e s m below meth c Q ls A S hK hP hD hA hl ret => bX1_emptyFits S (Nat.le_refl _) (Nat.le_refl _) hK hP hD va_S.rf hA hO ret hl) sz
end SWB
end
section
/-! both answers of a call are one -/
theorem sw_EbT {Sz St Ct T Tm : Nat → Nat} {L p t b : Nat} (hT : ∀ x, x < L → Tm x = T x) (ht : t < L) : sw_Eb Sz St Ct Tm p t b ↔ sw_Eb Sz St Ct T p t b := sw_Eb_congr (fun x hx => hT x (by omega))
theorem sw_ExT {Sz St Ct T Tm : Nat → Nat} {L p t : Nat} (hT : ∀ x, x < L → Tm x = T x) (ht : t < L) : (∃ b, sw_Eb Sz St Ct Tm p t b) ↔ ∃ b, sw_Eb Sz St Ct T p t b := by
  constructor
  · rintro ⟨b, hb⟩
    exact ⟨b, (sw_EbT hT ht).mp hb⟩
  · rintro ⟨b, hb⟩
    exact ⟨b, (sw_EbT hT ht).mpr hb⟩
def sw_itsR (Sz : Nat → Nat) (zp : Int) (r : Int32) : Prop := (∃ pn : Nat, zp = pn ∧ pn < 4 ∧ r = nI (Sz pn)) ∨ (¬ (0 ≤ zp ∧ zp < 4) ∧ r = zI (-1))
theorem sw_its_uniq {Sz : Nat → Nat} {zp : Int} {r1 r2 : Int32} (h1 : sw_itsR Sz zp r1) (h2 : sw_itsR Sz zp r2) : r1 = r2 := by
  rcases h1 with ⟨p1, e1, a1, b1⟩ | ⟨n1, b1⟩
  · rcases h2 with ⟨p2, e2, a2, b2⟩ | ⟨n2, b2⟩
    · obtain rfl : p1 = p2 := by omega
      exact b1.trans b2.symm
    · exact absurd (by omega) n2
  · rcases h2 with ⟨p2, e2, a2, b2⟩ | ⟨n2, b2⟩
    · exact absurd (by omega) n1
    · exact b1.trans b2.symm
theorem sw_endP_T {Sz St Ct T Tm : Nat → Nat} {L : Nat} {z : Int} (hT : ∀ x, x < L → Tm x = T x) (p : Nat) : sw_endP Sz St Ct Tm L z p ↔ sw_endP Sz St Ct T L z p := by
  constructor
  · rintro ⟨t, e, h1, h2⟩
    exact ⟨t, e, h1, (sw_ExT hT h1).mp h2⟩
  · rintro ⟨t, e, h1, h2⟩
    exact ⟨t, e, h1, (sw_ExT hT h1).mpr h2⟩
theorem sw_endS_uniq {Sz St Ct T Tm : Nat → Nat} {L : Nat} {z : Int} {r1 r2 : Int32} (hT : ∀ x, x < L → Tm x = T x) (h1 : ∃ x, r1 = nI x ∧ sw_set 4 (sw_endP Sz St Ct T L z) x) (h2 : ∃ x, r2 = nI x ∧ sw_set 4 (sw_endP Sz St Ct Tm L z) x) : r1 = r2 := by
  obtain ⟨x, rfl, hx⟩ := h1
  obtain ⟨y, rfl, hy⟩ := h2
  exact congrArg nI (sw_set_uniq (fun j _ => (sw_endP_T hT j).symm) hx hy)
theorem sw_psh_uniq {Sz St Ct T Tm T' Tm' : Nat → Nat} {L L1 L2 : Nat} {zs : Int} {r1 r2 : Int32} (hT : ∀ x, x < L → Tm x = T x) (h1 : sw_psh Sz St Ct zs T L r1 T' L1) (h2 : sw_psh Sz St Ct zs Tm L r2 Tm' L2) : r1 = r2 ∧ L1 = L2 ∧ ∀ x, x < L1 → Tm' x = T' x := by
  rcases h1 with ⟨n1, a1, a2, a3⟩ | ⟨s1, e1, f1, h1⟩
  · rcases h2 with ⟨n2, b1, b2, b3⟩ | ⟨s2, e2, f2, h2⟩
    · refine ⟨a1.trans b1.symm, a3.trans b3.symm, ?_⟩
      rw [a2, b2, a3]
      exact hT
    · exact absurd (by omega) n1
  · rcases h2 with ⟨n2, b1, b2, b3⟩ | ⟨s2, e2, f2, h2⟩
    · exact absurd (by omega) n2
    · obtain rfl : s1 = s2 := by omega
      rcases h1 with ⟨q1, a1, a2, a3⟩ | ⟨q1, a2, a3, a4⟩ <;> rcases h2 with ⟨q2, b1, b2, b3⟩ | ⟨q2, b2, b3, b4⟩
      · refine ⟨a1.trans b1.symm, a3.trans b3.symm, ?_⟩
        rw [a2, b2, a3]
        exact hT
      · omega
      · omega
      · have key : ∀ x, x < L1 → Tm' x = T' x := by
          intro x hx
          rw [a2, b2]
          by_cases e : x = L
          · rw [e, sw_us, sw_us]
          · rw [sw_un e, sw_un e]
            exact hT x (by omega)
        have e12 : L1 = L2 := a3.trans b3.symm
        subst e12
        exact ⟨sw_endS_uniq key a4 b4, rfl, key⟩
theorem sw_Ok_psh {Sz St Ct T T' : Nat → Nat} {L L' : Nat} {zs : Int} {r : Int32} (hO : sw_Ok Sz St Ct T L) (h : sw_psh Sz St Ct zs T L r T' L') : sw_Ok Sz St Ct T' L' := by
  rcases h with ⟨-, -, rfl, rfl⟩ | ⟨sn, -, f1, ⟨-, -, rfl, rfl⟩ | ⟨q, rfl, rfl, -⟩⟩
  · exact hO
  · exact hO
  · exact sw_Ok_push hO f1 q
theorem sw_endR_uniq {Sz St Ct T Tm : Nat → Nat} {L : Nat} {zp : Int} {r1 r2 : Int32} (hT : ∀ x, x < L → Tm x = T x) (h1 : sw_endR Sz St Ct T L zp r1) (h2 : sw_endR Sz St Ct Tm L zp r2) : r1 = r2 := by
  rcases h1 with ⟨p1, e1, a1, b1⟩ | ⟨n1, b1⟩
  · rcases h2 with ⟨p2, e2, a2, b2⟩ | ⟨n2, b2⟩
    · obtain rfl : p1 = p2 := by omega
      rw [b1, b2]
      exact congrArg nI (sw_cnt_congr L (fun t ht => (sw_ExT hT ht).symm))
    · exact absurd (by omega) n2
  · rcases h2 with ⟨p2, e2, a2, b2⟩ | ⟨n2, b2⟩
    · exact absurd (by omega) n1
    · exact b1.trans b2.symm
theorem sw_feR_uniq {Sz St Ct T Tm : Nat → Nat} {L : Nat} {zp : Int} {r1 r2 : Int32} (hT : ∀ x, x < L → Tm x = T x) (h1 : sw_feR Sz St Ct T L zp r1) (h2 : sw_feR Sz St Ct Tm L zp r2) : r1 = r2 := by
  rcases h1 with ⟨p1, e1, a1, z1, b1, c1⟩ | ⟨n1, b1⟩
  · rcases h2 with ⟨p2, e2, a2, z2, b2, c2⟩ | ⟨n2, b2⟩
    · obtain rfl : p1 = p2 := by omega
      rw [b1, b2]
      refine congrArg zI (sw_lo_uniq c1 (sw_lo_iff (fun t => ?_) c2))
      constructor
      · rintro ⟨q1, q2⟩
        exact ⟨q1, (sw_ExT hT q1).mp q2⟩
      · rintro ⟨q1, q2⟩
        exact ⟨q1, (sw_ExT hT q1).mpr q2⟩
    · exact absurd (by omega) n2
  · rcases h2 with ⟨p2, e2, a2, z2, b2, c2⟩ | ⟨n2, b2⟩
    · exact absurd (by omega) n1
    · exact b1.trans b2.symm
theorem sw_eaR_uniq {Sz St Ct T Tm : Nat → Nat} {L : Nat} {zp zt : Int} {r1 r2 : Int32} (hT : ∀ x, x < L → Tm x = T x) (h1 : sw_eaR Sz St Ct T L zp zt r1) (h2 : sw_eaR Sz St Ct Tm L zp zt r2) : r1 = r2 := by
  rcases h1 with ⟨p1, t1, e1, f1, a1, g1, z1, b1, c1⟩ | ⟨n1, b1⟩
  · rcases h2 with ⟨p2, t2, e2, f2, a2, g2, z2, b2, c2⟩ | ⟨n2, b2⟩
    · obtain rfl : p1 = p2 := by omega
      obtain rfl : t1 = t2 := by omega
      rw [b1, b2]
      exact congrArg zI (sw_lo_uniq c1 (sw_lo_iff (fun t => sw_EbT hT g1) c2))
    · exact absurd (by omega) n2
  · rcases h2 with ⟨p2, t2, e2, f2, a2, g2, z2, b2, c2⟩ | ⟨n2, b2⟩
    · exact absurd (by omega) n1
    · exact b1.trans b2.symm
theorem sw_laR_uniq {Sz St Ct T Tm : Nat → Nat} {L : Nat} {zp zt : Int} {r1 r2 : Int32} (hT : ∀ x, x < L → Tm x = T x) (h1 : sw_laR Sz St Ct T L zp zt r1) (h2 : sw_laR Sz St Ct Tm L zp zt r2) : r1 = r2 := by
  rcases h1 with ⟨p1, t1, e1, f1, a1, g1, z1, b1, c1⟩ | ⟨n1, b1⟩
  · rcases h2 with ⟨p2, t2, e2, f2, a2, g2, z2, b2, c2⟩ | ⟨n2, b2⟩
    · obtain rfl : p1 = p2 := by omega
      obtain rfl : t1 = t2 := by omega
      rw [b1, b2]
      exact congrArg zI (sw_hi_uniq c1 (sw_hi_iff (fun t => sw_EbT hT g1) c2))
    · exact absurd (by omega) n2
  · rcases h2 with ⟨p2, t2, e2, f2, a2, g2, z2, b2, c2⟩ | ⟨n2, b2⟩
    · exact absurd (by omega) n1
    · exact b1.trans b2.symm
theorem sw_lon_uniq {Sz St Ct T Tm : Nat → Nat} {L : Nat} {zp : Int} {r1 r2 : Int32} (hT : ∀ x, x < L → Tm x = T x) (h1 : ∃ x, r1 = nI x ∧ sw_mx (sw_lonP Sz St Ct T zp L) x) (h2 : ∃ x, r2 = nI x ∧ sw_mx (sw_lonP Sz St Ct Tm zp L) x) : r1 = r2 := by
  obtain ⟨x, rfl, hx⟩ := h1
  obtain ⟨y, rfl, hy⟩ := h2
  refine congrArg nI (sw_mx_uniq (fun n => ?_) hx hy)
  constructor
  · rintro ⟨pn, b, t, a1, a2, a3, a4, a5⟩
    exact ⟨pn, b, t, a1, a2, a3, (sw_EbT hT a3).mpr a4, a5⟩
  · rintro ⟨pn, b, t, a1, a2, a3, a4, a5⟩
    exact ⟨pn, b, t, a1, a2, a3, (sw_EbT hT a3).mp a4, a5⟩
theorem sw_coR_uniq {Sz St Ct T Tm : Nat → Nat} {L : Nat} {zp : Int} {r1 r2 : Int32} (hT : ∀ x, x < L → Tm x = T x) (h1 : sw_coR Sz St Ct T L zp r1) (h2 : sw_coR Sz St Ct Tm L zp r2) : r1 = r2 := by
  rcases h1 with ⟨p1, e1, a1, x1, b1, c1⟩ | ⟨n1, b1⟩
  · rcases h2 with ⟨p2, e2, a2, x2, b2, c2⟩ | ⟨n2, b2⟩
    · obtain rfl : p1 = p2 := by omega
      rw [b1, b2]
      refine congrArg nI (sw_set_uniq (fun s _ => ?_) c1 c2)
      have e : ∀ t, t < L + 1 → va_up T L s t = va_up Tm L s t := by
        intro t ht
        by_cases q : t = L
        · rw [q, sw_us, sw_us]
        · rw [sw_un q, sw_un q]
          exact (hT t (by omega)).symm
      constructor
      · rintro ⟨b, hb⟩
        exact ⟨b, (sw_Eb_congr e).mp hb⟩
      · rintro ⟨b, hb⟩
        exact ⟨b, (sw_Eb_congr e).mpr hb⟩
    · exact absurd (by omega) n2
  · rcases h2 with ⟨p2, e2, a2, x2, b2, c2⟩ | ⟨n2, b2⟩
    · exact absurd (by omega) n1
    · exact b1.trans b2.symm
theorem sw_emp_uniq {P : Nat → Prop} {r1 r2 : Int32} (h1 : ∃ x, r1 = nI x ∧ sw_set 4 P x) (h2 : ∃ x, r2 = nI x ∧ sw_set 4 P x) : r1 = r2 := by
  obtain ⟨x, rfl, hx⟩ := h1
  obtain ⟨y, rfl, hy⟩ := h2
  exact congrArg nI (sw_set_uniq (fun j _ => Iff.rfl) hx hy)
/-! two worlds apart -/
def sw_dis (w1 w2 : va_W) : Prop := ∀ (i j : Nat) (p q : Nat × va_E), w1[i]? = some p → w2[j]? = some q → p.1 ≠ q.1
theorem sw_dis.symm {w1 w2 : va_W} (h : sw_dis w1 w2) : sw_dis w2 w1 := fun i j p q h1 h2 e => h j i q p h2 h1 e.symm
theorem sw_Pl {D : va_G} {cl : List vw_C} {w1 w2 : va_W} {H : Heap} (h : va_P D cl (w1 ++ w2) H) : va_P D cl w1 H := fun k q hk => h k q (by rw [List.getElem?_append_left (List.getElem?_eq_some_iff.mp hk).1]; exact hk)
theorem sw_Pr {D : va_G} {cl : List vw_C} {w1 w2 : va_W} {H : Heap} (h : va_P D cl (w1 ++ w2) H) : va_P D cl w2 H := fun k q hk => h (w1.length + k) q (by rw [List.getElem?_append_right (by omega), Nat.add_sub_cancel_left]; exact hk)
theorem sw_Dl {A : Nat → Prop} {w1 w2 : va_W} (h : va_D A (w1 ++ w2)) : va_D A w1 := ⟨fun i j p q hi hj e => h.1 i j p q (by rw [List.getElem?_append_left (List.getElem?_eq_some_iff.mp hi).1]; exact hi) (by rw [List.getElem?_append_left (List.getElem?_eq_some_iff.mp hj).1]; exact hj) e, fun k q hk => h.2 k q (by rw [List.getElem?_append_left (List.getElem?_eq_some_iff.mp hk).1]; exact hk)⟩
theorem sw_Dr {A : Nat → Prop} {w1 w2 : va_W} (h : va_D A (w1 ++ w2)) : va_D A w2 := ⟨fun i j p q hi hj e => by
    have := h.1 (w1.length + i) (w1.length + j) p q (by rw [List.getElem?_append_right (by omega), Nat.add_sub_cancel_left]; exact hi) (by rw [List.getElem?_append_right (by omega), Nat.add_sub_cancel_left]; exact hj) e
    omega, fun k q hk => h.2 (w1.length + k) q (by rw [List.getElem?_append_right (by omega), Nat.add_sub_cancel_left]; exact hk)⟩
theorem sw_Dx {A : Nat → Prop} {w1 w2 : va_W} (h : va_D A (w1 ++ w2)) : sw_dis w1 w2 := fun i j p q hi hj e => by
  have hl := (List.getElem?_eq_some_iff.mp hi).1
  have := h.1 i (w1.length + j) p q (by rw [List.getElem?_append_left hl]; exact hi) (by rw [List.getElem?_append_right (by omega), Nat.add_sub_cancel_left]; exact hj) e
  omega
/-- behind a call over w1: what is apart stays, and stays apart -/
theorem sw_keep {D : va_G} {cl : List vw_C} {w1 w2 wn : va_W} {H H1 : Heap} (hP2 : va_P D cl w2 H) (hX : sw_dis w1 w2) (hk : ∀ q : Nat, q < H.size → ¬ va_A w1 H.size q → H1[q]? = H[q]?) (hDn : va_D (va_A w1 H.size) wn) : va_P D cl w2 H1 ∧ sw_dis wn w2 := by
  have ap : ∀ (k : Nat) (q : Nat × va_E), w2[k]? = some q → q.1 < H.size ∧ ¬ va_A w1 H.size q.1 := by
    intro k q hq
    have hl := (hP2 k q hq).lt
    refine ⟨hl, fun h => ?_⟩
    rcases h with ⟨k2, e, h⟩ | h
    · exact hX k2 k (q.1, e) q h hq rfl
    · omega
  refine ⟨fun k q hq => (hP2 k q hq).kept (hk q.1 (ap k q hq).1 (ap k q hq).2), fun i j p q hi hj e => (ap j q hj).2 ?_⟩
  rw [← e]
  exact hDn.2 i p hi
section SWL
variable {p : Program} {l : Launch} {e : Env} {R : Room} {s : State} {m : MethodId} {args : Array Value} {below : List Frame} {meth : Method} {c : Code} {H : Heap} {locs : List Loc} {cells slots : Nat} {Q : State → Prop}
variable {cc : ByteArray} {pc : Nat} {ls : Array Slot} {rest : List Value} {D : va_G} {cl : List vw_C} {A : Nat → Prop} {a : Nat} {tys : List (ClassId × FieldType)} {ws w2 : va_W} {H0 : Heap}
variable {Ts : List Cond} {own C : String} {nL n index maxL : Nat} {y : MethodName} {bytes : ByteArray} {ret : Option FieldType} {wsy : List Cond} {rm : Room} {b : Nat} {As st0 : List Value}
theorem sw_sld (hx : p.tables.exec = Jvm.exec) (hb : c.code = cc) {b L : Nat} {xs : Nat → Int32} (hX : va_X b L xs s H0) (hbl : b < H0.size) (hbA : ¬ A b) (hS : va_S A H0 H locs) {j : Nat} (hj : j < L) (hL : L < 2147483648) {v : Int32} (hv : xs j = v) (hd : decode cc pc = .ok (.iaload, 1)) (kk : W p l e R s m args below meth c H locs cells slots Q (F0 m (pc + 1) ls (.int v :: rest))) : W p l e R s m args below meth c H locs cells slots Q (F0 m pc ls (.int (nI j) :: .ref b :: rest)) :=
  va_sld hx hb hX hbl hbA hS (vp_in_nI hj hL) hd (by rw [nI_clamp (Nat.lt_trans hj hL), hv]; exact kk)
theorem sw_lcI {σ : Type} {post : Int32 → σ → Prop} {wn : σ → va_W} (S : CallFix p m c cc nL s args Ts own) (hM : ∀ sz, Met l y wsy rm (sw_M D cl ws tys sz (.ref b :: As)) (va_Qi post (sw_B D cl tys (va_A ws sz) wn) (va_A ws sz)) 0 0 (va_A ws sz)) (cw : CallW R s args own C index y bytes maxL ret wsy rm 0 0 n) (hK : va_K D cl tys s) (hP : va_P D cl ws H) (hD : va_D A ws) (hP2 : va_P D cl w2 H) (hX : sw_dis ws w2) (hS : va_S A H0 H locs) (hA : ∀ q, H0.size ≤ q → A q) {q : vw_C} {ci q0 : Nat} {fs : List Value} (hc : cl[ci]? = some q) (hC : q.1 = C) (he : ws[q0]? = some (b, .inr (ci, fs)))
    (hn : As.length = n) (hsize : ls.size = nL) (hst : st0 = As.reverse ++ .ref b :: rest) (hW : (rest.map fun v => v.category).sum ≤ 8) (hd : decode cc pc = .ok (.invokevirtual index, 3)) (hf : cells ≤ R.cells ∧ slots ≤ R.slots)
    (kk : ∀ (r : Int32) (u : σ) (H1 : Heap) (locs1 : List Loc), post r u → va_P D cl (wn u) H1 → va_D A (wn u) → va_P D cl w2 H1 → sw_dis (wn u) w2 → va_S A H0 H1 locs1 → W p l e R s m args below meth c H1 locs1 cells slots Q (F0 m (pc + 3) ls (.int r :: rest))) : W p l e R s m args below meth c H locs cells slots Q (F0 m pc ls st0) := by
  have hFc : ∀ q, va_A ws H.size q → A q := fun q h => by
    rcases h with ⟨k, x, h⟩ | h
    · exact hD.2 k (q, x) h
    · exact hA q (Nat.le_trans hS.1 h)
  refine va_calli (va_runV S (hM H.size) cw ⟨sw_M_blind, hC ▸ va_recv hK hP hc he, fun U hU hW => ⟨rfl, by rw [hU], by rw [hU]; exact hP, va_K.moved hW.alike hK, hD.weaken (fun _ _ _ _ => trivial)⟩⟩ rfl hn hsize hst (lv_room hW) hd hf) hS (fun q _ h => hFc q h) hFc (fun r u t H1 locs1 ht hvm hw hB hz hk hS1 => ?_)
  obtain ⟨hP1, -, hD1⟩ := hB
  rw [ht] at hP1
  obtain ⟨k1, k2⟩ := sw_keep hP2 hX hk hD1
  exact kk r u H1 locs1 hw hP1 (hD1.weaken (fun k q _ h => hFc q.1 h)) k1 k2 hS1
theorem sw_lcV {σ : Type} {post : σ → Prop} {wn : σ → va_W} (S : CallFix p m c cc nL s args Ts own) (hM : ∀ sz, Met l y wsy rm (sw_M D cl ws tys sz (.ref b :: As)) (va_Qv post (sw_B D cl tys (va_A ws sz) wn) (va_A ws sz)) 0 0 (va_A ws sz)) (cw : CallW R s args own C index y bytes maxL ret wsy rm 0 0 n) (hK : va_K D cl tys s) (hP : va_P D cl ws H) (hD : va_D A ws) (hP2 : va_P D cl w2 H) (hX : sw_dis ws w2) (hS : va_S A H0 H locs) (hA : ∀ q, H0.size ≤ q → A q) {q : vw_C} {ci q0 : Nat} {fs : List Value} (hc : cl[ci]? = some q) (hC : q.1 = C) (he : ws[q0]? = some (b, .inr (ci, fs)))
    (hn : As.length = n) (hsize : ls.size = nL) (hst : st0 = As.reverse ++ .ref b :: rest) (hW : (rest.map fun v => v.category).sum ≤ 8) (hd : decode cc pc = .ok (.invokevirtual index, 3)) (hf : cells ≤ R.cells ∧ slots ≤ R.slots)
    (kk : ∀ (u : σ) (H1 : Heap) (locs1 : List Loc), post u → va_P D cl (wn u) H1 → va_D A (wn u) → va_P D cl w2 H1 → sw_dis (wn u) w2 → va_S A H0 H1 locs1 → W p l e R s m args below meth c H1 locs1 cells slots Q (F0 m (pc + 3) ls rest)) : W p l e R s m args below meth c H locs cells slots Q (F0 m pc ls st0) := by
  have hFc : ∀ q, va_A ws H.size q → A q := fun q h => by
    rcases h with ⟨k, x, h⟩ | h
    · exact hD.2 k (q, x) h
    · exact hA q (Nat.le_trans hS.1 h)
  refine va_callv (va_runV S (hM H.size) cw ⟨sw_M_blind, hC ▸ va_recv hK hP hc he, fun U hU hW => ⟨rfl, by rw [hU], by rw [hU]; exact hP, va_K.moved hW.alike hK, hD.weaken (fun _ _ _ _ => trivial)⟩⟩ rfl hn hsize hst (lv_room hW) hd hf) hS (fun q _ h => hFc q h) hFc (fun u t H1 locs1 ht hvm hw hB hz hk hS1 => ?_)
  obtain ⟨hP1, -, hD1⟩ := hB
  rw [ht] at hP1
  obtain ⟨k1, k2⟩ := sw_keep hP2 hX hk hD1
  exact kk u H1 locs1 hw hP1 (hD1.weaken (fun k q _ h => hFc q.1 h)) k1 k2 hS1
/-- a constructor's call: the new world comes with its array classes -/
theorem sw_lcN {σ : Type} {wn : σ → va_W} {tn : σ → List (ClassId × FieldType)} {mc ms : Nat} (S : CallFix p m c cc nL s args Ts own) (hM : ∀ sz, Met l y wsy rm (sw_M D cl ws [] sz [.ref b]) (va_Qv (fun _ : σ => True) (fun u t => va_P D cl (wn u) t.heap ∧ va_K D cl (tn u) t ∧ va_D (va_A ws sz) (wn u)) (va_A ws sz)) mc ms (va_A ws sz)) (cw : CallB R s args own index y bytes maxL none wsy rm mc ms 0 ∧ y.name = "<init>" ∧ (Cond.instanceMethod y).before args s = true) (hK : va_K D cl [] s) (hP : va_P D cl ws H) (hD : va_D A ws) (hP2 : va_P D cl w2 H) (hX : sw_dis ws w2) (hS : va_S A H0 H locs) (hA : ∀ q, H0.size ≤ q → A q)
    (hsize : ls.size = nL) (hst : st0 = .ref b :: rest) (hW : (rest.map fun v => v.category).sum ≤ 8) (hd : decode cc pc = .ok (.invokespecial index, 3)) (hf : cells + mc ≤ R.cells ∧ slots + ms ≤ R.slots)
    (kk : ∀ (u : σ) (H1 : Heap) (locs1 : List Loc), va_P D cl (wn u) H1 → va_K D cl (tn u) s → va_D A (wn u) → va_P D cl w2 H1 → sw_dis (wn u) w2 → va_S A H0 H1 locs1 → W p l e R s m args below meth c H1 locs1 (cells + mc) (slots + ms) Q (F0 m (pc + 3) ls rest)) : W p l e R s m args below meth c H locs cells slots Q (F0 m pc ls st0) := by
  have hFc : ∀ q, va_A ws H.size q → A q := fun q h => by
    rcases h with ⟨k, x, h⟩ | h
    · exact hD.2 k (q, x) h
    · exact hA q (Nat.le_trans hS.1 h)
  refine va_callv (va_runI (As := []) S (hM H.size) cw ⟨sw_M_blind, fun U hU hW => ⟨rfl, by rw [hU], by rw [hU]; exact hP, va_K.moved hW.alike hK, hD.weaken (fun _ _ _ _ => trivial)⟩⟩ rfl rfl hsize hst (lv_room hW) hd hf) hS (fun q _ h => hFc q h) hFc (fun u t H1 locs1 ht hvm hw hB hz hk hS1 => ?_)
  obtain ⟨hP1, hK1, hD1⟩ := hB
  rw [ht] at hP1
  obtain ⟨k1, k2⟩ := sw_keep hP2 hX hk hD1
  exact kk u H1 locs1 hP1 (va_K.moved hvm.symm hK1) (hD1.weaken (fun k q _ h => hFc q.1 h)) k1 k2 hS1
end SWL
theorem sw_new0 {ty : FieldType} (n : Nat) (h : defaultValue ty = .int 0) (cA : ClassId) : vp_cell cA (n, .inl (nF (fun _ => 0))) = arrV cA n (fun _ => defaultValue ty) := by
  rw [h, vp_cell_i]
  show arrV cA n (fun _ => Value.int (nI 0)) = _
  rw [nI_0]
theorem sw_zI0 : zI 0 = 0 := by decide +kernel
theorem sw_new0z {ty : FieldType} (n : Nat) (h : defaultValue ty = .int 0) (cA : ClassId) : vp_cell cA (n, .inl (zF (fun _ => 0))) = arrV cA n (fun _ => defaultValue ty) := by
  rw [h, vp_cell_i]
  show arrV cA n (fun _ => Value.int (zI 0)) = _
  rw [sw_zI0]
end
section
def sw_at11 {α : Type} (x0 x1 x2 x3 x4 x5 x6 x7 x8 x9 x10 : α) : Nat → α := fun i => match i with
  | 0 => x0
  | 1 => x1
  | 2 => x2
  | 3 => x3
  | 4 => x4
  | 5 => x5
  | 6 => x6
  | 7 => x7
  | 8 => x8
  | 9 => x9
  | _ => x10
/-- the new object, before its constructor -/
abbrev w0X0 (o : Nat) : va_W := [(o, .inr (0, [.null, .null, .null, .null, .int (nI 0), .int (nI 0), .int (nI 0), .null, .int (nI 0), .int (nI 0), .int (nI 0), .null, .null, .null, .null, .null, .null]))]
set_option maxHeartbeats 4000000 in
set_option maxRecDepth 100000 in
theorem mX0_init (l : Launch) {D : va_G} {o : Nat} (sz : Nat) : Met l yX0_init (ws_ yX0_init cX0_init 1 none) ({ frames := 1, cells := 11, slots := 712, locals := 12 }) (sw_M D vwCl (w0X0 o) [] sz [.ref o]) (va_Qv (fun _ : (Nat → Nat) × (Nat → ClassId) => True) (fun u t => va_P D vwCl (wX o u.1 u.2 (fun _ => 0) (fun _ => 0) (fun _ => 0) (fun _ => 0) 0 0 0 (fun _ => 0) 0 0 0 (fun _ => 0) (fun _ => 0) (fun _ => 0) (fun _ => 0) (fun _ => 0) (fun _ => 0)) t.heap ∧ va_K D vwCl (tyX u.2) t ∧ va_D (va_A (w0X0 o) sz) (wX o u.1 u.2 (fun _ => 0) (fun _ => 0) (fun _ => 0) (fun _ => 0) 0 0 0 (fun _ => 0) 0 0 0 (fun _ => 0) (fun _ => 0) (fun _ => 0) (fun _ => 0) (fun _ => 0) (fun _ => 0))) (va_A (w0X0 o) sz)) 11 712 (va_A (w0X0 o) sz) := by
  refine Met.ofW (cc := cX0_init) (maxL := 1) (ret := none) (by decide) rfl ?_
  intro p e s m args below meth c s₁ B hml hv
  obtain ⟨rfl, hsz, hP, hK, hD0⟩ := hv
  have hx := B.exec
  have hb := B.bytes
  have hr := B.returns
  have hts := atoms_spec (ws := ws_ yX0_init cX0_init 1 none) B.pre
  have hts : ∀ w ∈ lw_all, w.before _ s = true := fun w h => hts w (List.mem_cons_of_mem _ h)
  have hown : s.vm.findClass RX0 = some m.cls := findClass_of_methodNamed B.named
  have hlocks := B.notSynchronized
  have hin : meth.name = "<init>" := (name_of_methodNamed B.named B.method).1
  subst hsz
  have hD := hD0.self (sz := s.heap.size)
  generalize hAe : va_A (w0X0 o) s.heap.size = A at hD ⊢
  have hA : ∀ q : Nat, s.heap.size ≤ q → A q := fun q h => by rw [← hAe]; exact Or.inr h
  have hS : va_S A s.heap s.heap [] := va_S.rf
  have hl := lv_entry ([.ref o]) (n := 1) (Nat.le_of_ble_eq_true rfl)
  rw [lg_entry_eq]
  generalize (lg_sl ([.ref o]) ++ List.replicate (1 - (lg_sl ([.ref o])).length) Slot.unset).toArray = ls at hl ⊢
  have hl : lv_has ls 1 [(0, .ref o)] := hl
  refine lv_aload_n hx hb dX0_init_0 rfl (lv_at hl 0 rfl) ?_
  refine W.objInit hx hb hown (hts _ q27) (hts _ q28) (hts _ q29) rfl (by rw [hml]; exact hl.1) rfl dX0_init_1 (Nat.le_of_ble_eq_true rfl) (Nat.le_of_ble_eq_true rfl) ?_
  refine W.eq (g2 := F0 m 4 ls []) rfl ?_
  refine lv_aload_n hx hb dX0_init_4 rfl (lv_at hl 0 rfl) ?_
  refine lv_iconst (v := nI 4) hx hb dX0_init_5 (by decide) ?_
  refine va_newa hx hb (atype := .byte) (ty := .byte) (hts _ q82) rfl hK hP hD hS hA (n := nI 4) (N' := 4) (a0 := (4, .inl (nF (fun _ => 0)))) (sw_new0 4 rfl) (nI_pos (by decide)) (nI_clamp (by decide)) (by decide) (Nat.le_of_ble_eq_true rfl) (Nat.le_of_ble_eq_true rfl) dX0_init_6 (fun q0 k0 H hK hP hD hS => ?_)
  refine W.cs (cells' := 1) (slots' := 4) rfl rfl ?_
  have hK : va_K D vwCl [(k0, .byte)] s := hK
  have hP : va_P D vwCl [(o, .inr (0, [.null, .null, .null, .null, .int (nI 0), .int (nI 0), .int (nI 0), .null, .int (nI 0), .int (nI 0), .int (nI 0), .null, .null, .null, .null, .null, .null])), (q0, .inl (k0, 4, .inl (nF (fun _ => 0))))] H := hP
  have hD : va_D A [(o, .inr (0, [.null, .null, .null, .null, .int (nI 0), .int (nI 0), .int (nI 0), .null, .int (nI 0), .int (nI 0), .int (nI 0), .null, .null, .null, .null, .null, .null])), (q0, .inl (k0, 4, .inl (nF (fun _ => 0))))] := hD
  refine va_putF (D := D) (ci := 0) (v := .ref q0) (ty := (.array .byte)) (C := RX0) (T := TX0) (N := 17) hx hb hts in_X0 tyX0 tyX0_ok nmX0 hown hK hP hD hS 0 rfl rfl 0 (by decide) (hts _ q30) (fun _ h9 => h9) rfl hin rfl (by decide +kernel) rfl rfl (Nat.le_of_ble_eq_true rfl) dX0_init_8 (fun H locs hP hD hS => ?_)
  have hP : va_P D vwCl [(o, .inr (0, [.ref q0, .null, .null, .null, .int (nI 0), .int (nI 0), .int (nI 0), .null, .int (nI 0), .int (nI 0), .int (nI 0), .null, .null, .null, .null, .null, .null])), (q0, .inl (k0, 4, .inl (nF (fun _ => 0))))] H := hP
  have hD : va_D A [(o, .inr (0, [.ref q0, .null, .null, .null, .int (nI 0), .int (nI 0), .int (nI 0), .null, .int (nI 0), .int (nI 0), .int (nI 0), .null, .null, .null, .null, .null, .null])), (q0, .inl (k0, 4, .inl (nF (fun _ => 0))))] := hD
  refine lv_aload_n hx hb dX0_init_11 rfl (lv_at hl 0 rfl) ?_
  refine lv_bipush (v := nI 24) hx hb dX0_init_12 (by decide) ?_
  refine va_newa hx hb (atype := .byte) (ty := .byte) (hts _ q82) rfl hK hP hD hS hA (n := nI 24) (N' := 24) (a0 := (24, .inl (nF (fun _ => 0)))) (sw_new0 24 rfl) (nI_pos (by decide)) (nI_clamp (by decide)) (by decide) (Nat.le_of_ble_eq_true rfl) (Nat.le_of_ble_eq_true rfl) dX0_init_14 (fun q1 k1 H hK hP hD hS => ?_)
  refine W.cs (cells' := 2) (slots' := 28) rfl rfl ?_
  have hK : va_K D vwCl [(k0, .byte), (k1, .byte)] s := hK
  have hP : va_P D vwCl [(o, .inr (0, [.ref q0, .null, .null, .null, .int (nI 0), .int (nI 0), .int (nI 0), .null, .int (nI 0), .int (nI 0), .int (nI 0), .null, .null, .null, .null, .null, .null])), (q0, .inl (k0, 4, .inl (nF (fun _ => 0)))), (q1, .inl (k1, 24, .inl (nF (fun _ => 0))))] H := hP
  have hD : va_D A [(o, .inr (0, [.ref q0, .null, .null, .null, .int (nI 0), .int (nI 0), .int (nI 0), .null, .int (nI 0), .int (nI 0), .int (nI 0), .null, .null, .null, .null, .null, .null])), (q0, .inl (k0, 4, .inl (nF (fun _ => 0)))), (q1, .inl (k1, 24, .inl (nF (fun _ => 0))))] := hD
  refine va_putF (D := D) (ci := 0) (v := .ref q1) (ty := (.array .byte)) (C := RX0) (T := TX0) (N := 17) hx hb hts in_X0 tyX0 tyX0_ok nmX0 hown hK hP hD hS 0 rfl rfl 1 (by decide) (hts _ q31) (fun _ h9 => h9) rfl hin rfl (by decide +kernel) rfl rfl (Nat.le_of_ble_eq_true rfl) dX0_init_16 (fun H locs hP hD hS => ?_)
  have hP : va_P D vwCl [(o, .inr (0, [.ref q0, .ref q1, .null, .null, .int (nI 0), .int (nI 0), .int (nI 0), .null, .int (nI 0), .int (nI 0), .int (nI 0), .null, .null, .null, .null, .null, .null])), (q0, .inl (k0, 4, .inl (nF (fun _ => 0)))), (q1, .inl (k1, 24, .inl (nF (fun _ => 0))))] H := hP
  have hD : va_D A [(o, .inr (0, [.ref q0, .ref q1, .null, .null, .int (nI 0), .int (nI 0), .int (nI 0), .null, .int (nI 0), .int (nI 0), .int (nI 0), .null, .null, .null, .null, .null, .null])), (q0, .inl (k0, 4, .inl (nF (fun _ => 0)))), (q1, .inl (k1, 24, .inl (nF (fun _ => 0))))] := hD
  refine lv_aload_n hx hb dX0_init_19 rfl (lv_at hl 0 rfl) ?_
  refine lv_bipush (v := nI 24) hx hb dX0_init_20 (by decide) ?_
  refine va_newa hx hb (atype := .byte) (ty := .byte) (hts _ q82) rfl hK hP hD hS hA (n := nI 24) (N' := 24) (a0 := (24, .inl (nF (fun _ => 0)))) (sw_new0 24 rfl) (nI_pos (by decide)) (nI_clamp (by decide)) (by decide) (Nat.le_of_ble_eq_true rfl) (Nat.le_of_ble_eq_true rfl) dX0_init_22 (fun q2 k2 H hK hP hD hS => ?_)
  refine W.cs (cells' := 3) (slots' := 52) rfl rfl ?_
  have hK : va_K D vwCl [(k0, .byte), (k1, .byte), (k2, .byte)] s := hK
  have hP : va_P D vwCl [(o, .inr (0, [.ref q0, .ref q1, .null, .null, .int (nI 0), .int (nI 0), .int (nI 0), .null, .int (nI 0), .int (nI 0), .int (nI 0), .null, .null, .null, .null, .null, .null])), (q0, .inl (k0, 4, .inl (nF (fun _ => 0)))), (q1, .inl (k1, 24, .inl (nF (fun _ => 0)))), (q2, .inl (k2, 24, .inl (nF (fun _ => 0))))] H := hP
  have hD : va_D A [(o, .inr (0, [.ref q0, .ref q1, .null, .null, .int (nI 0), .int (nI 0), .int (nI 0), .null, .int (nI 0), .int (nI 0), .int (nI 0), .null, .null, .null, .null, .null, .null])), (q0, .inl (k0, 4, .inl (nF (fun _ => 0)))), (q1, .inl (k1, 24, .inl (nF (fun _ => 0)))), (q2, .inl (k2, 24, .inl (nF (fun _ => 0))))] := hD
  refine va_putF (D := D) (ci := 0) (v := .ref q2) (ty := (.array .byte)) (C := RX0) (T := TX0) (N := 17) hx hb hts in_X0 tyX0 tyX0_ok nmX0 hown hK hP hD hS 0 rfl rfl 2 (by decide) (hts _ q32) (fun _ h9 => h9) rfl hin rfl (by decide +kernel) rfl rfl (Nat.le_of_ble_eq_true rfl) dX0_init_24 (fun H locs hP hD hS => ?_)
  have hP : va_P D vwCl [(o, .inr (0, [.ref q0, .ref q1, .ref q2, .null, .int (nI 0), .int (nI 0), .int (nI 0), .null, .int (nI 0), .int (nI 0), .int (nI 0), .null, .null, .null, .null, .null, .null])), (q0, .inl (k0, 4, .inl (nF (fun _ => 0)))), (q1, .inl (k1, 24, .inl (nF (fun _ => 0)))), (q2, .inl (k2, 24, .inl (nF (fun _ => 0))))] H := hP
  have hD : va_D A [(o, .inr (0, [.ref q0, .ref q1, .ref q2, .null, .int (nI 0), .int (nI 0), .int (nI 0), .null, .int (nI 0), .int (nI 0), .int (nI 0), .null, .null, .null, .null, .null, .null])), (q0, .inl (k0, 4, .inl (nF (fun _ => 0)))), (q1, .inl (k1, 24, .inl (nF (fun _ => 0)))), (q2, .inl (k2, 24, .inl (nF (fun _ => 0))))] := hD
  refine lv_aload_n hx hb dX0_init_27 rfl (lv_at hl 0 rfl) ?_
  refine lv_bipush (v := nI 60) hx hb dX0_init_28 (by decide) ?_
  refine va_newa hx hb (atype := .byte) (ty := .byte) (hts _ q82) rfl hK hP hD hS hA (n := nI 60) (N' := 60) (a0 := (60, .inl (nF (fun _ => 0)))) (sw_new0 60 rfl) (nI_pos (by decide)) (nI_clamp (by decide)) (by decide) (Nat.le_of_ble_eq_true rfl) (Nat.le_of_ble_eq_true rfl) dX0_init_30 (fun q3 k3 H hK hP hD hS => ?_)
  refine W.cs (cells' := 4) (slots' := 112) rfl rfl ?_
  have hK : va_K D vwCl [(k0, .byte), (k1, .byte), (k2, .byte), (k3, .byte)] s := hK
  have hP : va_P D vwCl [(o, .inr (0, [.ref q0, .ref q1, .ref q2, .null, .int (nI 0), .int (nI 0), .int (nI 0), .null, .int (nI 0), .int (nI 0), .int (nI 0), .null, .null, .null, .null, .null, .null])), (q0, .inl (k0, 4, .inl (nF (fun _ => 0)))), (q1, .inl (k1, 24, .inl (nF (fun _ => 0)))), (q2, .inl (k2, 24, .inl (nF (fun _ => 0)))), (q3, .inl (k3, 60, .inl (nF (fun _ => 0))))] H := hP
  have hD : va_D A [(o, .inr (0, [.ref q0, .ref q1, .ref q2, .null, .int (nI 0), .int (nI 0), .int (nI 0), .null, .int (nI 0), .int (nI 0), .int (nI 0), .null, .null, .null, .null, .null, .null])), (q0, .inl (k0, 4, .inl (nF (fun _ => 0)))), (q1, .inl (k1, 24, .inl (nF (fun _ => 0)))), (q2, .inl (k2, 24, .inl (nF (fun _ => 0)))), (q3, .inl (k3, 60, .inl (nF (fun _ => 0))))] := hD
  refine va_putF (D := D) (ci := 0) (v := .ref q3) (ty := (.array .byte)) (C := RX0) (T := TX0) (N := 17) hx hb hts in_X0 tyX0 tyX0_ok nmX0 hown hK hP hD hS 0 rfl rfl 3 (by decide) (hts _ q33) (fun _ h9 => h9) rfl hin rfl (by decide +kernel) rfl rfl (Nat.le_of_ble_eq_true rfl) dX0_init_32 (fun H locs hP hD hS => ?_)
  have hP : va_P D vwCl [(o, .inr (0, [.ref q0, .ref q1, .ref q2, .ref q3, .int (nI 0), .int (nI 0), .int (nI 0), .null, .int (nI 0), .int (nI 0), .int (nI 0), .null, .null, .null, .null, .null, .null])), (q0, .inl (k0, 4, .inl (nF (fun _ => 0)))), (q1, .inl (k1, 24, .inl (nF (fun _ => 0)))), (q2, .inl (k2, 24, .inl (nF (fun _ => 0)))), (q3, .inl (k3, 60, .inl (nF (fun _ => 0))))] H := hP
  have hD : va_D A [(o, .inr (0, [.ref q0, .ref q1, .ref q2, .ref q3, .int (nI 0), .int (nI 0), .int (nI 0), .null, .int (nI 0), .int (nI 0), .int (nI 0), .null, .null, .null, .null, .null, .null])), (q0, .inl (k0, 4, .inl (nF (fun _ => 0)))), (q1, .inl (k1, 24, .inl (nF (fun _ => 0)))), (q2, .inl (k2, 24, .inl (nF (fun _ => 0)))), (q3, .inl (k3, 60, .inl (nF (fun _ => 0))))] := hD
  refine lv_aload_n hx hb dX0_init_35 rfl (lv_at hl 0 rfl) ?_
  refine lv_bipush (v := nI 24) hx hb dX0_init_36 (by decide) ?_
  refine va_newa hx hb (atype := .int) (ty := .int) (hts _ q83) rfl hK hP hD hS hA (n := nI 24) (N' := 24) (a0 := (24, .inl (nF (fun _ => 0)))) (sw_new0 24 rfl) (nI_pos (by decide)) (nI_clamp (by decide)) (by decide) (Nat.le_of_ble_eq_true rfl) (Nat.le_of_ble_eq_true rfl) dX0_init_38 (fun q4 k4 H hK hP hD hS => ?_)
  refine W.cs (cells' := 5) (slots' := 136) rfl rfl ?_
  have hK : va_K D vwCl [(k0, .byte), (k1, .byte), (k2, .byte), (k3, .byte), (k4, .int)] s := hK
  have hP : va_P D vwCl [(o, .inr (0, [.ref q0, .ref q1, .ref q2, .ref q3, .int (nI 0), .int (nI 0), .int (nI 0), .null, .int (nI 0), .int (nI 0), .int (nI 0), .null, .null, .null, .null, .null, .null])), (q0, .inl (k0, 4, .inl (nF (fun _ => 0)))), (q1, .inl (k1, 24, .inl (nF (fun _ => 0)))), (q2, .inl (k2, 24, .inl (nF (fun _ => 0)))), (q3, .inl (k3, 60, .inl (nF (fun _ => 0)))), (q4, .inl (k4, 24, .inl (nF (fun _ => 0))))] H := hP
  have hD : va_D A [(o, .inr (0, [.ref q0, .ref q1, .ref q2, .ref q3, .int (nI 0), .int (nI 0), .int (nI 0), .null, .int (nI 0), .int (nI 0), .int (nI 0), .null, .null, .null, .null, .null, .null])), (q0, .inl (k0, 4, .inl (nF (fun _ => 0)))), (q1, .inl (k1, 24, .inl (nF (fun _ => 0)))), (q2, .inl (k2, 24, .inl (nF (fun _ => 0)))), (q3, .inl (k3, 60, .inl (nF (fun _ => 0)))), (q4, .inl (k4, 24, .inl (nF (fun _ => 0))))] := hD
  refine va_putF (D := D) (ci := 0) (v := .ref q4) (ty := (.array .int)) (C := RX0) (T := TX0) (N := 17) hx hb hts in_X0 tyX0 tyX0_ok nmX0 hown hK hP hD hS 0 rfl rfl 7 (by decide) (hts _ q37) (fun _ h9 => h9) rfl hin rfl (by decide +kernel) rfl rfl (Nat.le_of_ble_eq_true rfl) dX0_init_40 (fun H locs hP hD hS => ?_)
  have hP : va_P D vwCl [(o, .inr (0, [.ref q0, .ref q1, .ref q2, .ref q3, .int (nI 0), .int (nI 0), .int (nI 0), .ref q4, .int (nI 0), .int (nI 0), .int (nI 0), .null, .null, .null, .null, .null, .null])), (q0, .inl (k0, 4, .inl (nF (fun _ => 0)))), (q1, .inl (k1, 24, .inl (nF (fun _ => 0)))), (q2, .inl (k2, 24, .inl (nF (fun _ => 0)))), (q3, .inl (k3, 60, .inl (nF (fun _ => 0)))), (q4, .inl (k4, 24, .inl (nF (fun _ => 0))))] H := hP
  have hD : va_D A [(o, .inr (0, [.ref q0, .ref q1, .ref q2, .ref q3, .int (nI 0), .int (nI 0), .int (nI 0), .ref q4, .int (nI 0), .int (nI 0), .int (nI 0), .null, .null, .null, .null, .null, .null])), (q0, .inl (k0, 4, .inl (nF (fun _ => 0)))), (q1, .inl (k1, 24, .inl (nF (fun _ => 0)))), (q2, .inl (k2, 24, .inl (nF (fun _ => 0)))), (q3, .inl (k3, 60, .inl (nF (fun _ => 0)))), (q4, .inl (k4, 24, .inl (nF (fun _ => 0))))] := hD
  refine lv_aload_n hx hb dX0_init_43 rfl (lv_at hl 0 rfl) ?_
  refine lv_bipush (v := nI 24) hx hb dX0_init_44 (by decide) ?_
  refine va_newa hx hb (atype := .byte) (ty := .byte) (hts _ q82) rfl hK hP hD hS hA (n := nI 24) (N' := 24) (a0 := (24, .inl (nF (fun _ => 0)))) (sw_new0 24 rfl) (nI_pos (by decide)) (nI_clamp (by decide)) (by decide) (Nat.le_of_ble_eq_true rfl) (Nat.le_of_ble_eq_true rfl) dX0_init_46 (fun q5 k5 H hK hP hD hS => ?_)
  refine W.cs (cells' := 6) (slots' := 160) rfl rfl ?_
  have hK : va_K D vwCl [(k0, .byte), (k1, .byte), (k2, .byte), (k3, .byte), (k4, .int), (k5, .byte)] s := hK
  have hP : va_P D vwCl [(o, .inr (0, [.ref q0, .ref q1, .ref q2, .ref q3, .int (nI 0), .int (nI 0), .int (nI 0), .ref q4, .int (nI 0), .int (nI 0), .int (nI 0), .null, .null, .null, .null, .null, .null])), (q0, .inl (k0, 4, .inl (nF (fun _ => 0)))), (q1, .inl (k1, 24, .inl (nF (fun _ => 0)))), (q2, .inl (k2, 24, .inl (nF (fun _ => 0)))), (q3, .inl (k3, 60, .inl (nF (fun _ => 0)))), (q4, .inl (k4, 24, .inl (nF (fun _ => 0)))), (q5, .inl (k5, 24, .inl (nF (fun _ => 0))))] H := hP
  have hD : va_D A [(o, .inr (0, [.ref q0, .ref q1, .ref q2, .ref q3, .int (nI 0), .int (nI 0), .int (nI 0), .ref q4, .int (nI 0), .int (nI 0), .int (nI 0), .null, .null, .null, .null, .null, .null])), (q0, .inl (k0, 4, .inl (nF (fun _ => 0)))), (q1, .inl (k1, 24, .inl (nF (fun _ => 0)))), (q2, .inl (k2, 24, .inl (nF (fun _ => 0)))), (q3, .inl (k3, 60, .inl (nF (fun _ => 0)))), (q4, .inl (k4, 24, .inl (nF (fun _ => 0)))), (q5, .inl (k5, 24, .inl (nF (fun _ => 0))))] := hD
  refine va_putF (D := D) (ci := 0) (v := .ref q5) (ty := (.array .byte)) (C := RX0) (T := TX0) (N := 17) hx hb hts in_X0 tyX0 tyX0_ok nmX0 hown hK hP hD hS 0 rfl rfl 11 (by decide) (hts _ q41) (fun _ h9 => h9) rfl hin rfl (by decide +kernel) rfl rfl (Nat.le_of_ble_eq_true rfl) dX0_init_48 (fun H locs hP hD hS => ?_)
  have hP : va_P D vwCl [(o, .inr (0, [.ref q0, .ref q1, .ref q2, .ref q3, .int (nI 0), .int (nI 0), .int (nI 0), .ref q4, .int (nI 0), .int (nI 0), .int (nI 0), .ref q5, .null, .null, .null, .null, .null])), (q0, .inl (k0, 4, .inl (nF (fun _ => 0)))), (q1, .inl (k1, 24, .inl (nF (fun _ => 0)))), (q2, .inl (k2, 24, .inl (nF (fun _ => 0)))), (q3, .inl (k3, 60, .inl (nF (fun _ => 0)))), (q4, .inl (k4, 24, .inl (nF (fun _ => 0)))), (q5, .inl (k5, 24, .inl (nF (fun _ => 0))))] H := hP
  have hD : va_D A [(o, .inr (0, [.ref q0, .ref q1, .ref q2, .ref q3, .int (nI 0), .int (nI 0), .int (nI 0), .ref q4, .int (nI 0), .int (nI 0), .int (nI 0), .ref q5, .null, .null, .null, .null, .null])), (q0, .inl (k0, 4, .inl (nF (fun _ => 0)))), (q1, .inl (k1, 24, .inl (nF (fun _ => 0)))), (q2, .inl (k2, 24, .inl (nF (fun _ => 0)))), (q3, .inl (k3, 60, .inl (nF (fun _ => 0)))), (q4, .inl (k4, 24, .inl (nF (fun _ => 0)))), (q5, .inl (k5, 24, .inl (nF (fun _ => 0))))] := hD
  refine lv_aload_n hx hb dX0_init_51 rfl (lv_at hl 0 rfl) ?_
  refine lv_bipush (v := nI 24) hx hb dX0_init_52 (by decide) ?_
  refine va_newa hx hb (atype := .byte) (ty := .byte) (hts _ q82) rfl hK hP hD hS hA (n := nI 24) (N' := 24) (a0 := (24, .inl (zF (fun _ => 0)))) (sw_new0z 24 rfl) (nI_pos (by decide)) (nI_clamp (by decide)) (by decide) (Nat.le_of_ble_eq_true rfl) (Nat.le_of_ble_eq_true rfl) dX0_init_54 (fun q6 k6 H hK hP hD hS => ?_)
  refine W.cs (cells' := 7) (slots' := 184) rfl rfl ?_
  have hK : va_K D vwCl [(k0, .byte), (k1, .byte), (k2, .byte), (k3, .byte), (k4, .int), (k5, .byte), (k6, .byte)] s := hK
  have hP : va_P D vwCl [(o, .inr (0, [.ref q0, .ref q1, .ref q2, .ref q3, .int (nI 0), .int (nI 0), .int (nI 0), .ref q4, .int (nI 0), .int (nI 0), .int (nI 0), .ref q5, .null, .null, .null, .null, .null])), (q0, .inl (k0, 4, .inl (nF (fun _ => 0)))), (q1, .inl (k1, 24, .inl (nF (fun _ => 0)))), (q2, .inl (k2, 24, .inl (nF (fun _ => 0)))), (q3, .inl (k3, 60, .inl (nF (fun _ => 0)))), (q4, .inl (k4, 24, .inl (nF (fun _ => 0)))), (q5, .inl (k5, 24, .inl (nF (fun _ => 0)))), (q6, .inl (k6, 24, .inl (zF (fun _ => 0))))] H := hP
  have hD : va_D A [(o, .inr (0, [.ref q0, .ref q1, .ref q2, .ref q3, .int (nI 0), .int (nI 0), .int (nI 0), .ref q4, .int (nI 0), .int (nI 0), .int (nI 0), .ref q5, .null, .null, .null, .null, .null])), (q0, .inl (k0, 4, .inl (nF (fun _ => 0)))), (q1, .inl (k1, 24, .inl (nF (fun _ => 0)))), (q2, .inl (k2, 24, .inl (nF (fun _ => 0)))), (q3, .inl (k3, 60, .inl (nF (fun _ => 0)))), (q4, .inl (k4, 24, .inl (nF (fun _ => 0)))), (q5, .inl (k5, 24, .inl (nF (fun _ => 0)))), (q6, .inl (k6, 24, .inl (zF (fun _ => 0))))] := hD
  refine va_putF (D := D) (ci := 0) (v := .ref q6) (ty := (.array .byte)) (C := RX0) (T := TX0) (N := 17) hx hb hts in_X0 tyX0 tyX0_ok nmX0 hown hK hP hD hS 0 rfl rfl 12 (by decide) (hts _ q42) (fun _ h9 => h9) rfl hin rfl (by decide +kernel) rfl rfl (Nat.le_of_ble_eq_true rfl) dX0_init_56 (fun H locs hP hD hS => ?_)
  have hP : va_P D vwCl [(o, .inr (0, [.ref q0, .ref q1, .ref q2, .ref q3, .int (nI 0), .int (nI 0), .int (nI 0), .ref q4, .int (nI 0), .int (nI 0), .int (nI 0), .ref q5, .ref q6, .null, .null, .null, .null])), (q0, .inl (k0, 4, .inl (nF (fun _ => 0)))), (q1, .inl (k1, 24, .inl (nF (fun _ => 0)))), (q2, .inl (k2, 24, .inl (nF (fun _ => 0)))), (q3, .inl (k3, 60, .inl (nF (fun _ => 0)))), (q4, .inl (k4, 24, .inl (nF (fun _ => 0)))), (q5, .inl (k5, 24, .inl (nF (fun _ => 0)))), (q6, .inl (k6, 24, .inl (zF (fun _ => 0))))] H := hP
  have hD : va_D A [(o, .inr (0, [.ref q0, .ref q1, .ref q2, .ref q3, .int (nI 0), .int (nI 0), .int (nI 0), .ref q4, .int (nI 0), .int (nI 0), .int (nI 0), .ref q5, .ref q6, .null, .null, .null, .null])), (q0, .inl (k0, 4, .inl (nF (fun _ => 0)))), (q1, .inl (k1, 24, .inl (nF (fun _ => 0)))), (q2, .inl (k2, 24, .inl (nF (fun _ => 0)))), (q3, .inl (k3, 60, .inl (nF (fun _ => 0)))), (q4, .inl (k4, 24, .inl (nF (fun _ => 0)))), (q5, .inl (k5, 24, .inl (nF (fun _ => 0)))), (q6, .inl (k6, 24, .inl (zF (fun _ => 0))))] := hD
  refine lv_aload_n hx hb dX0_init_59 rfl (lv_at hl 0 rfl) ?_
  refine lv_bipush (v := nI 24) hx hb dX0_init_60 (by decide) ?_
  refine va_newa hx hb (atype := .byte) (ty := .byte) (hts _ q82) rfl hK hP hD hS hA (n := nI 24) (N' := 24) (a0 := (24, .inl (nF (fun _ => 0)))) (sw_new0 24 rfl) (nI_pos (by decide)) (nI_clamp (by decide)) (by decide) (Nat.le_of_ble_eq_true rfl) (Nat.le_of_ble_eq_true rfl) dX0_init_62 (fun q7 k7 H hK hP hD hS => ?_)
  refine W.cs (cells' := 8) (slots' := 208) rfl rfl ?_
  have hK : va_K D vwCl [(k0, .byte), (k1, .byte), (k2, .byte), (k3, .byte), (k4, .int), (k5, .byte), (k6, .byte), (k7, .byte)] s := hK
  have hP : va_P D vwCl [(o, .inr (0, [.ref q0, .ref q1, .ref q2, .ref q3, .int (nI 0), .int (nI 0), .int (nI 0), .ref q4, .int (nI 0), .int (nI 0), .int (nI 0), .ref q5, .ref q6, .null, .null, .null, .null])), (q0, .inl (k0, 4, .inl (nF (fun _ => 0)))), (q1, .inl (k1, 24, .inl (nF (fun _ => 0)))), (q2, .inl (k2, 24, .inl (nF (fun _ => 0)))), (q3, .inl (k3, 60, .inl (nF (fun _ => 0)))), (q4, .inl (k4, 24, .inl (nF (fun _ => 0)))), (q5, .inl (k5, 24, .inl (nF (fun _ => 0)))), (q6, .inl (k6, 24, .inl (zF (fun _ => 0)))), (q7, .inl (k7, 24, .inl (nF (fun _ => 0))))] H := hP
  have hD : va_D A [(o, .inr (0, [.ref q0, .ref q1, .ref q2, .ref q3, .int (nI 0), .int (nI 0), .int (nI 0), .ref q4, .int (nI 0), .int (nI 0), .int (nI 0), .ref q5, .ref q6, .null, .null, .null, .null])), (q0, .inl (k0, 4, .inl (nF (fun _ => 0)))), (q1, .inl (k1, 24, .inl (nF (fun _ => 0)))), (q2, .inl (k2, 24, .inl (nF (fun _ => 0)))), (q3, .inl (k3, 60, .inl (nF (fun _ => 0)))), (q4, .inl (k4, 24, .inl (nF (fun _ => 0)))), (q5, .inl (k5, 24, .inl (nF (fun _ => 0)))), (q6, .inl (k6, 24, .inl (zF (fun _ => 0)))), (q7, .inl (k7, 24, .inl (nF (fun _ => 0))))] := hD
  refine va_putF (D := D) (ci := 0) (v := .ref q7) (ty := (.array .byte)) (C := RX0) (T := TX0) (N := 17) hx hb hts in_X0 tyX0 tyX0_ok nmX0 hown hK hP hD hS 0 rfl rfl 13 (by decide) (hts _ q43) (fun _ h9 => h9) rfl hin rfl (by decide +kernel) rfl rfl (Nat.le_of_ble_eq_true rfl) dX0_init_64 (fun H locs hP hD hS => ?_)
  have hP : va_P D vwCl [(o, .inr (0, [.ref q0, .ref q1, .ref q2, .ref q3, .int (nI 0), .int (nI 0), .int (nI 0), .ref q4, .int (nI 0), .int (nI 0), .int (nI 0), .ref q5, .ref q6, .ref q7, .null, .null, .null])), (q0, .inl (k0, 4, .inl (nF (fun _ => 0)))), (q1, .inl (k1, 24, .inl (nF (fun _ => 0)))), (q2, .inl (k2, 24, .inl (nF (fun _ => 0)))), (q3, .inl (k3, 60, .inl (nF (fun _ => 0)))), (q4, .inl (k4, 24, .inl (nF (fun _ => 0)))), (q5, .inl (k5, 24, .inl (nF (fun _ => 0)))), (q6, .inl (k6, 24, .inl (zF (fun _ => 0)))), (q7, .inl (k7, 24, .inl (nF (fun _ => 0))))] H := hP
  have hD : va_D A [(o, .inr (0, [.ref q0, .ref q1, .ref q2, .ref q3, .int (nI 0), .int (nI 0), .int (nI 0), .ref q4, .int (nI 0), .int (nI 0), .int (nI 0), .ref q5, .ref q6, .ref q7, .null, .null, .null])), (q0, .inl (k0, 4, .inl (nF (fun _ => 0)))), (q1, .inl (k1, 24, .inl (nF (fun _ => 0)))), (q2, .inl (k2, 24, .inl (nF (fun _ => 0)))), (q3, .inl (k3, 60, .inl (nF (fun _ => 0)))), (q4, .inl (k4, 24, .inl (nF (fun _ => 0)))), (q5, .inl (k5, 24, .inl (nF (fun _ => 0)))), (q6, .inl (k6, 24, .inl (zF (fun _ => 0)))), (q7, .inl (k7, 24, .inl (nF (fun _ => 0))))] := hD
  refine lv_aload_n hx hb dX0_init_67 rfl (lv_at hl 0 rfl) ?_
  refine lv_bipush (v := nI 24) hx hb dX0_init_68 (by decide) ?_
  refine va_newa hx hb (atype := .byte) (ty := .byte) (hts _ q82) rfl hK hP hD hS hA (n := nI 24) (N' := 24) (a0 := (24, .inl (zF (fun _ => 0)))) (sw_new0z 24 rfl) (nI_pos (by decide)) (nI_clamp (by decide)) (by decide) (Nat.le_of_ble_eq_true rfl) (Nat.le_of_ble_eq_true rfl) dX0_init_70 (fun q8 k8 H hK hP hD hS => ?_)
  refine W.cs (cells' := 9) (slots' := 232) rfl rfl ?_
  have hK : va_K D vwCl [(k0, .byte), (k1, .byte), (k2, .byte), (k3, .byte), (k4, .int), (k5, .byte), (k6, .byte), (k7, .byte), (k8, .byte)] s := hK
  have hP : va_P D vwCl [(o, .inr (0, [.ref q0, .ref q1, .ref q2, .ref q3, .int (nI 0), .int (nI 0), .int (nI 0), .ref q4, .int (nI 0), .int (nI 0), .int (nI 0), .ref q5, .ref q6, .ref q7, .null, .null, .null])), (q0, .inl (k0, 4, .inl (nF (fun _ => 0)))), (q1, .inl (k1, 24, .inl (nF (fun _ => 0)))), (q2, .inl (k2, 24, .inl (nF (fun _ => 0)))), (q3, .inl (k3, 60, .inl (nF (fun _ => 0)))), (q4, .inl (k4, 24, .inl (nF (fun _ => 0)))), (q5, .inl (k5, 24, .inl (nF (fun _ => 0)))), (q6, .inl (k6, 24, .inl (zF (fun _ => 0)))), (q7, .inl (k7, 24, .inl (nF (fun _ => 0)))), (q8, .inl (k8, 24, .inl (zF (fun _ => 0))))] H := hP
  have hD : va_D A [(o, .inr (0, [.ref q0, .ref q1, .ref q2, .ref q3, .int (nI 0), .int (nI 0), .int (nI 0), .ref q4, .int (nI 0), .int (nI 0), .int (nI 0), .ref q5, .ref q6, .ref q7, .null, .null, .null])), (q0, .inl (k0, 4, .inl (nF (fun _ => 0)))), (q1, .inl (k1, 24, .inl (nF (fun _ => 0)))), (q2, .inl (k2, 24, .inl (nF (fun _ => 0)))), (q3, .inl (k3, 60, .inl (nF (fun _ => 0)))), (q4, .inl (k4, 24, .inl (nF (fun _ => 0)))), (q5, .inl (k5, 24, .inl (nF (fun _ => 0)))), (q6, .inl (k6, 24, .inl (zF (fun _ => 0)))), (q7, .inl (k7, 24, .inl (nF (fun _ => 0)))), (q8, .inl (k8, 24, .inl (zF (fun _ => 0))))] := hD
  refine va_putF (D := D) (ci := 0) (v := .ref q8) (ty := (.array .byte)) (C := RX0) (T := TX0) (N := 17) hx hb hts in_X0 tyX0 tyX0_ok nmX0 hown hK hP hD hS 0 rfl rfl 14 (by decide) (hts _ q44) (fun _ h9 => h9) rfl hin rfl (by decide +kernel) rfl rfl (Nat.le_of_ble_eq_true rfl) dX0_init_72 (fun H locs hP hD hS => ?_)
  have hP : va_P D vwCl [(o, .inr (0, [.ref q0, .ref q1, .ref q2, .ref q3, .int (nI 0), .int (nI 0), .int (nI 0), .ref q4, .int (nI 0), .int (nI 0), .int (nI 0), .ref q5, .ref q6, .ref q7, .ref q8, .null, .null])), (q0, .inl (k0, 4, .inl (nF (fun _ => 0)))), (q1, .inl (k1, 24, .inl (nF (fun _ => 0)))), (q2, .inl (k2, 24, .inl (nF (fun _ => 0)))), (q3, .inl (k3, 60, .inl (nF (fun _ => 0)))), (q4, .inl (k4, 24, .inl (nF (fun _ => 0)))), (q5, .inl (k5, 24, .inl (nF (fun _ => 0)))), (q6, .inl (k6, 24, .inl (zF (fun _ => 0)))), (q7, .inl (k7, 24, .inl (nF (fun _ => 0)))), (q8, .inl (k8, 24, .inl (zF (fun _ => 0))))] H := hP
  have hD : va_D A [(o, .inr (0, [.ref q0, .ref q1, .ref q2, .ref q3, .int (nI 0), .int (nI 0), .int (nI 0), .ref q4, .int (nI 0), .int (nI 0), .int (nI 0), .ref q5, .ref q6, .ref q7, .ref q8, .null, .null])), (q0, .inl (k0, 4, .inl (nF (fun _ => 0)))), (q1, .inl (k1, 24, .inl (nF (fun _ => 0)))), (q2, .inl (k2, 24, .inl (nF (fun _ => 0)))), (q3, .inl (k3, 60, .inl (nF (fun _ => 0)))), (q4, .inl (k4, 24, .inl (nF (fun _ => 0)))), (q5, .inl (k5, 24, .inl (nF (fun _ => 0)))), (q6, .inl (k6, 24, .inl (zF (fun _ => 0)))), (q7, .inl (k7, 24, .inl (nF (fun _ => 0)))), (q8, .inl (k8, 24, .inl (zF (fun _ => 0))))] := hD
  refine lv_aload_n hx hb dX0_init_75 rfl (lv_at hl 0 rfl) ?_
  refine lv_sipush (v := nI 240) hx hb dX0_init_76 (by decide) ?_
  refine va_newa hx hb (atype := .byte) (ty := .byte) (hts _ q82) rfl hK hP hD hS hA (n := nI 240) (N' := 240) (a0 := (240, .inl (zF (fun _ => 0)))) (sw_new0z 240 rfl) (nI_pos (by decide)) (nI_clamp (by decide)) (by decide) (Nat.le_of_ble_eq_true rfl) (Nat.le_of_ble_eq_true rfl) dX0_init_79 (fun q9 k9 H hK hP hD hS => ?_)
  refine W.cs (cells' := 10) (slots' := 472) rfl rfl ?_
  have hK : va_K D vwCl [(k0, .byte), (k1, .byte), (k2, .byte), (k3, .byte), (k4, .int), (k5, .byte), (k6, .byte), (k7, .byte), (k8, .byte), (k9, .byte)] s := hK
  have hP : va_P D vwCl [(o, .inr (0, [.ref q0, .ref q1, .ref q2, .ref q3, .int (nI 0), .int (nI 0), .int (nI 0), .ref q4, .int (nI 0), .int (nI 0), .int (nI 0), .ref q5, .ref q6, .ref q7, .ref q8, .null, .null])), (q0, .inl (k0, 4, .inl (nF (fun _ => 0)))), (q1, .inl (k1, 24, .inl (nF (fun _ => 0)))), (q2, .inl (k2, 24, .inl (nF (fun _ => 0)))), (q3, .inl (k3, 60, .inl (nF (fun _ => 0)))), (q4, .inl (k4, 24, .inl (nF (fun _ => 0)))), (q5, .inl (k5, 24, .inl (nF (fun _ => 0)))), (q6, .inl (k6, 24, .inl (zF (fun _ => 0)))), (q7, .inl (k7, 24, .inl (nF (fun _ => 0)))), (q8, .inl (k8, 24, .inl (zF (fun _ => 0)))), (q9, .inl (k9, 240, .inl (zF (fun _ => 0))))] H := hP
  have hD : va_D A [(o, .inr (0, [.ref q0, .ref q1, .ref q2, .ref q3, .int (nI 0), .int (nI 0), .int (nI 0), .ref q4, .int (nI 0), .int (nI 0), .int (nI 0), .ref q5, .ref q6, .ref q7, .ref q8, .null, .null])), (q0, .inl (k0, 4, .inl (nF (fun _ => 0)))), (q1, .inl (k1, 24, .inl (nF (fun _ => 0)))), (q2, .inl (k2, 24, .inl (nF (fun _ => 0)))), (q3, .inl (k3, 60, .inl (nF (fun _ => 0)))), (q4, .inl (k4, 24, .inl (nF (fun _ => 0)))), (q5, .inl (k5, 24, .inl (nF (fun _ => 0)))), (q6, .inl (k6, 24, .inl (zF (fun _ => 0)))), (q7, .inl (k7, 24, .inl (nF (fun _ => 0)))), (q8, .inl (k8, 24, .inl (zF (fun _ => 0)))), (q9, .inl (k9, 240, .inl (zF (fun _ => 0))))] := hD
  refine va_putF (D := D) (ci := 0) (v := .ref q9) (ty := (.array .byte)) (C := RX0) (T := TX0) (N := 17) hx hb hts in_X0 tyX0 tyX0_ok nmX0 hown hK hP hD hS 0 rfl rfl 15 (by decide) (hts _ q45) (fun _ h9 => h9) rfl hin rfl (by decide +kernel) rfl rfl (Nat.le_of_ble_eq_true rfl) dX0_init_81 (fun H locs hP hD hS => ?_)
  have hP : va_P D vwCl [(o, .inr (0, [.ref q0, .ref q1, .ref q2, .ref q3, .int (nI 0), .int (nI 0), .int (nI 0), .ref q4, .int (nI 0), .int (nI 0), .int (nI 0), .ref q5, .ref q6, .ref q7, .ref q8, .ref q9, .null])), (q0, .inl (k0, 4, .inl (nF (fun _ => 0)))), (q1, .inl (k1, 24, .inl (nF (fun _ => 0)))), (q2, .inl (k2, 24, .inl (nF (fun _ => 0)))), (q3, .inl (k3, 60, .inl (nF (fun _ => 0)))), (q4, .inl (k4, 24, .inl (nF (fun _ => 0)))), (q5, .inl (k5, 24, .inl (nF (fun _ => 0)))), (q6, .inl (k6, 24, .inl (zF (fun _ => 0)))), (q7, .inl (k7, 24, .inl (nF (fun _ => 0)))), (q8, .inl (k8, 24, .inl (zF (fun _ => 0)))), (q9, .inl (k9, 240, .inl (zF (fun _ => 0))))] H := hP
  have hD : va_D A [(o, .inr (0, [.ref q0, .ref q1, .ref q2, .ref q3, .int (nI 0), .int (nI 0), .int (nI 0), .ref q4, .int (nI 0), .int (nI 0), .int (nI 0), .ref q5, .ref q6, .ref q7, .ref q8, .ref q9, .null])), (q0, .inl (k0, 4, .inl (nF (fun _ => 0)))), (q1, .inl (k1, 24, .inl (nF (fun _ => 0)))), (q2, .inl (k2, 24, .inl (nF (fun _ => 0)))), (q3, .inl (k3, 60, .inl (nF (fun _ => 0)))), (q4, .inl (k4, 24, .inl (nF (fun _ => 0)))), (q5, .inl (k5, 24, .inl (nF (fun _ => 0)))), (q6, .inl (k6, 24, .inl (zF (fun _ => 0)))), (q7, .inl (k7, 24, .inl (nF (fun _ => 0)))), (q8, .inl (k8, 24, .inl (zF (fun _ => 0)))), (q9, .inl (k9, 240, .inl (zF (fun _ => 0))))] := hD
  refine lv_aload_n hx hb dX0_init_84 rfl (lv_at hl 0 rfl) ?_
  refine lv_sipush (v := nI 240) hx hb dX0_init_85 (by decide) ?_
  refine va_newa hx hb (atype := .byte) (ty := .byte) (hts _ q82) rfl hK hP hD hS hA (n := nI 240) (N' := 240) (a0 := (240, .inl (zF (fun _ => 0)))) (sw_new0z 240 rfl) (nI_pos (by decide)) (nI_clamp (by decide)) (by decide) (Nat.le_of_ble_eq_true rfl) (Nat.le_of_ble_eq_true rfl) dX0_init_88 (fun q10 k10 H hK hP hD hS => ?_)
  refine W.cs (cells' := 11) (slots' := 712) rfl rfl ?_
  have hK : va_K D vwCl [(k0, .byte), (k1, .byte), (k2, .byte), (k3, .byte), (k4, .int), (k5, .byte), (k6, .byte), (k7, .byte), (k8, .byte), (k9, .byte), (k10, .byte)] s := hK
  have hP : va_P D vwCl [(o, .inr (0, [.ref q0, .ref q1, .ref q2, .ref q3, .int (nI 0), .int (nI 0), .int (nI 0), .ref q4, .int (nI 0), .int (nI 0), .int (nI 0), .ref q5, .ref q6, .ref q7, .ref q8, .ref q9, .null])), (q0, .inl (k0, 4, .inl (nF (fun _ => 0)))), (q1, .inl (k1, 24, .inl (nF (fun _ => 0)))), (q2, .inl (k2, 24, .inl (nF (fun _ => 0)))), (q3, .inl (k3, 60, .inl (nF (fun _ => 0)))), (q4, .inl (k4, 24, .inl (nF (fun _ => 0)))), (q5, .inl (k5, 24, .inl (nF (fun _ => 0)))), (q6, .inl (k6, 24, .inl (zF (fun _ => 0)))), (q7, .inl (k7, 24, .inl (nF (fun _ => 0)))), (q8, .inl (k8, 24, .inl (zF (fun _ => 0)))), (q9, .inl (k9, 240, .inl (zF (fun _ => 0)))), (q10, .inl (k10, 240, .inl (zF (fun _ => 0))))] H := hP
  have hD : va_D A [(o, .inr (0, [.ref q0, .ref q1, .ref q2, .ref q3, .int (nI 0), .int (nI 0), .int (nI 0), .ref q4, .int (nI 0), .int (nI 0), .int (nI 0), .ref q5, .ref q6, .ref q7, .ref q8, .ref q9, .null])), (q0, .inl (k0, 4, .inl (nF (fun _ => 0)))), (q1, .inl (k1, 24, .inl (nF (fun _ => 0)))), (q2, .inl (k2, 24, .inl (nF (fun _ => 0)))), (q3, .inl (k3, 60, .inl (nF (fun _ => 0)))), (q4, .inl (k4, 24, .inl (nF (fun _ => 0)))), (q5, .inl (k5, 24, .inl (nF (fun _ => 0)))), (q6, .inl (k6, 24, .inl (zF (fun _ => 0)))), (q7, .inl (k7, 24, .inl (nF (fun _ => 0)))), (q8, .inl (k8, 24, .inl (zF (fun _ => 0)))), (q9, .inl (k9, 240, .inl (zF (fun _ => 0)))), (q10, .inl (k10, 240, .inl (zF (fun _ => 0))))] := hD
  refine va_putF (D := D) (ci := 0) (v := .ref q10) (ty := (.array .byte)) (C := RX0) (T := TX0) (N := 17) hx hb hts in_X0 tyX0 tyX0_ok nmX0 hown hK hP hD hS 0 rfl rfl 16 (by decide) (hts _ q46) (fun _ h9 => h9) rfl hin rfl (by decide +kernel) rfl rfl (Nat.le_of_ble_eq_true rfl) dX0_init_90 (fun H locs hP hD hS => ?_)
  have hP : va_P D vwCl [(o, .inr (0, [.ref q0, .ref q1, .ref q2, .ref q3, .int (nI 0), .int (nI 0), .int (nI 0), .ref q4, .int (nI 0), .int (nI 0), .int (nI 0), .ref q5, .ref q6, .ref q7, .ref q8, .ref q9, .ref q10])), (q0, .inl (k0, 4, .inl (nF (fun _ => 0)))), (q1, .inl (k1, 24, .inl (nF (fun _ => 0)))), (q2, .inl (k2, 24, .inl (nF (fun _ => 0)))), (q3, .inl (k3, 60, .inl (nF (fun _ => 0)))), (q4, .inl (k4, 24, .inl (nF (fun _ => 0)))), (q5, .inl (k5, 24, .inl (nF (fun _ => 0)))), (q6, .inl (k6, 24, .inl (zF (fun _ => 0)))), (q7, .inl (k7, 24, .inl (nF (fun _ => 0)))), (q8, .inl (k8, 24, .inl (zF (fun _ => 0)))), (q9, .inl (k9, 240, .inl (zF (fun _ => 0)))), (q10, .inl (k10, 240, .inl (zF (fun _ => 0))))] H := hP
  have hD : va_D A [(o, .inr (0, [.ref q0, .ref q1, .ref q2, .ref q3, .int (nI 0), .int (nI 0), .int (nI 0), .ref q4, .int (nI 0), .int (nI 0), .int (nI 0), .ref q5, .ref q6, .ref q7, .ref q8, .ref q9, .ref q10])), (q0, .inl (k0, 4, .inl (nF (fun _ => 0)))), (q1, .inl (k1, 24, .inl (nF (fun _ => 0)))), (q2, .inl (k2, 24, .inl (nF (fun _ => 0)))), (q3, .inl (k3, 60, .inl (nF (fun _ => 0)))), (q4, .inl (k4, 24, .inl (nF (fun _ => 0)))), (q5, .inl (k5, 24, .inl (nF (fun _ => 0)))), (q6, .inl (k6, 24, .inl (zF (fun _ => 0)))), (q7, .inl (k7, 24, .inl (nF (fun _ => 0)))), (q8, .inl (k8, 24, .inl (zF (fun _ => 0)))), (q9, .inl (k9, 240, .inl (zF (fun _ => 0)))), (q10, .inl (k10, 240, .inl (zF (fun _ => 0))))] := hD
  have hP9 : va_P D vwCl (wX o (sw_at11 q0 q1 q2 q3 q4 q5 q6 q7 q8 q9 q10) (sw_at11 k0 k1 k2 k3 k4 k5 k6 k7 k8 k9 k10) (fun _ => 0) (fun _ => 0) (fun _ => 0) (fun _ => 0) 0 0 0 (fun _ => 0) 0 0 0 (fun _ => 0) (fun _ => 0) (fun _ => 0) (fun _ => 0) (fun _ => 0) (fun _ => 0)) H := hP
  have hD9 : va_D A (wX o (sw_at11 q0 q1 q2 q3 q4 q5 q6 q7 q8 q9 q10) (sw_at11 k0 k1 k2 k3 k4 k5 k6 k7 k8 k9 k10) (fun _ => 0) (fun _ => 0) (fun _ => 0) (fun _ => 0) 0 0 0 (fun _ => 0) 0 0 0 (fun _ => 0) (fun _ => 0) (fun _ => 0) (fun _ => 0) (fun _ => 0) (fun _ => 0)) := hD
  have hK9 : va_K D vwCl (tyX (sw_at11 k0 k1 k2 k3 k4 k5 k6 k7 k8 k9 k10)) s := hK
  exact W.vret hx hb hr (fun t ht hW => ⟨⟨(sw_at11 q0 q1 q2 q3 q4 q5 q6 q7 q8 q9 q10, sw_at11 k0 k1 k2 k3 k4 k5 k6 k7 k8 k9 k10), rfl, trivial, by rw [ht]; exact hP9, va_K.moved hW.alike hK9, hD9⟩, hS.F ht⟩) hS.2.2 dX0_init_93
def sw_at6 {α : Type} (x0 x1 x2 x3 x4 x5 : α) : Nat → α := fun i => match i with
  | 0 => x0
  | 1 => x1
  | 2 => x2
  | 3 => x3
  | 4 => x4
  | _ => x5
/-- the new object, before its constructor -/
abbrev w0X1 (o : Nat) : va_W := [(o, .inr (1, [.null, .null, .null, .int (nI 0), .null, .null, .null]))]
set_option maxHeartbeats 4000000 in
set_option maxRecDepth 100000 in
theorem mX1_init (l : Launch) {D : va_G} {o : Nat} (sz : Nat) : Met l yX1_init (ws_ yX1_init cX1_init 1 none) ({ frames := 1, cells := 6, slots := 237, locals := 12 }) (sw_M D vwCl (w0X1 o) [] sz [.ref o]) (va_Qv (fun _ : (Nat → Nat) × (Nat → ClassId) => True) (fun u t => va_P D vwCl (wM o u.1 u.2 (fun _ => 0) (fun _ => 0) (fun _ => 0) 0 (fun _ => 0) (fun _ => 0) (fun _ => 0)) t.heap ∧ va_K D vwCl (tyM u.2) t ∧ va_D (va_A (w0X1 o) sz) (wM o u.1 u.2 (fun _ => 0) (fun _ => 0) (fun _ => 0) 0 (fun _ => 0) (fun _ => 0) (fun _ => 0))) (va_A (w0X1 o) sz)) 6 237 (va_A (w0X1 o) sz) := by
  refine Met.ofW (cc := cX1_init) (maxL := 1) (ret := none) (by decide) rfl ?_
  intro p e s m args below meth c s₁ B hml hv
  obtain ⟨rfl, hsz, hP, hK, hD0⟩ := hv
  have hx := B.exec
  have hb := B.bytes
  have hr := B.returns
  have hts := atoms_spec (ws := ws_ yX1_init cX1_init 1 none) B.pre
  have hts : ∀ w ∈ lw_all, w.before _ s = true := fun w h => hts w (List.mem_cons_of_mem _ h)
  have hown : s.vm.findClass RX1 = some m.cls := findClass_of_methodNamed B.named
  have hlocks := B.notSynchronized
  have hin : meth.name = "<init>" := (name_of_methodNamed B.named B.method).1
  subst hsz
  have hD := hD0.self (sz := s.heap.size)
  generalize hAe : va_A (w0X1 o) s.heap.size = A at hD ⊢
  have hA : ∀ q : Nat, s.heap.size ≤ q → A q := fun q h => by rw [← hAe]; exact Or.inr h
  have hS : va_S A s.heap s.heap [] := va_S.rf
  have hl := lv_entry ([.ref o]) (n := 1) (Nat.le_of_ble_eq_true rfl)
  rw [lg_entry_eq]
  generalize (lg_sl ([.ref o]) ++ List.replicate (1 - (lg_sl ([.ref o])).length) Slot.unset).toArray = ls at hl ⊢
  have hl : lv_has ls 1 [(0, .ref o)] := hl
  refine lv_aload_n hx hb dX1_init_0 rfl (lv_at hl 0 rfl) ?_
  refine W.objInit hx hb hown (hts _ q206) (hts _ q28) (hts _ q29) rfl (by rw [hml]; exact hl.1) rfl dX1_init_1 (Nat.le_of_ble_eq_true rfl) (Nat.le_of_ble_eq_true rfl) ?_
  refine W.eq (g2 := F0 m 4 ls []) rfl ?_
  refine lv_aload_n hx hb dX1_init_4 rfl (lv_at hl 0 rfl) ?_
  refine lv_iconst (v := nI 4) hx hb dX1_init_5 (by decide) ?_
  refine va_newa hx hb (atype := .int) (ty := .int) (hts _ q83) rfl hK hP hD hS hA (n := nI 4) (N' := 4) (a0 := (4, .inl (nF (fun _ => 0)))) (sw_new0 4 rfl) (nI_pos (by decide)) (nI_clamp (by decide)) (by decide) (Nat.le_of_ble_eq_true rfl) (Nat.le_of_ble_eq_true rfl) dX1_init_6 (fun q0 k0 H hK hP hD hS => ?_)
  refine W.cs (cells' := 1) (slots' := 4) rfl rfl ?_
  have hK : va_K D vwCl [(k0, .int)] s := hK
  have hP : va_P D vwCl [(o, .inr (1, [.null, .null, .null, .int (nI 0), .null, .null, .null])), (q0, .inl (k0, 4, .inl (nF (fun _ => 0))))] H := hP
  have hD : va_D A [(o, .inr (1, [.null, .null, .null, .int (nI 0), .null, .null, .null])), (q0, .inl (k0, 4, .inl (nF (fun _ => 0))))] := hD
  refine va_put (D := D) (ci := 1) (v := .ref q0) (ty := (.array .int)) (C := RX1) (T := TX1) (N := 7) hx hb hts in_X1 tyX1 tyX1_ok nmX1 hown hK hP hD hS 0 rfl rfl 0 (by decide) (hts _ q207) (fun _ h9 => h9) rfl (by decide +kernel) rfl rfl (Nat.le_of_ble_eq_true rfl) dX1_init_8 (fun H locs hP hD hS => ?_)
  have hP : va_P D vwCl [(o, .inr (1, [.ref q0, .null, .null, .int (nI 0), .null, .null, .null])), (q0, .inl (k0, 4, .inl (nF (fun _ => 0))))] H := hP
  have hD : va_D A [(o, .inr (1, [.ref q0, .null, .null, .int (nI 0), .null, .null, .null])), (q0, .inl (k0, 4, .inl (nF (fun _ => 0))))] := hD
  refine lv_aload_n hx hb dX1_init_11 rfl (lv_at hl 0 rfl) ?_
  refine lv_bipush (v := nI 24) hx hb dX1_init_12 (by decide) ?_
  refine va_newa hx hb (atype := .int) (ty := .int) (hts _ q83) rfl hK hP hD hS hA (n := nI 24) (N' := 24) (a0 := (24, .inl (nF (fun _ => 0)))) (sw_new0 24 rfl) (nI_pos (by decide)) (nI_clamp (by decide)) (by decide) (Nat.le_of_ble_eq_true rfl) (Nat.le_of_ble_eq_true rfl) dX1_init_14 (fun q1 k1 H hK hP hD hS => ?_)
  refine W.cs (cells' := 2) (slots' := 28) rfl rfl ?_
  have hK : va_K D vwCl [(k0, .int), (k1, .int)] s := hK
  have hP : va_P D vwCl [(o, .inr (1, [.ref q0, .null, .null, .int (nI 0), .null, .null, .null])), (q0, .inl (k0, 4, .inl (nF (fun _ => 0)))), (q1, .inl (k1, 24, .inl (nF (fun _ => 0))))] H := hP
  have hD : va_D A [(o, .inr (1, [.ref q0, .null, .null, .int (nI 0), .null, .null, .null])), (q0, .inl (k0, 4, .inl (nF (fun _ => 0)))), (q1, .inl (k1, 24, .inl (nF (fun _ => 0))))] := hD
  refine va_put (D := D) (ci := 1) (v := .ref q1) (ty := (.array .int)) (C := RX1) (T := TX1) (N := 7) hx hb hts in_X1 tyX1 tyX1_ok nmX1 hown hK hP hD hS 0 rfl rfl 1 (by decide) (hts _ q208) (fun _ h9 => h9) rfl (by decide +kernel) rfl rfl (Nat.le_of_ble_eq_true rfl) dX1_init_16 (fun H locs hP hD hS => ?_)
  have hP : va_P D vwCl [(o, .inr (1, [.ref q0, .ref q1, .null, .int (nI 0), .null, .null, .null])), (q0, .inl (k0, 4, .inl (nF (fun _ => 0)))), (q1, .inl (k1, 24, .inl (nF (fun _ => 0))))] H := hP
  have hD : va_D A [(o, .inr (1, [.ref q0, .ref q1, .null, .int (nI 0), .null, .null, .null])), (q0, .inl (k0, 4, .inl (nF (fun _ => 0)))), (q1, .inl (k1, 24, .inl (nF (fun _ => 0))))] := hD
  refine lv_aload_n hx hb dX1_init_19 rfl (lv_at hl 0 rfl) ?_
  refine lv_bipush (v := nI 24) hx hb dX1_init_20 (by decide) ?_
  refine va_newa hx hb (atype := .int) (ty := .int) (hts _ q83) rfl hK hP hD hS hA (n := nI 24) (N' := 24) (a0 := (24, .inl (nF (fun _ => 0)))) (sw_new0 24 rfl) (nI_pos (by decide)) (nI_clamp (by decide)) (by decide) (Nat.le_of_ble_eq_true rfl) (Nat.le_of_ble_eq_true rfl) dX1_init_22 (fun q2 k2 H hK hP hD hS => ?_)
  refine W.cs (cells' := 3) (slots' := 52) rfl rfl ?_
  have hK : va_K D vwCl [(k0, .int), (k1, .int), (k2, .int)] s := hK
  have hP : va_P D vwCl [(o, .inr (1, [.ref q0, .ref q1, .null, .int (nI 0), .null, .null, .null])), (q0, .inl (k0, 4, .inl (nF (fun _ => 0)))), (q1, .inl (k1, 24, .inl (nF (fun _ => 0)))), (q2, .inl (k2, 24, .inl (nF (fun _ => 0))))] H := hP
  have hD : va_D A [(o, .inr (1, [.ref q0, .ref q1, .null, .int (nI 0), .null, .null, .null])), (q0, .inl (k0, 4, .inl (nF (fun _ => 0)))), (q1, .inl (k1, 24, .inl (nF (fun _ => 0)))), (q2, .inl (k2, 24, .inl (nF (fun _ => 0))))] := hD
  refine va_put (D := D) (ci := 1) (v := .ref q2) (ty := (.array .int)) (C := RX1) (T := TX1) (N := 7) hx hb hts in_X1 tyX1 tyX1_ok nmX1 hown hK hP hD hS 0 rfl rfl 2 (by decide) (hts _ q209) (fun _ h9 => h9) rfl (by decide +kernel) rfl rfl (Nat.le_of_ble_eq_true rfl) dX1_init_24 (fun H locs hP hD hS => ?_)
  have hP : va_P D vwCl [(o, .inr (1, [.ref q0, .ref q1, .ref q2, .int (nI 0), .null, .null, .null])), (q0, .inl (k0, 4, .inl (nF (fun _ => 0)))), (q1, .inl (k1, 24, .inl (nF (fun _ => 0)))), (q2, .inl (k2, 24, .inl (nF (fun _ => 0))))] H := hP
  have hD : va_D A [(o, .inr (1, [.ref q0, .ref q1, .ref q2, .int (nI 0), .null, .null, .null])), (q0, .inl (k0, 4, .inl (nF (fun _ => 0)))), (q1, .inl (k1, 24, .inl (nF (fun _ => 0)))), (q2, .inl (k2, 24, .inl (nF (fun _ => 0))))] := hD
  refine lv_aload_n hx hb dX1_init_27 rfl (lv_at hl 0 rfl) ?_
  refine lv_bipush (v := nI 61) hx hb dX1_init_28 (by decide) ?_
  refine va_newa hx hb (atype := .int) (ty := .int) (hts _ q83) rfl hK hP hD hS hA (n := nI 61) (N' := 61) (a0 := (61, .inl (nF (fun _ => 0)))) (sw_new0 61 rfl) (nI_pos (by decide)) (nI_clamp (by decide)) (by decide) (Nat.le_of_ble_eq_true rfl) (Nat.le_of_ble_eq_true rfl) dX1_init_30 (fun q3 k3 H hK hP hD hS => ?_)
  refine W.cs (cells' := 4) (slots' := 113) rfl rfl ?_
  have hK : va_K D vwCl [(k0, .int), (k1, .int), (k2, .int), (k3, .int)] s := hK
  have hP : va_P D vwCl [(o, .inr (1, [.ref q0, .ref q1, .ref q2, .int (nI 0), .null, .null, .null])), (q0, .inl (k0, 4, .inl (nF (fun _ => 0)))), (q1, .inl (k1, 24, .inl (nF (fun _ => 0)))), (q2, .inl (k2, 24, .inl (nF (fun _ => 0)))), (q3, .inl (k3, 61, .inl (nF (fun _ => 0))))] H := hP
  have hD : va_D A [(o, .inr (1, [.ref q0, .ref q1, .ref q2, .int (nI 0), .null, .null, .null])), (q0, .inl (k0, 4, .inl (nF (fun _ => 0)))), (q1, .inl (k1, 24, .inl (nF (fun _ => 0)))), (q2, .inl (k2, 24, .inl (nF (fun _ => 0)))), (q3, .inl (k3, 61, .inl (nF (fun _ => 0))))] := hD
  refine va_put (D := D) (ci := 1) (v := .ref q3) (ty := (.array .int)) (C := RX1) (T := TX1) (N := 7) hx hb hts in_X1 tyX1 tyX1_ok nmX1 hown hK hP hD hS 0 rfl rfl 4 (by decide) (hts _ q211) (fun _ h9 => h9) rfl (by decide +kernel) rfl rfl (Nat.le_of_ble_eq_true rfl) dX1_init_32 (fun H locs hP hD hS => ?_)
  have hP : va_P D vwCl [(o, .inr (1, [.ref q0, .ref q1, .ref q2, .int (nI 0), .ref q3, .null, .null])), (q0, .inl (k0, 4, .inl (nF (fun _ => 0)))), (q1, .inl (k1, 24, .inl (nF (fun _ => 0)))), (q2, .inl (k2, 24, .inl (nF (fun _ => 0)))), (q3, .inl (k3, 61, .inl (nF (fun _ => 0))))] H := hP
  have hD : va_D A [(o, .inr (1, [.ref q0, .ref q1, .ref q2, .int (nI 0), .ref q3, .null, .null])), (q0, .inl (k0, 4, .inl (nF (fun _ => 0)))), (q1, .inl (k1, 24, .inl (nF (fun _ => 0)))), (q2, .inl (k2, 24, .inl (nF (fun _ => 0)))), (q3, .inl (k3, 61, .inl (nF (fun _ => 0))))] := hD
  refine lv_aload_n hx hb dX1_init_35 rfl (lv_at hl 0 rfl) ?_
  refine lv_bipush (v := nI 62) hx hb dX1_init_36 (by decide) ?_
  refine va_newa hx hb (atype := .boolean) (ty := .boolean) (hts _ q229) rfl hK hP hD hS hA (n := nI 62) (N' := 62) (a0 := (62, .inl (nF (fun _ => 0)))) (sw_new0 62 rfl) (nI_pos (by decide)) (nI_clamp (by decide)) (by decide) (Nat.le_of_ble_eq_true rfl) (Nat.le_of_ble_eq_true rfl) dX1_init_38 (fun q4 k4 H hK hP hD hS => ?_)
  refine W.cs (cells' := 5) (slots' := 175) rfl rfl ?_
  have hK : va_K D vwCl [(k0, .int), (k1, .int), (k2, .int), (k3, .int), (k4, .boolean)] s := hK
  have hP : va_P D vwCl [(o, .inr (1, [.ref q0, .ref q1, .ref q2, .int (nI 0), .ref q3, .null, .null])), (q0, .inl (k0, 4, .inl (nF (fun _ => 0)))), (q1, .inl (k1, 24, .inl (nF (fun _ => 0)))), (q2, .inl (k2, 24, .inl (nF (fun _ => 0)))), (q3, .inl (k3, 61, .inl (nF (fun _ => 0)))), (q4, .inl (k4, 62, .inl (nF (fun _ => 0))))] H := hP
  have hD : va_D A [(o, .inr (1, [.ref q0, .ref q1, .ref q2, .int (nI 0), .ref q3, .null, .null])), (q0, .inl (k0, 4, .inl (nF (fun _ => 0)))), (q1, .inl (k1, 24, .inl (nF (fun _ => 0)))), (q2, .inl (k2, 24, .inl (nF (fun _ => 0)))), (q3, .inl (k3, 61, .inl (nF (fun _ => 0)))), (q4, .inl (k4, 62, .inl (nF (fun _ => 0))))] := hD
  refine va_put (D := D) (ci := 1) (v := .ref q4) (ty := (.array .boolean)) (C := RX1) (T := TX1) (N := 7) hx hb hts in_X1 tyX1 tyX1_ok nmX1 hown hK hP hD hS 0 rfl rfl 5 (by decide) (hts _ q212) (fun _ h9 => h9) rfl (by decide +kernel) rfl rfl (Nat.le_of_ble_eq_true rfl) dX1_init_40 (fun H locs hP hD hS => ?_)
  have hP : va_P D vwCl [(o, .inr (1, [.ref q0, .ref q1, .ref q2, .int (nI 0), .ref q3, .ref q4, .null])), (q0, .inl (k0, 4, .inl (nF (fun _ => 0)))), (q1, .inl (k1, 24, .inl (nF (fun _ => 0)))), (q2, .inl (k2, 24, .inl (nF (fun _ => 0)))), (q3, .inl (k3, 61, .inl (nF (fun _ => 0)))), (q4, .inl (k4, 62, .inl (nF (fun _ => 0))))] H := hP
  have hD : va_D A [(o, .inr (1, [.ref q0, .ref q1, .ref q2, .int (nI 0), .ref q3, .ref q4, .null])), (q0, .inl (k0, 4, .inl (nF (fun _ => 0)))), (q1, .inl (k1, 24, .inl (nF (fun _ => 0)))), (q2, .inl (k2, 24, .inl (nF (fun _ => 0)))), (q3, .inl (k3, 61, .inl (nF (fun _ => 0)))), (q4, .inl (k4, 62, .inl (nF (fun _ => 0))))] := hD
  refine lv_aload_n hx hb dX1_init_43 rfl (lv_at hl 0 rfl) ?_
  refine lv_bipush (v := nI 62) hx hb dX1_init_44 (by decide) ?_
  refine va_newa hx hb (atype := .boolean) (ty := .boolean) (hts _ q229) rfl hK hP hD hS hA (n := nI 62) (N' := 62) (a0 := (62, .inl (nF (fun _ => 0)))) (sw_new0 62 rfl) (nI_pos (by decide)) (nI_clamp (by decide)) (by decide) (Nat.le_of_ble_eq_true rfl) (Nat.le_of_ble_eq_true rfl) dX1_init_46 (fun q5 k5 H hK hP hD hS => ?_)
  refine W.cs (cells' := 6) (slots' := 237) rfl rfl ?_
  have hK : va_K D vwCl [(k0, .int), (k1, .int), (k2, .int), (k3, .int), (k4, .boolean), (k5, .boolean)] s := hK
  have hP : va_P D vwCl [(o, .inr (1, [.ref q0, .ref q1, .ref q2, .int (nI 0), .ref q3, .ref q4, .null])), (q0, .inl (k0, 4, .inl (nF (fun _ => 0)))), (q1, .inl (k1, 24, .inl (nF (fun _ => 0)))), (q2, .inl (k2, 24, .inl (nF (fun _ => 0)))), (q3, .inl (k3, 61, .inl (nF (fun _ => 0)))), (q4, .inl (k4, 62, .inl (nF (fun _ => 0)))), (q5, .inl (k5, 62, .inl (nF (fun _ => 0))))] H := hP
  have hD : va_D A [(o, .inr (1, [.ref q0, .ref q1, .ref q2, .int (nI 0), .ref q3, .ref q4, .null])), (q0, .inl (k0, 4, .inl (nF (fun _ => 0)))), (q1, .inl (k1, 24, .inl (nF (fun _ => 0)))), (q2, .inl (k2, 24, .inl (nF (fun _ => 0)))), (q3, .inl (k3, 61, .inl (nF (fun _ => 0)))), (q4, .inl (k4, 62, .inl (nF (fun _ => 0)))), (q5, .inl (k5, 62, .inl (nF (fun _ => 0))))] := hD
  refine va_put (D := D) (ci := 1) (v := .ref q5) (ty := (.array .boolean)) (C := RX1) (T := TX1) (N := 7) hx hb hts in_X1 tyX1 tyX1_ok nmX1 hown hK hP hD hS 0 rfl rfl 6 (by decide) (hts _ q213) (fun _ h9 => h9) rfl (by decide +kernel) rfl rfl (Nat.le_of_ble_eq_true rfl) dX1_init_48 (fun H locs hP hD hS => ?_)
  have hP : va_P D vwCl [(o, .inr (1, [.ref q0, .ref q1, .ref q2, .int (nI 0), .ref q3, .ref q4, .ref q5])), (q0, .inl (k0, 4, .inl (nF (fun _ => 0)))), (q1, .inl (k1, 24, .inl (nF (fun _ => 0)))), (q2, .inl (k2, 24, .inl (nF (fun _ => 0)))), (q3, .inl (k3, 61, .inl (nF (fun _ => 0)))), (q4, .inl (k4, 62, .inl (nF (fun _ => 0)))), (q5, .inl (k5, 62, .inl (nF (fun _ => 0))))] H := hP
  have hD : va_D A [(o, .inr (1, [.ref q0, .ref q1, .ref q2, .int (nI 0), .ref q3, .ref q4, .ref q5])), (q0, .inl (k0, 4, .inl (nF (fun _ => 0)))), (q1, .inl (k1, 24, .inl (nF (fun _ => 0)))), (q2, .inl (k2, 24, .inl (nF (fun _ => 0)))), (q3, .inl (k3, 61, .inl (nF (fun _ => 0)))), (q4, .inl (k4, 62, .inl (nF (fun _ => 0)))), (q5, .inl (k5, 62, .inl (nF (fun _ => 0))))] := hD
  have hP9 : va_P D vwCl (wM o (sw_at6 q0 q1 q2 q3 q4 q5) (sw_at6 k0 k1 k2 k3 k4 k5) (fun _ => 0) (fun _ => 0) (fun _ => 0) 0 (fun _ => 0) (fun _ => 0) (fun _ => 0)) H := hP
  have hD9 : va_D A (wM o (sw_at6 q0 q1 q2 q3 q4 q5) (sw_at6 k0 k1 k2 k3 k4 k5) (fun _ => 0) (fun _ => 0) (fun _ => 0) 0 (fun _ => 0) (fun _ => 0) (fun _ => 0)) := hD
  have hK9 : va_K D vwCl (tyM (sw_at6 k0 k1 k2 k3 k4 k5)) s := hK
  exact W.vret hx hb hr (fun t ht hW => ⟨⟨(sw_at6 q0 q1 q2 q3 q4 q5, sw_at6 k0 k1 k2 k3 k4 k5), rfl, trivial, by rw [ht]; exact hP9, va_K.moved hW.alike hK9, hD9⟩, hS.F ht⟩) hS.2.2 dX1_init_51
end
section

/-! THE CLAIM OUT OF ONE WALK OF THE LAW'S BODY. Your part is whole_start (and what it stands on); all else here is the same for every law, but numbers. -/
def R_law : String := "StreamWatcherLaw"
def lw_P (b : Addr) (xs : List Int32) (args : Array Value) (s : State) : Prop := args = #[.ref b] ∧ s.IntsAt b xs ∧ xs.length ≤ 256 ∧ (Jvm.Cond.and given_1 narrow_1).before args s = true
def lw_Q (_ : Array Value) (s : State) (o : Outcome) (t : State) : Prop := o = .returned (some (.int 1)) ∧ Framed s o t [] 600000 7290000
def lw_Z (below : List Frame) (a : Array Value) (s : State) : State → Prop := fun t => ∃ o, t.status = .running ∧ Ended t below o ∧ lw_Q a s o t
/-- the law's own end, with 1 on the stack, nothing written that was there before, its room as the claim has it -/
theorem lw_ret {p : Program} {l : Launch} {e : Env} {s : State} {m : MethodId} {below : List Frame} {meth : Method} {c : Code} {b : Nat} (hx : p.tables.exec = Jvm.exec) (hb : c.code = code) (hr : meth.sig.returnType = ret) (hlocks : meth.locks = false) {pc : Nat} {H : Heap} {ls : Array Slot} (hdg : decode code pc = .ok (.ireturn, 1)) : W p l e room_1 s m #[Value.ref b] below meth c H [] 600000 7290000 (lw_Z below #[Value.ref b] s) (F0 m pc ls [.int 1]) := by
  intro T hT X
  obtain ⟨fs, hret, hrun, hended, hW, hframe⟩ := X.leave (v := some (.int 1)) (hlocks := hlocks) (fun h => by rw [hr] at h; cases h)
  have hmeth' : T.vm.method? m = some meth := X.method'
  refine ⟨T.setFrames fs, ?_, .returned (some (.int 1)), hrun, hended, rfl, ⟨_, rfl⟩, hW, hframe⟩
  jvm_step X.here [X.here.top, hx, hb, hdg, hmeth', hr, ret, narrow_b1]
  (try refine ⟨rfl, ?_⟩); (try refine ⟨rfl, ?_⟩)
  first | (intro acts; rw [hret _ acts rfl rfl rfl]) | rw [hret _ _ rfl rfl rfl]
  exact Steps.refl _
/-- what holds at the law's entry: the machine, the code, the tables' words (any of lw_tbl by 'hts w (by decide +kernel)'), the script of L ints xs at the cell b, what the Statement gives of the start (any of its parts by flat_of_before) -/
def lw_At (p : Program) (s : State) (m : MethodId) (meth : Method) (c : Code) (b L : Nat) (xs : Nat → Int32) : Prop :=
  p.tables.exec = Jvm.exec ∧ c.code = code ∧ meth.sig.returnType = ret ∧ c.maxLocals = 4 ∧ s.vm.findClass R_law = some m.cls ∧ (∀ w ∈ lw_tbl, w.before #[Value.ref b] s = true) ∧ va_X b L xs s s.heap ∧ b < s.heap.size ∧ meth.locks = false ∧ (Jvm.Cond.and given_1 narrow_1).before #[Value.ref b] s = true

/-- what holds between two calls: both objects hold the same patterns and the same stream -/
def sw_Inv (D : va_G) (A : Nat → Prop) (o1 : Nat) (a1 : Nat → Nat) (k1 : Nat → ClassId) (o2 : Nat) (a2 : Nat → Nat) (k2 : Nat → ClassId) (H : Heap) : Prop := ∃ (Sz : Nat → Nat) (St : Nat → Nat) (Ct : Nat → Nat) (T : Nat → Nat) (L : Nat) (lk : Nat) (fp : Nat) (fo : Nat → Nat) (lp : Nat) (dn : Nat) (ac : Nat) (ea : Nat → Nat) (la : Nat → Int) (ne : Nat → Nat) (nl : Nat → Int) (eA : Nat → Int) (lA : Nat → Int) (Tm fi mo : Nat → Nat), sw_Ok Sz St Ct T L ∧ sw_Ca Sz St Ct T L lk fp fo lp dn ac ea la eA lA ∧ (∀ t, Tm t < 4) ∧ (∀ t, t < L → Tm t = T t) ∧ va_P D vwCl (wX o1 a1 k1 Sz St Ct T L lk fp fo lp dn ac ea la ne nl eA lA) H ∧ va_D A (wX o1 a1 k1 Sz St Ct T L lk fp fo lp dn ac ea la ne nl eA lA) ∧ va_P D vwCl (wM o2 a2 k2 Sz St Ct L Tm fi mo) H ∧ va_D A (wM o2 a2 k2 Sz St Ct L Tm fi mo) ∧ sw_dis (wX o1 a1 k1 Sz St Ct T L lk fp fo lp dn ac ea la ne nl eA lA) (wM o2 a2 k2 Sz St Ct L Tm fi mo)
theorem sw_isubZ (a b : Nat) : nI a - nI b = zI ((a : Int) - (b : Int)) := by rw [← zI_n, ← zI_n]; exact (Int32.ofInt_sub _ _).symm
section SWLAW
variable {p : Program} {l : Launch} {e : Env} {s : State} {m : MethodId} {args : Array Value} {below : List Frame} {meth : Method} {c : Code} {H : Heap} {locs : List Loc} {Q : State → Prop} {ls : Array Slot} {A : Nat → Prop} {H0 : Heap} {D : va_G} {o1 : Nat} {a1 : Nat → Nat} {k1 : Nat → ClassId} {o2 : Nat} {a2 : Nat → Nat} {k2 : Nat → ClassId} {b n i : Nat} {xs : Nat → Int32}
set_option maxHeartbeats 4000000 in
set_option maxRecDepth 100000 in
theorem lc_0 (S : CallFix p m c cL_law 4 s args lw_all R_law) (hXs : va_X b n xs s H0) (hbl : b < H0.size) (hbA : ¬ A b) (hn : n ≤ 256) (hi : i + 4 ≤ n) (hA : ∀ q, H0.size ≤ q → A q) (hK1 : va_K D vwCl (tyX k1) s) (hK2 : va_K D vwCl (tyM k2) s) (hI : sw_Inv D A o1 a1 k1 o2 a2 k2 H) (hS : va_S A H0 H locs) (hl : lv_has ls 4 [(0, .ref b), (1, .ref o1), (2, .ref o2), (3, .int (nI i))]) (kk : ∀ (H : Heap) (locs : List Loc), sw_Inv D A o1 a1 k1 o2 a2 k2 H → va_S A H0 H locs → W p l e room_1 s m args below meth c H locs 600000 7290000 Q (F0 m 434 ls [])) : W p l e room_1 s m args below meth c H locs 600000 7290000 Q (F0 m 104 ls []) := by
  have hx := S.1
  have hb := S.2.1
  have hown := S.2.2.2.1
  have hts := S.2.2.2.2
  obtain ⟨Sz, St, Ct, T, L, lk, fp, fo, lp, dn, ac, ea, la, ne, nl, eA, lA, Tm, fi, mo, hO, hCa, hT4, hTT, hPx, hDx, hPm, hDm, hX⟩ := hI
  have hOm : sw_Ok Sz St Ct Tm L := ⟨hO.1, hO.2.1, hO.2.2.1, hT4, hO.2.2.2.2⟩
  obtain ⟨z1, l1, u1, e1⟩ := zI_of (xs (i + 1))
  obtain ⟨z2, l2, u2, e2⟩ := zI_of (xs (i + 2))
  obtain ⟨z3, l3, u3, e3⟩ := zI_of (xs (i + 3))
  refine lv_aload_n hx hb dL_law_104 rfl (lv_at hl 1 rfl) ?_
  refine lv_aload_n hx hb dL_law_105 rfl (lv_at hl 0 rfl) ?_
  refine lv_iload_n hx hb dL_law_106 rfl (lv_at hl 3 rfl) ?_
  refine lv_iconst (v := nI 1) hx hb dL_law_107 (by decide) ?_
  refine sw_add hx hb dL_law_108 ?_
  refine sw_sld hx hb hXs hbl hbA hS (by omega) (by omega) (v := zI z1) e1 dL_law_109 ?_
  refine lv_aload_n hx hb dL_law_110 rfl (lv_at hl 0 rfl) ?_
  refine lv_iload_n hx hb dL_law_111 rfl (lv_at hl 3 rfl) ?_
  refine lv_iconst (v := nI 2) hx hb dL_law_112 (by decide) ?_
  refine sw_add hx hb dL_law_113 ?_
  refine sw_sld hx hb hXs hbl hbA hS (by omega) (by omega) (v := zI z2) e2 dL_law_114 ?_
  refine lv_aload_n hx hb dL_law_115 rfl (lv_at hl 0 rfl) ?_
  refine lv_iload_n hx hb dL_law_116 rfl (lv_at hl 3 rfl) ?_
  refine lv_iconst (v := nI 3) hx hb dL_law_117 (by decide) ?_
  refine sw_add hx hb dL_law_118 ?_
  refine sw_sld hx hb hXs hbl hbA hS (by omega) (by omega) (v := zI z3) e3 dL_law_119 ?_
  refine sw_lcI (As := [.int (zI (z1)), .int (zI (z2)), .int (zI (z3))]) (rest := []) (C := RX0) (ci := 0) (q0 := 0) S (fun sz => mX0_item l l1 u1 l2 u2 l3 u3 hO hCa sz) (cwV 3 hts (lw_V q84 q85 q86 q20 q87) rfl rfl rfl (by decide +kernel) ⟨Nat.le_of_ble_eq_true rfl, Nat.le_of_ble_eq_true rfl⟩) hK1 hPx hDx hPm hX hS hA rfl rfl rfl rfl hl.1 rfl (Nat.le_of_ble_eq_true rfl) dL_law_120 ⟨Nat.le_refl _, Nat.le_refl _⟩ (fun r1 u H locs hr1 hPx hDx hPm hX hS => ?_)
  obtain ⟨Sz1, St1, Ct1, lk1, dn1, ac1⟩ := u
  have hr1 : sw_itm z1 z2 z3 Sz St Ct r1 Sz1 St1 Ct1 ∧ sw_Ca Sz1 St1 Ct1 T L lk1 fp fo lp dn1 ac1 ea la eA lA := hr1
  have hPx : va_P D vwCl (wX o1 a1 k1 Sz1 St1 Ct1 T L lk1 fp fo lp dn1 ac1 ea la ne nl eA lA) H := hPx
  have hDx : va_D A (wX o1 a1 k1 Sz1 St1 Ct1 T L lk1 fp fo lp dn1 ac1 ea la ne nl eA lA) := hDx
  have hPm : va_P D vwCl (wM o2 a2 k2 Sz St Ct L Tm fi mo) H := hPm
  have hDm : va_D A (wM o2 a2 k2 Sz St Ct L Tm fi mo) := hDm
  have hX : sw_dis (wX o1 a1 k1 Sz1 St1 Ct1 T L lk1 fp fo lp dn1 ac1 ea la ne nl eA lA) (wM o2 a2 k2 Sz St Ct L Tm fi mo) := hX
  refine lv_aload_n hx hb dL_law_123 rfl (lv_at hl 2 rfl) ?_
  refine lv_aload_n hx hb dL_law_124 rfl (lv_at hl 0 rfl) ?_
  refine lv_iload_n hx hb dL_law_125 rfl (lv_at hl 3 rfl) ?_
  refine lv_iconst (v := nI 1) hx hb dL_law_126 (by decide) ?_
  refine sw_add hx hb dL_law_127 ?_
  refine sw_sld hx hb hXs hbl hbA hS (by omega) (by omega) (v := zI z1) e1 dL_law_128 ?_
  refine lv_aload_n hx hb dL_law_129 rfl (lv_at hl 0 rfl) ?_
  refine lv_iload_n hx hb dL_law_130 rfl (lv_at hl 3 rfl) ?_
  refine lv_iconst (v := nI 2) hx hb dL_law_131 (by decide) ?_
  refine sw_add hx hb dL_law_132 ?_
  refine sw_sld hx hb hXs hbl hbA hS (by omega) (by omega) (v := zI z2) e2 dL_law_133 ?_
  refine lv_aload_n hx hb dL_law_134 rfl (lv_at hl 0 rfl) ?_
  refine lv_iload_n hx hb dL_law_135 rfl (lv_at hl 3 rfl) ?_
  refine lv_iconst (v := nI 3) hx hb dL_law_136 (by decide) ?_
  refine sw_add hx hb dL_law_137 ?_
  refine sw_sld hx hb hXs hbl hbA hS (by omega) (by omega) (v := zI z3) e3 dL_law_138 ?_
  refine sw_lcI (As := [.int (zI (z1)), .int (zI (z2)), .int (zI (z3))]) (rest := [.int (r1)]) (C := RX1) (ci := 1) (q0 := 0) S (fun sz => mX1_item l l1 u1 l2 u2 l3 u3 hOm sz) (cwV 3 hts (lw_V q230 q231 q232 q21 q233) rfl rfl rfl (by decide +kernel) ⟨Nat.le_of_ble_eq_true rfl, Nat.le_of_ble_eq_true rfl⟩) hK2 hPm hDm hPx hX.symm hS hA rfl rfl rfl rfl hl.1 rfl (Nat.le_of_ble_eq_true rfl) dL_law_139 ⟨Nat.le_refl _, Nat.le_refl _⟩ (fun r2 u H locs hr2 hPm hDm hPx hX hS => ?_)
  obtain ⟨Sz2, St2, Ct2⟩ := u
  have hX := hX.symm
  have hr2 : sw_itm z1 z2 z3 Sz St Ct r2 Sz2 St2 Ct2 := hr2
  have hPx : va_P D vwCl (wX o1 a1 k1 Sz1 St1 Ct1 T L lk1 fp fo lp dn1 ac1 ea la ne nl eA lA) H := hPx
  have hDx : va_D A (wX o1 a1 k1 Sz1 St1 Ct1 T L lk1 fp fo lp dn1 ac1 ea la ne nl eA lA) := hDx
  have hPm : va_P D vwCl (wM o2 a2 k2 Sz2 St2 Ct2 L Tm fi mo) H := hPm
  have hDm : va_D A (wM o2 a2 k2 Sz2 St2 Ct2 L Tm fi mo) := hDm
  have hX : sw_dis (wX o1 a1 k1 Sz1 St1 Ct1 T L lk1 fp fo lp dn1 ac1 ea la ne nl eA lA) (wM o2 a2 k2 Sz2 St2 Ct2 L Tm fi mo) := hX
  obtain ⟨heq, q1, q2, q3⟩ := sw_itm_uniq hr1.1 hr2
  subst q1
  subst q2
  subst q3
  refine lv_icmp_eq (tgt := 434) hx hb dL_law_142 (by decide) (fun _ => ?_) (fun q => absurd heq q)
  exact kk _ _ ⟨_, _, _, _, _, _, _, _, _, _, _, _, _, _, _, _, _, _, _, _, sw_Ok_itm hO hr1.1, hr1.2, hT4, hTT, hPx, hDx, hPm, hDm, hX⟩ hS
set_option maxHeartbeats 4000000 in
set_option maxRecDepth 100000 in
theorem lc_1 (S : CallFix p m c cL_law 4 s args lw_all R_law) (hXs : va_X b n xs s H0) (hbl : b < H0.size) (hbA : ¬ A b) (hn : n ≤ 256) (hi : i + 4 ≤ n) (hA : ∀ q, H0.size ≤ q → A q) (hK1 : va_K D vwCl (tyX k1) s) (hK2 : va_K D vwCl (tyM k2) s) (hI : sw_Inv D A o1 a1 k1 o2 a2 k2 H) (hS : va_S A H0 H locs) (hl : lv_has ls 4 [(0, .ref b), (1, .ref o1), (2, .ref o2), (3, .int (nI i))]) (kk : ∀ (H : Heap) (locs : List Loc), sw_Inv D A o1 a1 k1 o2 a2 k2 H → va_S A H0 H locs → W p l e room_1 s m args below meth c H locs 600000 7290000 Q (F0 m 434 ls [])) : W p l e room_1 s m args below meth c H locs 600000 7290000 Q (F0 m 147 ls []) := by
  have hx := S.1
  have hb := S.2.1
  have hown := S.2.2.2.1
  have hts := S.2.2.2.2
  obtain ⟨Sz, St, Ct, T, L, lk, fp, fo, lp, dn, ac, ea, la, ne, nl, eA, lA, Tm, fi, mo, hO, hCa, hT4, hTT, hPx, hDx, hPm, hDm, hX⟩ := hI
  have hOm : sw_Ok Sz St Ct Tm L := ⟨hO.1, hO.2.1, hO.2.2.1, hT4, hO.2.2.2.2⟩
  obtain ⟨z1, l1, u1, e1⟩ := zI_of (xs (i + 1))
  refine lv_aload_n hx hb dL_law_147 rfl (lv_at hl 1 rfl) ?_
  refine lv_aload_n hx hb dL_law_148 rfl (lv_at hl 0 rfl) ?_
  refine lv_iload_n hx hb dL_law_149 rfl (lv_at hl 3 rfl) ?_
  refine lv_iconst (v := nI 1) hx hb dL_law_150 (by decide) ?_
  refine sw_add hx hb dL_law_151 ?_
  refine sw_sld hx hb hXs hbl hbA hS (by omega) (by omega) (v := zI z1) e1 dL_law_152 ?_
  refine sw_lcI (As := [.int (zI (z1))]) (rest := []) (C := RX0) (ci := 0) (q0 := 0) S (fun sz => mX0_drop l l1 u1 hO hCa sz) (cwV 1 hts (lw_V q99 q100 q101 q20 q102) rfl rfl rfl (by decide +kernel) ⟨Nat.le_of_ble_eq_true rfl, Nat.le_of_ble_eq_true rfl⟩) hK1 hPx hDx hPm hX hS hA rfl rfl rfl rfl hl.1 rfl (Nat.le_of_ble_eq_true rfl) dL_law_153 ⟨Nat.le_refl _, Nat.le_refl _⟩ (fun r1 u H locs hr1 hPx hDx hPm hX hS => ?_)
  obtain ⟨Sz1, lk1, dn1, ac1⟩ := u
  have hr1 : sw_drp z1 Sz r1 Sz1 ∧ sw_Ca Sz1 St Ct T L lk1 fp fo lp dn1 ac1 ea la eA lA := hr1
  have hPx : va_P D vwCl (wX o1 a1 k1 Sz1 St Ct T L lk1 fp fo lp dn1 ac1 ea la ne nl eA lA) H := hPx
  have hDx : va_D A (wX o1 a1 k1 Sz1 St Ct T L lk1 fp fo lp dn1 ac1 ea la ne nl eA lA) := hDx
  have hPm : va_P D vwCl (wM o2 a2 k2 Sz St Ct L Tm fi mo) H := hPm
  have hDm : va_D A (wM o2 a2 k2 Sz St Ct L Tm fi mo) := hDm
  have hX : sw_dis (wX o1 a1 k1 Sz1 St Ct T L lk1 fp fo lp dn1 ac1 ea la ne nl eA lA) (wM o2 a2 k2 Sz St Ct L Tm fi mo) := hX
  refine lv_aload_n hx hb dL_law_156 rfl (lv_at hl 2 rfl) ?_
  refine lv_aload_n hx hb dL_law_157 rfl (lv_at hl 0 rfl) ?_
  refine lv_iload_n hx hb dL_law_158 rfl (lv_at hl 3 rfl) ?_
  refine lv_iconst (v := nI 1) hx hb dL_law_159 (by decide) ?_
  refine sw_add hx hb dL_law_160 ?_
  refine sw_sld hx hb hXs hbl hbA hS (by omega) (by omega) (v := zI z1) e1 dL_law_161 ?_
  refine sw_lcI (As := [.int (zI (z1))]) (rest := [.int (r1)]) (C := RX1) (ci := 1) (q0 := 0) S (fun sz => mX1_drop l l1 u1 hOm sz) (cwV 1 hts (lw_V q238 q239 q240 q21 q241) rfl rfl rfl (by decide +kernel) ⟨Nat.le_of_ble_eq_true rfl, Nat.le_of_ble_eq_true rfl⟩) hK2 hPm hDm hPx hX.symm hS hA rfl rfl rfl rfl hl.1 rfl (Nat.le_of_ble_eq_true rfl) dL_law_162 ⟨Nat.le_refl _, Nat.le_refl _⟩ (fun r2 u H locs hr2 hPm hDm hPx hX hS => ?_)
  obtain ⟨Sz2, rfl⟩ : ∃ z, z = u := ⟨_, rfl⟩
  have hX := hX.symm
  have hr2 : sw_drp z1 Sz r2 Sz2 := hr2
  have hPx : va_P D vwCl (wX o1 a1 k1 Sz1 St Ct T L lk1 fp fo lp dn1 ac1 ea la ne nl eA lA) H := hPx
  have hDx : va_D A (wX o1 a1 k1 Sz1 St Ct T L lk1 fp fo lp dn1 ac1 ea la ne nl eA lA) := hDx
  have hPm : va_P D vwCl (wM o2 a2 k2 Sz2 St Ct L Tm fi mo) H := hPm
  have hDm : va_D A (wM o2 a2 k2 Sz2 St Ct L Tm fi mo) := hDm
  have hX : sw_dis (wX o1 a1 k1 Sz1 St Ct T L lk1 fp fo lp dn1 ac1 ea la ne nl eA lA) (wM o2 a2 k2 Sz2 St Ct L Tm fi mo) := hX
  obtain ⟨heq, q1⟩ := sw_drp_uniq hr1.1 hr2
  subst q1
  refine lv_icmp_eq (tgt := 434) hx hb dL_law_165 (by decide) (fun _ => ?_) (fun q => absurd heq q)
  exact kk _ _ ⟨_, _, _, _, _, _, _, _, _, _, _, _, _, _, _, _, _, _, _, _, sw_Ok_drp hO hr1.1, hr1.2, hT4, hTT, hPx, hDx, hPm, hDm, hX⟩ hS
set_option maxHeartbeats 4000000 in
set_option maxRecDepth 100000 in
theorem lc_2 (S : CallFix p m c cL_law 4 s args lw_all R_law) (hXs : va_X b n xs s H0) (hbl : b < H0.size) (hbA : ¬ A b) (hn : n ≤ 256) (hi : i + 4 ≤ n) (hA : ∀ q, H0.size ≤ q → A q) (hK1 : va_K D vwCl (tyX k1) s) (hK2 : va_K D vwCl (tyM k2) s) (hI : sw_Inv D A o1 a1 k1 o2 a2 k2 H) (hS : va_S A H0 H locs) (hl : lv_has ls 4 [(0, .ref b), (1, .ref o1), (2, .ref o2), (3, .int (nI i))]) (kk : ∀ (H : Heap) (locs : List Loc), sw_Inv D A o1 a1 k1 o2 a2 k2 H → va_S A H0 H locs → W p l e room_1 s m args below meth c H locs 600000 7290000 Q (F0 m 434 ls [])) : W p l e room_1 s m args below meth c H locs 600000 7290000 Q (F0 m 170 ls []) := by
  have hx := S.1
  have hb := S.2.1
  have hown := S.2.2.2.1
  have hts := S.2.2.2.2
  obtain ⟨Sz, St, Ct, T, L, lk, fp, fo, lp, dn, ac, ea, la, ne, nl, eA, lA, Tm, fi, mo, hO, hCa, hT4, hTT, hPx, hDx, hPm, hDm, hX⟩ := hI
  have hOm : sw_Ok Sz St Ct Tm L := ⟨hO.1, hO.2.1, hO.2.2.1, hT4, hO.2.2.2.2⟩
  obtain ⟨z1, l1, u1, e1⟩ := zI_of (xs (i + 1))
  refine lv_aload_n hx hb dL_law_170 rfl (lv_at hl 1 rfl) ?_
  refine lv_aload_n hx hb dL_law_171 rfl (lv_at hl 0 rfl) ?_
  refine lv_iload_n hx hb dL_law_172 rfl (lv_at hl 3 rfl) ?_
  refine lv_iconst (v := nI 1) hx hb dL_law_173 (by decide) ?_
  refine sw_add hx hb dL_law_174 ?_
  refine sw_sld hx hb hXs hbl hbA hS (by omega) (by omega) (v := zI z1) e1 dL_law_175 ?_
  refine sw_cvR (As := [.int (zI (z1))]) (rest := []) (C := RX0) (ci := 0) (q0 := 0) S (mX0_items l l1 u1) (cwV 1 hts (lw_V q103 q104 q105 q20 q106) rfl rfl rfl (by decide +kernel) ⟨Nat.le_of_ble_eq_true rfl, Nat.le_of_ble_eq_true rfl⟩) hK1 hPx rfl rfl rfl rfl hl.1 rfl (Nat.le_of_ble_eq_true rfl) dL_law_176 ⟨Nat.le_refl _, Nat.le_refl _⟩ (fun r1 hr1 => ?_)
  have hr1 : (∃ pn : Nat, z1 = pn ∧ pn < 4 ∧ r1 = nI (Sz pn)) ∨ (¬ (0 ≤ z1 ∧ z1 < 4) ∧ r1 = zI (-1)) := hr1
  refine lv_aload_n hx hb dL_law_179 rfl (lv_at hl 2 rfl) ?_
  refine lv_aload_n hx hb dL_law_180 rfl (lv_at hl 0 rfl) ?_
  refine lv_iload_n hx hb dL_law_181 rfl (lv_at hl 3 rfl) ?_
  refine lv_iconst (v := nI 1) hx hb dL_law_182 (by decide) ?_
  refine sw_add hx hb dL_law_183 ?_
  refine sw_sld hx hb hXs hbl hbA hS (by omega) (by omega) (v := zI z1) e1 dL_law_184 ?_
  refine sw_cvR (As := [.int (zI (z1))]) (rest := [.int (r1)]) (C := RX1) (ci := 1) (q0 := 0) S (mX1_items l l1 u1) (cwV 1 hts (lw_V q242 q243 q244 q21 q245) rfl rfl rfl (by decide +kernel) ⟨Nat.le_of_ble_eq_true rfl, Nat.le_of_ble_eq_true rfl⟩) hK2 hPm rfl rfl rfl rfl hl.1 rfl (Nat.le_of_ble_eq_true rfl) dL_law_185 ⟨Nat.le_refl _, Nat.le_refl _⟩ (fun r2 hr2 => ?_)
  have hr2 : (∃ pn : Nat, z1 = pn ∧ pn < 4 ∧ r2 = nI (Sz pn)) ∨ (¬ (0 ≤ z1 ∧ z1 < 4) ∧ r2 = zI (-1)) := hr2
  have heq := sw_its_uniq (Sz := Sz) (zp := z1) hr1 hr2
  refine lv_icmp_eq (tgt := 434) hx hb dL_law_188 (by decide) (fun _ => ?_) (fun q => absurd heq q)
  exact kk _ _ ⟨_, _, _, _, _, _, _, _, _, _, _, _, _, _, _, _, _, _, _, _, hO, hCa, hT4, hTT, hPx, hDx, hPm, hDm, hX⟩ hS
set_option maxHeartbeats 4000000 in
set_option maxRecDepth 100000 in
theorem lc_3 (S : CallFix p m c cL_law 4 s args lw_all R_law) (hXs : va_X b n xs s H0) (hbl : b < H0.size) (hbA : ¬ A b) (hn : n ≤ 256) (hi : i + 4 ≤ n) (hA : ∀ q, H0.size ≤ q → A q) (hK1 : va_K D vwCl (tyX k1) s) (hK2 : va_K D vwCl (tyM k2) s) (hI : sw_Inv D A o1 a1 k1 o2 a2 k2 H) (hS : va_S A H0 H locs) (hl : lv_has ls 4 [(0, .ref b), (1, .ref o1), (2, .ref o2), (3, .int (nI i))]) (kk : ∀ (H : Heap) (locs : List Loc), sw_Inv D A o1 a1 k1 o2 a2 k2 H → va_S A H0 H locs → W p l e room_1 s m args below meth c H locs 600000 7290000 Q (F0 m 434 ls [])) : W p l e room_1 s m args below meth c H locs 600000 7290000 Q (F0 m 193 ls []) := by
  have hx := S.1
  have hb := S.2.1
  have hown := S.2.2.2.1
  have hts := S.2.2.2.2
  obtain ⟨Sz, St, Ct, T, L, lk, fp, fo, lp, dn, ac, ea, la, ne, nl, eA, lA, Tm, fi, mo, hO, hCa, hT4, hTT, hPx, hDx, hPm, hDm, hX⟩ := hI
  have hOm : sw_Ok Sz St Ct Tm L := ⟨hO.1, hO.2.1, hO.2.2.1, hT4, hO.2.2.2.2⟩
  obtain ⟨z1, l1, u1, e1⟩ := zI_of (xs (i + 1))
  refine lv_aload_n hx hb dL_law_193 rfl (lv_at hl 1 rfl) ?_
  refine lv_aload_n hx hb dL_law_194 rfl (lv_at hl 0 rfl) ?_
  refine lv_iload_n hx hb dL_law_195 rfl (lv_at hl 3 rfl) ?_
  refine lv_iconst (v := nI 1) hx hb dL_law_196 (by decide) ?_
  refine sw_add hx hb dL_law_197 ?_
  refine sw_sld hx hb hXs hbl hbA hS (by omega) (by omega) (v := zI z1) e1 dL_law_198 ?_
  refine sw_lcI (As := [.int (zI (z1))]) (rest := []) (C := RX0) (ci := 0) (q0 := 0) S (fun sz => mX0_push l l1 u1 hO hCa sz) (cwV 1 hts (lw_V q107 q108 q109 q20 q110) rfl rfl rfl (by decide +kernel) ⟨Nat.le_of_ble_eq_true rfl, Nat.le_of_ble_eq_true rfl⟩) hK1 hPx hDx hPm hX hS hA rfl rfl rfl rfl hl.1 rfl (Nat.le_of_ble_eq_true rfl) dL_law_199 ⟨Nat.le_refl _, Nat.le_refl _⟩ (fun r1 u H locs hr1 hPx hDx hPm hX hS => ?_)
  obtain ⟨T1, L1, lk1, fp1, fo1, lp1, dn1, ac1, ea1, la1, ne1, nl1, eA1, lA1⟩ := u
  have hr1 : sw_psh Sz St Ct z1 T L r1 T1 L1 ∧ sw_Ca Sz St Ct T1 L1 lk1 fp1 fo1 lp1 dn1 ac1 ea1 la1 eA1 lA1 := hr1
  have hPx : va_P D vwCl (wX o1 a1 k1 Sz St Ct T1 L1 lk1 fp1 fo1 lp1 dn1 ac1 ea1 la1 ne1 nl1 eA1 lA1) H := hPx
  have hDx : va_D A (wX o1 a1 k1 Sz St Ct T1 L1 lk1 fp1 fo1 lp1 dn1 ac1 ea1 la1 ne1 nl1 eA1 lA1) := hDx
  have hPm : va_P D vwCl (wM o2 a2 k2 Sz St Ct L Tm fi mo) H := hPm
  have hDm : va_D A (wM o2 a2 k2 Sz St Ct L Tm fi mo) := hDm
  have hX : sw_dis (wX o1 a1 k1 Sz St Ct T1 L1 lk1 fp1 fo1 lp1 dn1 ac1 ea1 la1 ne1 nl1 eA1 lA1) (wM o2 a2 k2 Sz St Ct L Tm fi mo) := hX
  refine lv_aload_n hx hb dL_law_202 rfl (lv_at hl 2 rfl) ?_
  refine lv_aload_n hx hb dL_law_203 rfl (lv_at hl 0 rfl) ?_
  refine lv_iload_n hx hb dL_law_204 rfl (lv_at hl 3 rfl) ?_
  refine lv_iconst (v := nI 1) hx hb dL_law_205 (by decide) ?_
  refine sw_add hx hb dL_law_206 ?_
  refine sw_sld hx hb hXs hbl hbA hS (by omega) (by omega) (v := zI z1) e1 dL_law_207 ?_
  refine sw_lcI (As := [.int (zI (z1))]) (rest := [.int (r1)]) (C := RX1) (ci := 1) (q0 := 0) S (fun sz => mX1_push l l1 u1 hOm sz) (cwV 1 hts (lw_V q246 q247 q248 q21 q249) rfl rfl rfl (by decide +kernel) ⟨Nat.le_of_ble_eq_true rfl, Nat.le_of_ble_eq_true rfl⟩) hK2 hPm hDm hPx hX.symm hS hA rfl rfl rfl rfl hl.1 rfl (Nat.le_of_ble_eq_true rfl) dL_law_208 ⟨Nat.le_refl _, Nat.le_refl _⟩ (fun r2 u H locs hr2 hPm hDm hPx hX hS => ?_)
  obtain ⟨T2, L2, fi2, mo2⟩ := u
  have hX := hX.symm
  have hr2 : sw_psh Sz St Ct z1 Tm L r2 T2 L2 := hr2
  have hPx : va_P D vwCl (wX o1 a1 k1 Sz St Ct T1 L1 lk1 fp1 fo1 lp1 dn1 ac1 ea1 la1 ne1 nl1 eA1 lA1) H := hPx
  have hDx : va_D A (wX o1 a1 k1 Sz St Ct T1 L1 lk1 fp1 fo1 lp1 dn1 ac1 ea1 la1 ne1 nl1 eA1 lA1) := hDx
  have hPm : va_P D vwCl (wM o2 a2 k2 Sz St Ct L2 T2 fi2 mo2) H := hPm
  have hDm : va_D A (wM o2 a2 k2 Sz St Ct L2 T2 fi2 mo2) := hDm
  have hX : sw_dis (wX o1 a1 k1 Sz St Ct T1 L1 lk1 fp1 fo1 lp1 dn1 ac1 ea1 la1 ne1 nl1 eA1 lA1) (wM o2 a2 k2 Sz St Ct L2 T2 fi2 mo2) := hX
  obtain ⟨heq, q1, q2⟩ := sw_psh_uniq hTT hr1.1 hr2
  subst q1
  refine lv_icmp_eq (tgt := 434) hx hb dL_law_211 (by decide) (fun _ => ?_) (fun q => absurd heq q)
  exact kk _ _ ⟨_, _, _, _, _, _, _, _, _, _, _, _, _, _, _, _, _, _, _, _, sw_Ok_psh hO hr1.1, hr1.2, (sw_Ok_psh hOm hr2).2.2.2.1, q2, hPx, hDx, hPm, hDm, hX⟩ hS
set_option maxHeartbeats 4000000 in
set_option maxRecDepth 100000 in
theorem lc_4 (S : CallFix p m c cL_law 4 s args lw_all R_law) (hXs : va_X b n xs s H0) (hbl : b < H0.size) (hbA : ¬ A b) (hn : n ≤ 256) (hi : i + 4 ≤ n) (hA : ∀ q, H0.size ≤ q → A q) (hK1 : va_K D vwCl (tyX k1) s) (hK2 : va_K D vwCl (tyM k2) s) (hI : sw_Inv D A o1 a1 k1 o2 a2 k2 H) (hS : va_S A H0 H locs) (hl : lv_has ls 4 [(0, .ref b), (1, .ref o1), (2, .ref o2), (3, .int (nI i))]) (kk : ∀ (H : Heap) (locs : List Loc), sw_Inv D A o1 a1 k1 o2 a2 k2 H → va_S A H0 H locs → W p l e room_1 s m args below meth c H locs 600000 7290000 Q (F0 m 434 ls [])) : W p l e room_1 s m args below meth c H locs 600000 7290000 Q (F0 m 216 ls []) := by
  have hx := S.1
  have hb := S.2.1
  have hown := S.2.2.2.1
  have hts := S.2.2.2.2
  obtain ⟨Sz, St, Ct, T, L, lk, fp, fo, lp, dn, ac, ea, la, ne, nl, eA, lA, Tm, fi, mo, hO, hCa, hT4, hTT, hPx, hDx, hPm, hDm, hX⟩ := hI
  have hOm : sw_Ok Sz St Ct Tm L := ⟨hO.1, hO.2.1, hO.2.2.1, hT4, hO.2.2.2.2⟩
  refine lv_aload_n hx hb dL_law_216 rfl (lv_at hl 1 rfl) ?_
  refine sw_lcV (As := []) (rest := []) (C := RX0) (ci := 0) (q0 := 0) S (fun sz => mX0_reset l hCa.1 sz) (cwV 0 hts (lw_V q163 q164 q165 q20 q166) rfl rfl rfl (by decide +kernel) ⟨Nat.le_of_ble_eq_true rfl, Nat.le_of_ble_eq_true rfl⟩) hK1 hPx hDx hPm hX hS hA rfl rfl rfl rfl hl.1 rfl (Nat.le_of_ble_eq_true rfl) dL_law_217 ⟨Nat.le_refl _, Nat.le_refl _⟩ (fun u H locs hr1 hPx hDx hPm hX hS => ?_)
  have hr1 : sw_Ca Sz St Ct T 0 lk fp fo lp 0 0 ea la eA lA := hr1
  have hPx : va_P D vwCl (wX o1 a1 k1 Sz St Ct T 0 lk fp fo lp 0 0 ea la ne nl eA lA) H := hPx
  have hDx : va_D A (wX o1 a1 k1 Sz St Ct T 0 lk fp fo lp 0 0 ea la ne nl eA lA) := hDx
  have hPm : va_P D vwCl (wM o2 a2 k2 Sz St Ct L Tm fi mo) H := hPm
  have hDm : va_D A (wM o2 a2 k2 Sz St Ct L Tm fi mo) := hDm
  have hX : sw_dis (wX o1 a1 k1 Sz St Ct T 0 lk fp fo lp 0 0 ea la ne nl eA lA) (wM o2 a2 k2 Sz St Ct L Tm fi mo) := hX
  refine lv_aload_n hx hb dL_law_220 rfl (lv_at hl 2 rfl) ?_
  refine sw_lcV (As := []) (rest := []) (C := RX1) (ci := 1) (q0 := 0) S (fun sz => mX1_reset l  sz) (cwV 0 hts (lw_V q270 q271 q272 q21 q273) rfl rfl rfl (by decide +kernel) ⟨Nat.le_of_ble_eq_true rfl, Nat.le_of_ble_eq_true rfl⟩) hK2 hPm hDm hPx hX.symm hS hA rfl rfl rfl rfl hl.1 rfl (Nat.le_of_ble_eq_true rfl) dL_law_221 ⟨Nat.le_refl _, Nat.le_refl _⟩ (fun u H locs hr2 hPm hDm hPx hX hS => ?_)
  have hX := hX.symm
  have hr2 : True := hr2
  have hPx : va_P D vwCl (wX o1 a1 k1 Sz St Ct T 0 lk fp fo lp 0 0 ea la ne nl eA lA) H := hPx
  have hDx : va_D A (wX o1 a1 k1 Sz St Ct T 0 lk fp fo lp 0 0 ea la ne nl eA lA) := hDx
  have hPm : va_P D vwCl (wM o2 a2 k2 Sz St Ct 0 Tm fi mo) H := hPm
  have hDm : va_D A (wM o2 a2 k2 Sz St Ct 0 Tm fi mo) := hDm
  have hX : sw_dis (wX o1 a1 k1 Sz St Ct T 0 lk fp fo lp 0 0 ea la ne nl eA lA) (wM o2 a2 k2 Sz St Ct 0 Tm fi mo) := hX
  refine lv_goto (tgt := 434) hx hb dL_law_224 (by decide) ?_
  exact kk _ _ ⟨_, _, _, _, _, _, _, _, _, _, _, _, _, _, _, _, _, _, _, _, ⟨hO.1, hO.2.1, hO.2.2.1, hO.2.2.2.1, Nat.zero_le _⟩, hr1, hT4, (fun t h => absurd h (Nat.not_lt_zero _)), hPx, hDx, hPm, hDm, hX⟩ hS
set_option maxHeartbeats 4000000 in
set_option maxRecDepth 100000 in
theorem lc_5 (S : CallFix p m c cL_law 4 s args lw_all R_law) (hXs : va_X b n xs s H0) (hbl : b < H0.size) (hbA : ¬ A b) (hn : n ≤ 256) (hi : i + 4 ≤ n) (hA : ∀ q, H0.size ≤ q → A q) (hK1 : va_K D vwCl (tyX k1) s) (hK2 : va_K D vwCl (tyM k2) s) (hI : sw_Inv D A o1 a1 k1 o2 a2 k2 H) (hS : va_S A H0 H locs) (hl : lv_has ls 4 [(0, .ref b), (1, .ref o1), (2, .ref o2), (3, .int (nI i))]) (kk : ∀ (H : Heap) (locs : List Loc), sw_Inv D A o1 a1 k1 o2 a2 k2 H → va_S A H0 H locs → W p l e room_1 s m args below meth c H locs 600000 7290000 Q (F0 m 434 ls [])) : W p l e room_1 s m args below meth c H locs 600000 7290000 Q (F0 m 227 ls []) := by
  have hx := S.1
  have hb := S.2.1
  have hown := S.2.2.2.1
  have hts := S.2.2.2.2
  obtain ⟨Sz, St, Ct, T, L, lk, fp, fo, lp, dn, ac, ea, la, ne, nl, eA, lA, Tm, fi, mo, hO, hCa, hT4, hTT, hPx, hDx, hPm, hDm, hX⟩ := hI
  have hOm : sw_Ok Sz St Ct Tm L := ⟨hO.1, hO.2.1, hO.2.2.1, hT4, hO.2.2.2.2⟩
  refine lv_aload_n hx hb dL_law_227 rfl (lv_at hl 1 rfl) ?_
  refine sw_cvR (As := []) (rest := []) (C := RX0) (ci := 0) (q0 := 0) S (mX0_taken l ) (cwV 0 hts (lw_V q167 q168 q169 q20 q170) rfl rfl rfl (by decide +kernel) ⟨Nat.le_of_ble_eq_true rfl, Nat.le_of_ble_eq_true rfl⟩) hK1 hPx rfl rfl rfl rfl hl.1 rfl (Nat.le_of_ble_eq_true rfl) dL_law_228 ⟨Nat.le_refl _, Nat.le_refl _⟩ (fun r1 hr1 => ?_)
  have hr1 : r1 = nI L := hr1
  refine lv_aload_n hx hb dL_law_231 rfl (lv_at hl 2 rfl) ?_
  refine sw_cvR (As := []) (rest := [.int (r1)]) (C := RX1) (ci := 1) (q0 := 0) S (mX1_taken l ) (cwV 0 hts (lw_V q274 q275 q276 q21 q277) rfl rfl rfl (by decide +kernel) ⟨Nat.le_of_ble_eq_true rfl, Nat.le_of_ble_eq_true rfl⟩) hK2 hPm rfl rfl rfl rfl hl.1 rfl (Nat.le_of_ble_eq_true rfl) dL_law_232 ⟨Nat.le_refl _, Nat.le_refl _⟩ (fun r2 hr2 => ?_)
  have hr2 : r2 = nI L := hr2
  have heq := hr1.trans hr2.symm
  refine lv_icmp_eq (tgt := 434) hx hb dL_law_235 (by decide) (fun _ => ?_) (fun q => absurd heq q)
  exact kk _ _ ⟨_, _, _, _, _, _, _, _, _, _, _, _, _, _, _, _, _, _, _, _, hO, hCa, hT4, hTT, hPx, hDx, hPm, hDm, hX⟩ hS
set_option maxHeartbeats 4000000 in
set_option maxRecDepth 100000 in
theorem lc_6 (S : CallFix p m c cL_law 4 s args lw_all R_law) (hXs : va_X b n xs s H0) (hbl : b < H0.size) (hbA : ¬ A b) (hn : n ≤ 256) (hi : i + 4 ≤ n) (hA : ∀ q, H0.size ≤ q → A q) (hK1 : va_K D vwCl (tyX k1) s) (hK2 : va_K D vwCl (tyM k2) s) (hI : sw_Inv D A o1 a1 k1 o2 a2 k2 H) (hS : va_S A H0 H locs) (hl : lv_has ls 4 [(0, .ref b), (1, .ref o1), (2, .ref o2), (3, .int (nI i))]) (kk : ∀ (H : Heap) (locs : List Loc), sw_Inv D A o1 a1 k1 o2 a2 k2 H → va_S A H0 H locs → W p l e room_1 s m args below meth c H locs 600000 7290000 Q (F0 m 434 ls [])) : W p l e room_1 s m args below meth c H locs 600000 7290000 Q (F0 m 240 ls []) := by
  have hx := S.1
  have hb := S.2.1
  have hown := S.2.2.2.1
  have hts := S.2.2.2.2
  obtain ⟨Sz, St, Ct, T, L, lk, fp, fo, lp, dn, ac, ea, la, ne, nl, eA, lA, Tm, fi, mo, hO, hCa, hT4, hTT, hPx, hDx, hPm, hDm, hX⟩ := hI
  have hOm : sw_Ok Sz St Ct Tm L := ⟨hO.1, hO.2.1, hO.2.2.1, hT4, hO.2.2.2.2⟩
  obtain ⟨z1, l1, u1, e1⟩ := zI_of (xs (i + 1))
  refine lv_aload_n hx hb dL_law_240 rfl (lv_at hl 1 rfl) ?_
  refine lv_aload_n hx hb dL_law_241 rfl (lv_at hl 0 rfl) ?_
  refine lv_iload_n hx hb dL_law_242 rfl (lv_at hl 3 rfl) ?_
  refine lv_iconst (v := nI 1) hx hb dL_law_243 (by decide) ?_
  refine sw_add hx hb dL_law_244 ?_
  refine sw_sld hx hb hXs hbl hbA hS (by omega) (by omega) (v := zI z1) e1 dL_law_245 ?_
  refine sw_lcI (As := [.int (zI (z1))]) (rest := []) (C := RX0) (ci := 0) (q0 := 0) S (fun sz => mX0_endingAt l l1 u1 hO hCa sz) (cwV 1 hts (lw_V q171 q112 q113 q20 q114) rfl rfl rfl (by decide +kernel) ⟨Nat.le_of_ble_eq_true rfl, Nat.le_of_ble_eq_true rfl⟩) hK1 hPx hDx hPm hX hS hA rfl rfl rfl rfl hl.1 rfl (Nat.le_of_ble_eq_true rfl) dL_law_246 ⟨Nat.le_refl _, Nat.le_refl _⟩ (fun r1 u H locs hr1 hPx hDx hPm hX hS => ?_)
  obtain ⟨lk1, fp1, fo1, lp1, dn1, ac1, ea1, la1, ne1, nl1, eA1, lA1⟩ := u
  have hr1 : (∃ x, r1 = nI x ∧ sw_set 4 (sw_endP Sz St Ct T L z1) x) ∧ sw_Ca Sz St Ct T L lk1 fp1 fo1 lp1 dn1 ac1 ea1 la1 eA1 lA1 := hr1
  have hPx : va_P D vwCl (wX o1 a1 k1 Sz St Ct T L lk1 fp1 fo1 lp1 dn1 ac1 ea1 la1 ne1 nl1 eA1 lA1) H := hPx
  have hDx : va_D A (wX o1 a1 k1 Sz St Ct T L lk1 fp1 fo1 lp1 dn1 ac1 ea1 la1 ne1 nl1 eA1 lA1) := hDx
  have hPm : va_P D vwCl (wM o2 a2 k2 Sz St Ct L Tm fi mo) H := hPm
  have hDm : va_D A (wM o2 a2 k2 Sz St Ct L Tm fi mo) := hDm
  have hX : sw_dis (wX o1 a1 k1 Sz St Ct T L lk1 fp1 fo1 lp1 dn1 ac1 ea1 la1 ne1 nl1 eA1 lA1) (wM o2 a2 k2 Sz St Ct L Tm fi mo) := hX
  refine lv_aload_n hx hb dL_law_249 rfl (lv_at hl 2 rfl) ?_
  refine lv_aload_n hx hb dL_law_250 rfl (lv_at hl 0 rfl) ?_
  refine lv_iload_n hx hb dL_law_251 rfl (lv_at hl 3 rfl) ?_
  refine lv_iconst (v := nI 1) hx hb dL_law_252 (by decide) ?_
  refine sw_add hx hb dL_law_253 ?_
  refine sw_sld hx hb hXs hbl hbA hS (by omega) (by omega) (v := zI z1) e1 dL_law_254 ?_
  refine sw_lcI (As := [.int (zI (z1))]) (rest := [.int (r1)]) (C := RX1) (ci := 1) (q0 := 0) S (fun sz => mX1_endingAt l l1 u1 hOm sz) (cwV 1 hts (lw_V q278 q251 q252 q21 q253) rfl rfl rfl (by decide +kernel) ⟨Nat.le_of_ble_eq_true rfl, Nat.le_of_ble_eq_true rfl⟩) hK2 hPm hDm hPx hX.symm hS hA rfl rfl rfl rfl hl.1 rfl (Nat.le_of_ble_eq_true rfl) dL_law_255 ⟨Nat.le_refl _, Nat.le_refl _⟩ (fun r2 u H locs hr2 hPm hDm hPx hX hS => ?_)
  obtain ⟨fi2, mo2⟩ := u
  have hX := hX.symm
  have hr2 : (∃ x, r2 = nI x ∧ sw_set 4 (sw_endP Sz St Ct Tm L z1) x) := hr2
  have hPx : va_P D vwCl (wX o1 a1 k1 Sz St Ct T L lk1 fp1 fo1 lp1 dn1 ac1 ea1 la1 ne1 nl1 eA1 lA1) H := hPx
  have hDx : va_D A (wX o1 a1 k1 Sz St Ct T L lk1 fp1 fo1 lp1 dn1 ac1 ea1 la1 ne1 nl1 eA1 lA1) := hDx
  have hPm : va_P D vwCl (wM o2 a2 k2 Sz St Ct L Tm fi2 mo2) H := hPm
  have hDm : va_D A (wM o2 a2 k2 Sz St Ct L Tm fi2 mo2) := hDm
  have hX : sw_dis (wX o1 a1 k1 Sz St Ct T L lk1 fp1 fo1 lp1 dn1 ac1 ea1 la1 ne1 nl1 eA1 lA1) (wM o2 a2 k2 Sz St Ct L Tm fi2 mo2) := hX
  have heq := sw_endS_uniq hTT hr1.1 hr2
  refine lv_icmp_eq (tgt := 434) hx hb dL_law_258 (by decide) (fun _ => ?_) (fun q => absurd heq q)
  exact kk _ _ ⟨_, _, _, _, _, _, _, _, _, _, _, _, _, _, _, _, _, _, _, _, hO, hr1.2, hT4, hTT, hPx, hDx, hPm, hDm, hX⟩ hS
set_option maxHeartbeats 4000000 in
set_option maxRecDepth 100000 in
theorem lc_7 (S : CallFix p m c cL_law 4 s args lw_all R_law) (hXs : va_X b n xs s H0) (hbl : b < H0.size) (hbA : ¬ A b) (hn : n ≤ 256) (hi : i + 4 ≤ n) (hA : ∀ q, H0.size ≤ q → A q) (hK1 : va_K D vwCl (tyX k1) s) (hK2 : va_K D vwCl (tyM k2) s) (hI : sw_Inv D A o1 a1 k1 o2 a2 k2 H) (hS : va_S A H0 H locs) (hl : lv_has ls 4 [(0, .ref b), (1, .ref o1), (2, .ref o2), (3, .int (nI i))]) (kk : ∀ (H : Heap) (locs : List Loc), sw_Inv D A o1 a1 k1 o2 a2 k2 H → va_S A H0 H locs → W p l e room_1 s m args below meth c H locs 600000 7290000 Q (F0 m 434 ls [])) : W p l e room_1 s m args below meth c H locs 600000 7290000 Q (F0 m 263 ls []) := by
  have hx := S.1
  have hb := S.2.1
  have hown := S.2.2.2.1
  have hts := S.2.2.2.2
  obtain ⟨Sz, St, Ct, T, L, lk, fp, fo, lp, dn, ac, ea, la, ne, nl, eA, lA, Tm, fi, mo, hO, hCa, hT4, hTT, hPx, hDx, hPm, hDm, hX⟩ := hI
  have hOm : sw_Ok Sz St Ct Tm L := ⟨hO.1, hO.2.1, hO.2.2.1, hT4, hO.2.2.2.2⟩
  obtain ⟨z1, l1, u1, e1⟩ := zI_of (xs (i + 1))
  refine lv_aload_n hx hb dL_law_263 rfl (lv_at hl 1 rfl) ?_
  refine lv_aload_n hx hb dL_law_264 rfl (lv_at hl 0 rfl) ?_
  refine lv_iload_n hx hb dL_law_265 rfl (lv_at hl 3 rfl) ?_
  refine lv_iconst (v := nI 1) hx hb dL_law_266 (by decide) ?_
  refine sw_add hx hb dL_law_267 ?_
  refine sw_sld hx hb hXs hbl hbA hS (by omega) (by omega) (v := zI z1) e1 dL_law_268 ?_
  refine sw_lcI (As := [.int (zI (z1))]) (rest := []) (C := RX0) (ci := 0) (q0 := 0) S (fun sz => mX0_ends l l1 u1 hO hCa sz) (cwV 1 hts (lw_V q172 q173 q174 q20 q175) rfl rfl rfl (by decide +kernel) ⟨Nat.le_of_ble_eq_true rfl, Nat.le_of_ble_eq_true rfl⟩) hK1 hPx hDx hPm hX hS hA rfl rfl rfl rfl hl.1 rfl (Nat.le_of_ble_eq_true rfl) dL_law_269 ⟨Nat.le_refl _, Nat.le_refl _⟩ (fun r1 u H locs hr1 hPx hDx hPm hX hS => ?_)
  obtain ⟨lk1, fp1, fo1, lp1, dn1, ac1, ea1, la1, ne1, nl1, eA1, lA1⟩ := u
  have hr1 : sw_endR Sz St Ct T L z1 r1 ∧ sw_Ca Sz St Ct T L lk1 fp1 fo1 lp1 dn1 ac1 ea1 la1 eA1 lA1 := hr1
  have hPx : va_P D vwCl (wX o1 a1 k1 Sz St Ct T L lk1 fp1 fo1 lp1 dn1 ac1 ea1 la1 ne1 nl1 eA1 lA1) H := hPx
  have hDx : va_D A (wX o1 a1 k1 Sz St Ct T L lk1 fp1 fo1 lp1 dn1 ac1 ea1 la1 ne1 nl1 eA1 lA1) := hDx
  have hPm : va_P D vwCl (wM o2 a2 k2 Sz St Ct L Tm fi mo) H := hPm
  have hDm : va_D A (wM o2 a2 k2 Sz St Ct L Tm fi mo) := hDm
  have hX : sw_dis (wX o1 a1 k1 Sz St Ct T L lk1 fp1 fo1 lp1 dn1 ac1 ea1 la1 ne1 nl1 eA1 lA1) (wM o2 a2 k2 Sz St Ct L Tm fi mo) := hX
  refine lv_aload_n hx hb dL_law_272 rfl (lv_at hl 2 rfl) ?_
  refine lv_aload_n hx hb dL_law_273 rfl (lv_at hl 0 rfl) ?_
  refine lv_iload_n hx hb dL_law_274 rfl (lv_at hl 3 rfl) ?_
  refine lv_iconst (v := nI 1) hx hb dL_law_275 (by decide) ?_
  refine sw_add hx hb dL_law_276 ?_
  refine sw_sld hx hb hXs hbl hbA hS (by omega) (by omega) (v := zI z1) e1 dL_law_277 ?_
  refine sw_lcI (As := [.int (zI (z1))]) (rest := [.int (r1)]) (C := RX1) (ci := 1) (q0 := 0) S (fun sz => mX1_ends l l1 u1 hOm sz) (cwV 1 hts (lw_V q279 q280 q281 q21 q282) rfl rfl rfl (by decide +kernel) ⟨Nat.le_of_ble_eq_true rfl, Nat.le_of_ble_eq_true rfl⟩) hK2 hPm hDm hPx hX.symm hS hA rfl rfl rfl rfl hl.1 rfl (Nat.le_of_ble_eq_true rfl) dL_law_278 ⟨Nat.le_refl _, Nat.le_refl _⟩ (fun r2 u H locs hr2 hPm hDm hPx hX hS => ?_)
  obtain ⟨fi2, mo2⟩ := u
  have hX := hX.symm
  have hr2 : sw_endR Sz St Ct Tm L z1 r2 := hr2
  have hPx : va_P D vwCl (wX o1 a1 k1 Sz St Ct T L lk1 fp1 fo1 lp1 dn1 ac1 ea1 la1 ne1 nl1 eA1 lA1) H := hPx
  have hDx : va_D A (wX o1 a1 k1 Sz St Ct T L lk1 fp1 fo1 lp1 dn1 ac1 ea1 la1 ne1 nl1 eA1 lA1) := hDx
  have hPm : va_P D vwCl (wM o2 a2 k2 Sz St Ct L Tm fi2 mo2) H := hPm
  have hDm : va_D A (wM o2 a2 k2 Sz St Ct L Tm fi2 mo2) := hDm
  have hX : sw_dis (wX o1 a1 k1 Sz St Ct T L lk1 fp1 fo1 lp1 dn1 ac1 ea1 la1 ne1 nl1 eA1 lA1) (wM o2 a2 k2 Sz St Ct L Tm fi2 mo2) := hX
  have heq := sw_endR_uniq hTT hr1.1 hr2
  refine lv_icmp_eq (tgt := 434) hx hb dL_law_281 (by decide) (fun _ => ?_) (fun q => absurd heq q)
  exact kk _ _ ⟨_, _, _, _, _, _, _, _, _, _, _, _, _, _, _, _, _, _, _, _, hO, hr1.2, hT4, hTT, hPx, hDx, hPm, hDm, hX⟩ hS
set_option maxHeartbeats 4000000 in
set_option maxRecDepth 100000 in
theorem lc_8 (S : CallFix p m c cL_law 4 s args lw_all R_law) (hXs : va_X b n xs s H0) (hbl : b < H0.size) (hbA : ¬ A b) (hn : n ≤ 256) (hi : i + 4 ≤ n) (hA : ∀ q, H0.size ≤ q → A q) (hK1 : va_K D vwCl (tyX k1) s) (hK2 : va_K D vwCl (tyM k2) s) (hI : sw_Inv D A o1 a1 k1 o2 a2 k2 H) (hS : va_S A H0 H locs) (hl : lv_has ls 4 [(0, .ref b), (1, .ref o1), (2, .ref o2), (3, .int (nI i))]) (kk : ∀ (H : Heap) (locs : List Loc), sw_Inv D A o1 a1 k1 o2 a2 k2 H → va_S A H0 H locs → W p l e room_1 s m args below meth c H locs 600000 7290000 Q (F0 m 434 ls [])) : W p l e room_1 s m args below meth c H locs 600000 7290000 Q (F0 m 286 ls []) := by
  have hx := S.1
  have hb := S.2.1
  have hown := S.2.2.2.1
  have hts := S.2.2.2.2
  obtain ⟨Sz, St, Ct, T, L, lk, fp, fo, lp, dn, ac, ea, la, ne, nl, eA, lA, Tm, fi, mo, hO, hCa, hT4, hTT, hPx, hDx, hPm, hDm, hX⟩ := hI
  have hOm : sw_Ok Sz St Ct Tm L := ⟨hO.1, hO.2.1, hO.2.2.1, hT4, hO.2.2.2.2⟩
  obtain ⟨z1, l1, u1, e1⟩ := zI_of (xs (i + 1))
  refine lv_aload_n hx hb dL_law_286 rfl (lv_at hl 1 rfl) ?_
  refine lv_aload_n hx hb dL_law_287 rfl (lv_at hl 0 rfl) ?_
  refine lv_iload_n hx hb dL_law_288 rfl (lv_at hl 3 rfl) ?_
  refine lv_iconst (v := nI 1) hx hb dL_law_289 (by decide) ?_
  refine sw_add hx hb dL_law_290 ?_
  refine sw_sld hx hb hXs hbl hbA hS (by omega) (by omega) (v := zI z1) e1 dL_law_291 ?_
  refine sw_lcI (As := [.int (zI (z1))]) (rest := []) (C := RX0) (ci := 0) (q0 := 0) S (fun sz => mX0_firstEnd l l1 u1 hO hCa sz) (cwV 1 hts (lw_V q176 q177 q178 q20 q179) rfl rfl rfl (by decide +kernel) ⟨Nat.le_of_ble_eq_true rfl, Nat.le_of_ble_eq_true rfl⟩) hK1 hPx hDx hPm hX hS hA rfl rfl rfl rfl hl.1 rfl (Nat.le_of_ble_eq_true rfl) dL_law_292 ⟨Nat.le_refl _, Nat.le_refl _⟩ (fun r1 u H locs hr1 hPx hDx hPm hX hS => ?_)
  obtain ⟨lk1, fp1, fo1, lp1, dn1, ac1, ea1, la1, ne1, nl1, eA1, lA1⟩ := u
  have hr1 : sw_feR Sz St Ct T L z1 r1 ∧ sw_Ca Sz St Ct T L lk1 fp1 fo1 lp1 dn1 ac1 ea1 la1 eA1 lA1 := hr1
  have hPx : va_P D vwCl (wX o1 a1 k1 Sz St Ct T L lk1 fp1 fo1 lp1 dn1 ac1 ea1 la1 ne1 nl1 eA1 lA1) H := hPx
  have hDx : va_D A (wX o1 a1 k1 Sz St Ct T L lk1 fp1 fo1 lp1 dn1 ac1 ea1 la1 ne1 nl1 eA1 lA1) := hDx
  have hPm : va_P D vwCl (wM o2 a2 k2 Sz St Ct L Tm fi mo) H := hPm
  have hDm : va_D A (wM o2 a2 k2 Sz St Ct L Tm fi mo) := hDm
  have hX : sw_dis (wX o1 a1 k1 Sz St Ct T L lk1 fp1 fo1 lp1 dn1 ac1 ea1 la1 ne1 nl1 eA1 lA1) (wM o2 a2 k2 Sz St Ct L Tm fi mo) := hX
  refine lv_aload_n hx hb dL_law_295 rfl (lv_at hl 2 rfl) ?_
  refine lv_aload_n hx hb dL_law_296 rfl (lv_at hl 0 rfl) ?_
  refine lv_iload_n hx hb dL_law_297 rfl (lv_at hl 3 rfl) ?_
  refine lv_iconst (v := nI 1) hx hb dL_law_298 (by decide) ?_
  refine sw_add hx hb dL_law_299 ?_
  refine sw_sld hx hb hXs hbl hbA hS (by omega) (by omega) (v := zI z1) e1 dL_law_300 ?_
  refine sw_lcI (As := [.int (zI (z1))]) (rest := [.int (r1)]) (C := RX1) (ci := 1) (q0 := 0) S (fun sz => mX1_firstEnd l l1 u1 hOm sz) (cwV 1 hts (lw_V q283 q284 q285 q21 q286) rfl rfl rfl (by decide +kernel) ⟨Nat.le_of_ble_eq_true rfl, Nat.le_of_ble_eq_true rfl⟩) hK2 hPm hDm hPx hX.symm hS hA rfl rfl rfl rfl hl.1 rfl (Nat.le_of_ble_eq_true rfl) dL_law_301 ⟨Nat.le_refl _, Nat.le_refl _⟩ (fun r2 u H locs hr2 hPm hDm hPx hX hS => ?_)
  obtain ⟨fi2, mo2⟩ := u
  have hX := hX.symm
  have hr2 : sw_feR Sz St Ct Tm L z1 r2 := hr2
  have hPx : va_P D vwCl (wX o1 a1 k1 Sz St Ct T L lk1 fp1 fo1 lp1 dn1 ac1 ea1 la1 ne1 nl1 eA1 lA1) H := hPx
  have hDx : va_D A (wX o1 a1 k1 Sz St Ct T L lk1 fp1 fo1 lp1 dn1 ac1 ea1 la1 ne1 nl1 eA1 lA1) := hDx
  have hPm : va_P D vwCl (wM o2 a2 k2 Sz St Ct L Tm fi2 mo2) H := hPm
  have hDm : va_D A (wM o2 a2 k2 Sz St Ct L Tm fi2 mo2) := hDm
  have hX : sw_dis (wX o1 a1 k1 Sz St Ct T L lk1 fp1 fo1 lp1 dn1 ac1 ea1 la1 ne1 nl1 eA1 lA1) (wM o2 a2 k2 Sz St Ct L Tm fi2 mo2) := hX
  have heq := sw_feR_uniq hTT hr1.1 hr2
  refine lv_icmp_eq (tgt := 434) hx hb dL_law_304 (by decide) (fun _ => ?_) (fun q => absurd heq q)
  exact kk _ _ ⟨_, _, _, _, _, _, _, _, _, _, _, _, _, _, _, _, _, _, _, _, hO, hr1.2, hT4, hTT, hPx, hDx, hPm, hDm, hX⟩ hS
set_option maxHeartbeats 4000000 in
set_option maxRecDepth 100000 in
theorem lc_9 (S : CallFix p m c cL_law 4 s args lw_all R_law) (hXs : va_X b n xs s H0) (hbl : b < H0.size) (hbA : ¬ A b) (hn : n ≤ 256) (hi : i + 4 ≤ n) (hA : ∀ q, H0.size ≤ q → A q) (hK1 : va_K D vwCl (tyX k1) s) (hK2 : va_K D vwCl (tyM k2) s) (hI : sw_Inv D A o1 a1 k1 o2 a2 k2 H) (hS : va_S A H0 H locs) (hl : lv_has ls 4 [(0, .ref b), (1, .ref o1), (2, .ref o2), (3, .int (nI i))]) (kk : ∀ (H : Heap) (locs : List Loc), sw_Inv D A o1 a1 k1 o2 a2 k2 H → va_S A H0 H locs → W p l e room_1 s m args below meth c H locs 600000 7290000 Q (F0 m 434 ls [])) : W p l e room_1 s m args below meth c H locs 600000 7290000 Q (F0 m 309 ls []) := by
  have hx := S.1
  have hb := S.2.1
  have hown := S.2.2.2.1
  have hts := S.2.2.2.2
  obtain ⟨Sz, St, Ct, T, L, lk, fp, fo, lp, dn, ac, ea, la, ne, nl, eA, lA, Tm, fi, mo, hO, hCa, hT4, hTT, hPx, hDx, hPm, hDm, hX⟩ := hI
  have hOm : sw_Ok Sz St Ct Tm L := ⟨hO.1, hO.2.1, hO.2.2.1, hT4, hO.2.2.2.2⟩
  obtain ⟨z1, l1, u1, e1⟩ := zI_of (xs (i + 1))
  obtain ⟨z2, l2, u2, e2⟩ := zI_of (xs (i + 2))
  refine lv_aload_n hx hb dL_law_309 rfl (lv_at hl 1 rfl) ?_
  refine lv_aload_n hx hb dL_law_310 rfl (lv_at hl 0 rfl) ?_
  refine lv_iload_n hx hb dL_law_311 rfl (lv_at hl 3 rfl) ?_
  refine lv_iconst (v := nI 1) hx hb dL_law_312 (by decide) ?_
  refine sw_add hx hb dL_law_313 ?_
  refine sw_sld hx hb hXs hbl hbA hS (by omega) (by omega) (v := zI z1) e1 dL_law_314 ?_
  refine lv_aload_n hx hb dL_law_315 rfl (lv_at hl 0 rfl) ?_
  refine lv_iload_n hx hb dL_law_316 rfl (lv_at hl 3 rfl) ?_
  refine lv_iconst (v := nI 2) hx hb dL_law_317 (by decide) ?_
  refine sw_add hx hb dL_law_318 ?_
  refine sw_sld hx hb hXs hbl hbA hS (by omega) (by omega) (v := zI z2) e2 dL_law_319 ?_
  refine sw_lcI (As := [.int (zI (z1)), .int (zI (z2))]) (rest := []) (C := RX0) (ci := 0) (q0 := 0) S (fun sz => mX0_earliest l l1 u1 l2 u2 hO hCa sz) (cwV 2 hts (lw_V q180 q181 q182 q20 q183) rfl rfl rfl (by decide +kernel) ⟨Nat.le_of_ble_eq_true rfl, Nat.le_of_ble_eq_true rfl⟩) hK1 hPx hDx hPm hX hS hA rfl rfl rfl rfl hl.1 rfl (Nat.le_of_ble_eq_true rfl) dL_law_320 ⟨Nat.le_refl _, Nat.le_refl _⟩ (fun r1 u H locs hr1 hPx hDx hPm hX hS => ?_)
  obtain ⟨lk1, fp1, fo1, lp1, dn1, ac1, ea1, la1, ne1, nl1, eA1, lA1⟩ := u
  have hr1 : sw_eaR Sz St Ct T L z1 z2 r1 ∧ sw_Ca Sz St Ct T L lk1 fp1 fo1 lp1 dn1 ac1 ea1 la1 eA1 lA1 := hr1
  have hPx : va_P D vwCl (wX o1 a1 k1 Sz St Ct T L lk1 fp1 fo1 lp1 dn1 ac1 ea1 la1 ne1 nl1 eA1 lA1) H := hPx
  have hDx : va_D A (wX o1 a1 k1 Sz St Ct T L lk1 fp1 fo1 lp1 dn1 ac1 ea1 la1 ne1 nl1 eA1 lA1) := hDx
  have hPm : va_P D vwCl (wM o2 a2 k2 Sz St Ct L Tm fi mo) H := hPm
  have hDm : va_D A (wM o2 a2 k2 Sz St Ct L Tm fi mo) := hDm
  have hX : sw_dis (wX o1 a1 k1 Sz St Ct T L lk1 fp1 fo1 lp1 dn1 ac1 ea1 la1 ne1 nl1 eA1 lA1) (wM o2 a2 k2 Sz St Ct L Tm fi mo) := hX
  refine lv_aload_n hx hb dL_law_323 rfl (lv_at hl 2 rfl) ?_
  refine lv_aload_n hx hb dL_law_324 rfl (lv_at hl 0 rfl) ?_
  refine lv_iload_n hx hb dL_law_325 rfl (lv_at hl 3 rfl) ?_
  refine lv_iconst (v := nI 1) hx hb dL_law_326 (by decide) ?_
  refine sw_add hx hb dL_law_327 ?_
  refine sw_sld hx hb hXs hbl hbA hS (by omega) (by omega) (v := zI z1) e1 dL_law_328 ?_
  refine lv_aload_n hx hb dL_law_329 rfl (lv_at hl 0 rfl) ?_
  refine lv_iload_n hx hb dL_law_330 rfl (lv_at hl 3 rfl) ?_
  refine lv_iconst (v := nI 2) hx hb dL_law_331 (by decide) ?_
  refine sw_add hx hb dL_law_332 ?_
  refine sw_sld hx hb hXs hbl hbA hS (by omega) (by omega) (v := zI z2) e2 dL_law_333 ?_
  refine sw_lcI (As := [.int (zI (z1)), .int (zI (z2))]) (rest := [.int (r1)]) (C := RX1) (ci := 1) (q0 := 0) S (fun sz => mX1_earliest l l1 u1 l2 u2 hOm sz) (cwV 2 hts (lw_V q287 q288 q289 q21 q290) rfl rfl rfl (by decide +kernel) ⟨Nat.le_of_ble_eq_true rfl, Nat.le_of_ble_eq_true rfl⟩) hK2 hPm hDm hPx hX.symm hS hA rfl rfl rfl rfl hl.1 rfl (Nat.le_of_ble_eq_true rfl) dL_law_334 ⟨Nat.le_refl _, Nat.le_refl _⟩ (fun r2 u H locs hr2 hPm hDm hPx hX hS => ?_)
  obtain ⟨fi2, mo2⟩ := u
  have hX := hX.symm
  have hr2 : sw_eaR Sz St Ct Tm L z1 z2 r2 := hr2
  have hPx : va_P D vwCl (wX o1 a1 k1 Sz St Ct T L lk1 fp1 fo1 lp1 dn1 ac1 ea1 la1 ne1 nl1 eA1 lA1) H := hPx
  have hDx : va_D A (wX o1 a1 k1 Sz St Ct T L lk1 fp1 fo1 lp1 dn1 ac1 ea1 la1 ne1 nl1 eA1 lA1) := hDx
  have hPm : va_P D vwCl (wM o2 a2 k2 Sz St Ct L Tm fi2 mo2) H := hPm
  have hDm : va_D A (wM o2 a2 k2 Sz St Ct L Tm fi2 mo2) := hDm
  have hX : sw_dis (wX o1 a1 k1 Sz St Ct T L lk1 fp1 fo1 lp1 dn1 ac1 ea1 la1 ne1 nl1 eA1 lA1) (wM o2 a2 k2 Sz St Ct L Tm fi2 mo2) := hX
  have heq := sw_eaR_uniq hTT hr1.1 hr2
  refine lv_icmp_eq (tgt := 434) hx hb dL_law_337 (by decide) (fun _ => ?_) (fun q => absurd heq q)
  exact kk _ _ ⟨_, _, _, _, _, _, _, _, _, _, _, _, _, _, _, _, _, _, _, _, hO, hr1.2, hT4, hTT, hPx, hDx, hPm, hDm, hX⟩ hS
set_option maxHeartbeats 4000000 in
set_option maxRecDepth 100000 in
theorem lc_10 (S : CallFix p m c cL_law 4 s args lw_all R_law) (hXs : va_X b n xs s H0) (hbl : b < H0.size) (hbA : ¬ A b) (hn : n ≤ 256) (hi : i + 4 ≤ n) (hA : ∀ q, H0.size ≤ q → A q) (hK1 : va_K D vwCl (tyX k1) s) (hK2 : va_K D vwCl (tyM k2) s) (hI : sw_Inv D A o1 a1 k1 o2 a2 k2 H) (hS : va_S A H0 H locs) (hl : lv_has ls 4 [(0, .ref b), (1, .ref o1), (2, .ref o2), (3, .int (nI i))]) (kk : ∀ (H : Heap) (locs : List Loc), sw_Inv D A o1 a1 k1 o2 a2 k2 H → va_S A H0 H locs → W p l e room_1 s m args below meth c H locs 600000 7290000 Q (F0 m 434 ls [])) : W p l e room_1 s m args below meth c H locs 600000 7290000 Q (F0 m 342 ls []) := by
  have hx := S.1
  have hb := S.2.1
  have hown := S.2.2.2.1
  have hts := S.2.2.2.2
  obtain ⟨Sz, St, Ct, T, L, lk, fp, fo, lp, dn, ac, ea, la, ne, nl, eA, lA, Tm, fi, mo, hO, hCa, hT4, hTT, hPx, hDx, hPm, hDm, hX⟩ := hI
  have hOm : sw_Ok Sz St Ct Tm L := ⟨hO.1, hO.2.1, hO.2.2.1, hT4, hO.2.2.2.2⟩
  obtain ⟨z1, l1, u1, e1⟩ := zI_of (xs (i + 1))
  obtain ⟨z2, l2, u2, e2⟩ := zI_of (xs (i + 2))
  refine lv_aload_n hx hb dL_law_342 rfl (lv_at hl 1 rfl) ?_
  refine lv_aload_n hx hb dL_law_343 rfl (lv_at hl 0 rfl) ?_
  refine lv_iload_n hx hb dL_law_344 rfl (lv_at hl 3 rfl) ?_
  refine lv_iconst (v := nI 1) hx hb dL_law_345 (by decide) ?_
  refine sw_add hx hb dL_law_346 ?_
  refine sw_sld hx hb hXs hbl hbA hS (by omega) (by omega) (v := zI z1) e1 dL_law_347 ?_
  refine lv_aload_n hx hb dL_law_348 rfl (lv_at hl 0 rfl) ?_
  refine lv_iload_n hx hb dL_law_349 rfl (lv_at hl 3 rfl) ?_
  refine lv_iconst (v := nI 2) hx hb dL_law_350 (by decide) ?_
  refine sw_add hx hb dL_law_351 ?_
  refine sw_sld hx hb hXs hbl hbA hS (by omega) (by omega) (v := zI z2) e2 dL_law_352 ?_
  refine sw_lcI (As := [.int (zI (z1)), .int (zI (z2))]) (rest := []) (C := RX0) (ci := 0) (q0 := 0) S (fun sz => mX0_latest l l1 u1 l2 u2 hO hCa sz) (cwV 2 hts (lw_V q184 q185 q186 q20 q187) rfl rfl rfl (by decide +kernel) ⟨Nat.le_of_ble_eq_true rfl, Nat.le_of_ble_eq_true rfl⟩) hK1 hPx hDx hPm hX hS hA rfl rfl rfl rfl hl.1 rfl (Nat.le_of_ble_eq_true rfl) dL_law_353 ⟨Nat.le_refl _, Nat.le_refl _⟩ (fun r1 u H locs hr1 hPx hDx hPm hX hS => ?_)
  obtain ⟨lk1, fp1, fo1, lp1, dn1, ac1, ea1, la1, ne1, nl1, eA1, lA1⟩ := u
  have hr1 : sw_laR Sz St Ct T L z1 z2 r1 ∧ sw_Ca Sz St Ct T L lk1 fp1 fo1 lp1 dn1 ac1 ea1 la1 eA1 lA1 := hr1
  have hPx : va_P D vwCl (wX o1 a1 k1 Sz St Ct T L lk1 fp1 fo1 lp1 dn1 ac1 ea1 la1 ne1 nl1 eA1 lA1) H := hPx
  have hDx : va_D A (wX o1 a1 k1 Sz St Ct T L lk1 fp1 fo1 lp1 dn1 ac1 ea1 la1 ne1 nl1 eA1 lA1) := hDx
  have hPm : va_P D vwCl (wM o2 a2 k2 Sz St Ct L Tm fi mo) H := hPm
  have hDm : va_D A (wM o2 a2 k2 Sz St Ct L Tm fi mo) := hDm
  have hX : sw_dis (wX o1 a1 k1 Sz St Ct T L lk1 fp1 fo1 lp1 dn1 ac1 ea1 la1 ne1 nl1 eA1 lA1) (wM o2 a2 k2 Sz St Ct L Tm fi mo) := hX
  refine lv_aload_n hx hb dL_law_356 rfl (lv_at hl 2 rfl) ?_
  refine lv_aload_n hx hb dL_law_357 rfl (lv_at hl 0 rfl) ?_
  refine lv_iload_n hx hb dL_law_358 rfl (lv_at hl 3 rfl) ?_
  refine lv_iconst (v := nI 1) hx hb dL_law_359 (by decide) ?_
  refine sw_add hx hb dL_law_360 ?_
  refine sw_sld hx hb hXs hbl hbA hS (by omega) (by omega) (v := zI z1) e1 dL_law_361 ?_
  refine lv_aload_n hx hb dL_law_362 rfl (lv_at hl 0 rfl) ?_
  refine lv_iload_n hx hb dL_law_363 rfl (lv_at hl 3 rfl) ?_
  refine lv_iconst (v := nI 2) hx hb dL_law_364 (by decide) ?_
  refine sw_add hx hb dL_law_365 ?_
  refine sw_sld hx hb hXs hbl hbA hS (by omega) (by omega) (v := zI z2) e2 dL_law_366 ?_
  refine sw_lcI (As := [.int (zI (z1)), .int (zI (z2))]) (rest := [.int (r1)]) (C := RX1) (ci := 1) (q0 := 0) S (fun sz => mX1_latest l l1 u1 l2 u2 hOm sz) (cwV 2 hts (lw_V q291 q292 q293 q21 q294) rfl rfl rfl (by decide +kernel) ⟨Nat.le_of_ble_eq_true rfl, Nat.le_of_ble_eq_true rfl⟩) hK2 hPm hDm hPx hX.symm hS hA rfl rfl rfl rfl hl.1 rfl (Nat.le_of_ble_eq_true rfl) dL_law_367 ⟨Nat.le_refl _, Nat.le_refl _⟩ (fun r2 u H locs hr2 hPm hDm hPx hX hS => ?_)
  obtain ⟨fi2, mo2⟩ := u
  have hX := hX.symm
  have hr2 : sw_laR Sz St Ct Tm L z1 z2 r2 := hr2
  have hPx : va_P D vwCl (wX o1 a1 k1 Sz St Ct T L lk1 fp1 fo1 lp1 dn1 ac1 ea1 la1 ne1 nl1 eA1 lA1) H := hPx
  have hDx : va_D A (wX o1 a1 k1 Sz St Ct T L lk1 fp1 fo1 lp1 dn1 ac1 ea1 la1 ne1 nl1 eA1 lA1) := hDx
  have hPm : va_P D vwCl (wM o2 a2 k2 Sz St Ct L Tm fi2 mo2) H := hPm
  have hDm : va_D A (wM o2 a2 k2 Sz St Ct L Tm fi2 mo2) := hDm
  have hX : sw_dis (wX o1 a1 k1 Sz St Ct T L lk1 fp1 fo1 lp1 dn1 ac1 ea1 la1 ne1 nl1 eA1 lA1) (wM o2 a2 k2 Sz St Ct L Tm fi2 mo2) := hX
  have heq := sw_laR_uniq hTT hr1.1 hr2
  refine lv_icmp_eq (tgt := 434) hx hb dL_law_370 (by decide) (fun _ => ?_) (fun q => absurd heq q)
  exact kk _ _ ⟨_, _, _, _, _, _, _, _, _, _, _, _, _, _, _, _, _, _, _, _, hO, hr1.2, hT4, hTT, hPx, hDx, hPm, hDm, hX⟩ hS
set_option maxHeartbeats 4000000 in
set_option maxRecDepth 100000 in
theorem lc_11 (S : CallFix p m c cL_law 4 s args lw_all R_law) (hXs : va_X b n xs s H0) (hbl : b < H0.size) (hbA : ¬ A b) (hn : n ≤ 256) (hi : i + 4 ≤ n) (hA : ∀ q, H0.size ≤ q → A q) (hK1 : va_K D vwCl (tyX k1) s) (hK2 : va_K D vwCl (tyM k2) s) (hI : sw_Inv D A o1 a1 k1 o2 a2 k2 H) (hS : va_S A H0 H locs) (hl : lv_has ls 4 [(0, .ref b), (1, .ref o1), (2, .ref o2), (3, .int (nI i))]) (kk : ∀ (H : Heap) (locs : List Loc), sw_Inv D A o1 a1 k1 o2 a2 k2 H → va_S A H0 H locs → W p l e room_1 s m args below meth c H locs 600000 7290000 Q (F0 m 434 ls [])) : W p l e room_1 s m args below meth c H locs 600000 7290000 Q (F0 m 375 ls []) := by
  have hx := S.1
  have hb := S.2.1
  have hown := S.2.2.2.1
  have hts := S.2.2.2.2
  obtain ⟨Sz, St, Ct, T, L, lk, fp, fo, lp, dn, ac, ea, la, ne, nl, eA, lA, Tm, fi, mo, hO, hCa, hT4, hTT, hPx, hDx, hPm, hDm, hX⟩ := hI
  have hOm : sw_Ok Sz St Ct Tm L := ⟨hO.1, hO.2.1, hO.2.2.1, hT4, hO.2.2.2.2⟩
  obtain ⟨z1, l1, u1, e1⟩ := zI_of (xs (i + 1))
  refine lv_aload_n hx hb dL_law_375 rfl (lv_at hl 1 rfl) ?_
  refine lv_aload_n hx hb dL_law_376 rfl (lv_at hl 0 rfl) ?_
  refine lv_iload_n hx hb dL_law_377 rfl (lv_at hl 3 rfl) ?_
  refine lv_iconst (v := nI 1) hx hb dL_law_378 (by decide) ?_
  refine sw_add hx hb dL_law_379 ?_
  refine sw_sld hx hb hXs hbl hbA hS (by omega) (by omega) (v := zI z1) e1 dL_law_380 ?_
  refine sw_lcI (As := [.int (zI (z1))]) (rest := []) (C := RX0) (ci := 0) (q0 := 0) S (fun sz => mX0_longest l l1 u1 hO hCa sz) (cwV 1 hts (lw_V q188 q189 q190 q20 q191) rfl rfl rfl (by decide +kernel) ⟨Nat.le_of_ble_eq_true rfl, Nat.le_of_ble_eq_true rfl⟩) hK1 hPx hDx hPm hX hS hA rfl rfl rfl rfl hl.1 rfl (Nat.le_of_ble_eq_true rfl) dL_law_381 ⟨Nat.le_refl _, Nat.le_refl _⟩ (fun r1 u H locs hr1 hPx hDx hPm hX hS => ?_)
  obtain ⟨lk1, fp1, fo1, lp1, dn1, ac1, ea1, la1, ne1, nl1, eA1, lA1⟩ := u
  have hr1 : (∃ x, r1 = nI x ∧ sw_mx (sw_lonP Sz St Ct T z1 L) x) ∧ sw_Ca Sz St Ct T L lk1 fp1 fo1 lp1 dn1 ac1 ea1 la1 eA1 lA1 := hr1
  have hPx : va_P D vwCl (wX o1 a1 k1 Sz St Ct T L lk1 fp1 fo1 lp1 dn1 ac1 ea1 la1 ne1 nl1 eA1 lA1) H := hPx
  have hDx : va_D A (wX o1 a1 k1 Sz St Ct T L lk1 fp1 fo1 lp1 dn1 ac1 ea1 la1 ne1 nl1 eA1 lA1) := hDx
  have hPm : va_P D vwCl (wM o2 a2 k2 Sz St Ct L Tm fi mo) H := hPm
  have hDm : va_D A (wM o2 a2 k2 Sz St Ct L Tm fi mo) := hDm
  have hX : sw_dis (wX o1 a1 k1 Sz St Ct T L lk1 fp1 fo1 lp1 dn1 ac1 ea1 la1 ne1 nl1 eA1 lA1) (wM o2 a2 k2 Sz St Ct L Tm fi mo) := hX
  refine lv_aload_n hx hb dL_law_384 rfl (lv_at hl 2 rfl) ?_
  refine lv_aload_n hx hb dL_law_385 rfl (lv_at hl 0 rfl) ?_
  refine lv_iload_n hx hb dL_law_386 rfl (lv_at hl 3 rfl) ?_
  refine lv_iconst (v := nI 1) hx hb dL_law_387 (by decide) ?_
  refine sw_add hx hb dL_law_388 ?_
  refine sw_sld hx hb hXs hbl hbA hS (by omega) (by omega) (v := zI z1) e1 dL_law_389 ?_
  refine sw_lcI (As := [.int (zI (z1))]) (rest := [.int (r1)]) (C := RX1) (ci := 1) (q0 := 0) S (fun sz => mX1_longest l l1 u1 hOm sz) (cwV 1 hts (lw_V q295 q296 q297 q21 q298) rfl rfl rfl (by decide +kernel) ⟨Nat.le_of_ble_eq_true rfl, Nat.le_of_ble_eq_true rfl⟩) hK2 hPm hDm hPx hX.symm hS hA rfl rfl rfl rfl hl.1 rfl (Nat.le_of_ble_eq_true rfl) dL_law_390 ⟨Nat.le_refl _, Nat.le_refl _⟩ (fun r2 u H locs hr2 hPm hDm hPx hX hS => ?_)
  obtain ⟨fi2, mo2⟩ := u
  have hX := hX.symm
  have hr2 : (∃ x, r2 = nI x ∧ sw_mx (sw_lonP Sz St Ct Tm z1 L) x) := hr2
  have hPx : va_P D vwCl (wX o1 a1 k1 Sz St Ct T L lk1 fp1 fo1 lp1 dn1 ac1 ea1 la1 ne1 nl1 eA1 lA1) H := hPx
  have hDx : va_D A (wX o1 a1 k1 Sz St Ct T L lk1 fp1 fo1 lp1 dn1 ac1 ea1 la1 ne1 nl1 eA1 lA1) := hDx
  have hPm : va_P D vwCl (wM o2 a2 k2 Sz St Ct L Tm fi2 mo2) H := hPm
  have hDm : va_D A (wM o2 a2 k2 Sz St Ct L Tm fi2 mo2) := hDm
  have hX : sw_dis (wX o1 a1 k1 Sz St Ct T L lk1 fp1 fo1 lp1 dn1 ac1 ea1 la1 ne1 nl1 eA1 lA1) (wM o2 a2 k2 Sz St Ct L Tm fi2 mo2) := hX
  have heq := sw_lon_uniq hTT hr1.1 hr2
  refine lv_icmp_eq (tgt := 434) hx hb dL_law_393 (by decide) (fun _ => ?_) (fun q => absurd heq q)
  exact kk _ _ ⟨_, _, _, _, _, _, _, _, _, _, _, _, _, _, _, _, _, _, _, _, hO, hr1.2, hT4, hTT, hPx, hDx, hPm, hDm, hX⟩ hS
set_option maxHeartbeats 4000000 in
set_option maxRecDepth 100000 in
theorem lc_12 (S : CallFix p m c cL_law 4 s args lw_all R_law) (hXs : va_X b n xs s H0) (hbl : b < H0.size) (hbA : ¬ A b) (hn : n ≤ 256) (hi : i + 4 ≤ n) (hA : ∀ q, H0.size ≤ q → A q) (hK1 : va_K D vwCl (tyX k1) s) (hK2 : va_K D vwCl (tyM k2) s) (hI : sw_Inv D A o1 a1 k1 o2 a2 k2 H) (hS : va_S A H0 H locs) (hl : lv_has ls 4 [(0, .ref b), (1, .ref o1), (2, .ref o2), (3, .int (nI i))]) (kk : ∀ (H : Heap) (locs : List Loc), sw_Inv D A o1 a1 k1 o2 a2 k2 H → va_S A H0 H locs → W p l e room_1 s m args below meth c H locs 600000 7290000 Q (F0 m 434 ls [])) : W p l e room_1 s m args below meth c H locs 600000 7290000 Q (F0 m 398 ls []) := by
  have hx := S.1
  have hb := S.2.1
  have hown := S.2.2.2.1
  have hts := S.2.2.2.2
  obtain ⟨Sz, St, Ct, T, L, lk, fp, fo, lp, dn, ac, ea, la, ne, nl, eA, lA, Tm, fi, mo, hO, hCa, hT4, hTT, hPx, hDx, hPm, hDm, hX⟩ := hI
  have hOm : sw_Ok Sz St Ct Tm L := ⟨hO.1, hO.2.1, hO.2.2.1, hT4, hO.2.2.2.2⟩
  obtain ⟨z1, l1, u1, e1⟩ := zI_of (xs (i + 1))
  refine lv_aload_n hx hb dL_law_398 rfl (lv_at hl 1 rfl) ?_
  refine lv_aload_n hx hb dL_law_399 rfl (lv_at hl 0 rfl) ?_
  refine lv_iload_n hx hb dL_law_400 rfl (lv_at hl 3 rfl) ?_
  refine lv_iconst (v := nI 1) hx hb dL_law_401 (by decide) ?_
  refine sw_add hx hb dL_law_402 ?_
  refine sw_sld hx hb hXs hbl hbA hS (by omega) (by omega) (v := zI z1) e1 dL_law_403 ?_
  refine sw_lcI (As := [.int (zI (z1))]) (rest := []) (C := RX0) (ci := 0) (q0 := 0) S (fun sz => mX0_completing l l1 u1 hO hCa sz) (cwV 1 hts (lw_V q193 q194 q195 q20 q196) rfl rfl rfl (by decide +kernel) ⟨Nat.le_of_ble_eq_true rfl, Nat.le_of_ble_eq_true rfl⟩) hK1 hPx hDx hPm hX hS hA rfl rfl rfl rfl hl.1 rfl (Nat.le_of_ble_eq_true rfl) dL_law_404 ⟨Nat.le_refl _, Nat.le_refl _⟩ (fun r1 u H locs hr1 hPx hDx hPm hX hS => ?_)
  obtain ⟨lk1, fp1, fo1, lp1, dn1, ac1, ea1, la1, ne1, nl1, eA1, lA1⟩ := u
  have hr1 : sw_coR Sz St Ct T L z1 r1 ∧ sw_Ca Sz St Ct T L lk1 fp1 fo1 lp1 dn1 ac1 ea1 la1 eA1 lA1 := hr1
  have hPx : va_P D vwCl (wX o1 a1 k1 Sz St Ct T L lk1 fp1 fo1 lp1 dn1 ac1 ea1 la1 ne1 nl1 eA1 lA1) H := hPx
  have hDx : va_D A (wX o1 a1 k1 Sz St Ct T L lk1 fp1 fo1 lp1 dn1 ac1 ea1 la1 ne1 nl1 eA1 lA1) := hDx
  have hPm : va_P D vwCl (wM o2 a2 k2 Sz St Ct L Tm fi mo) H := hPm
  have hDm : va_D A (wM o2 a2 k2 Sz St Ct L Tm fi mo) := hDm
  have hX : sw_dis (wX o1 a1 k1 Sz St Ct T L lk1 fp1 fo1 lp1 dn1 ac1 ea1 la1 ne1 nl1 eA1 lA1) (wM o2 a2 k2 Sz St Ct L Tm fi mo) := hX
  refine lv_aload_n hx hb dL_law_407 rfl (lv_at hl 2 rfl) ?_
  refine lv_aload_n hx hb dL_law_408 rfl (lv_at hl 0 rfl) ?_
  refine lv_iload_n hx hb dL_law_409 rfl (lv_at hl 3 rfl) ?_
  refine lv_iconst (v := nI 1) hx hb dL_law_410 (by decide) ?_
  refine sw_add hx hb dL_law_411 ?_
  refine sw_sld hx hb hXs hbl hbA hS (by omega) (by omega) (v := zI z1) e1 dL_law_412 ?_
  refine sw_lcI (As := [.int (zI (z1))]) (rest := [.int (r1)]) (C := RX1) (ci := 1) (q0 := 0) S (fun sz => mX1_completing l l1 u1 hOm sz) (cwV 1 hts (lw_V q299 q300 q301 q21 q302) rfl rfl rfl (by decide +kernel) ⟨Nat.le_of_ble_eq_true rfl, Nat.le_of_ble_eq_true rfl⟩) hK2 hPm hDm hPx hX.symm hS hA rfl rfl rfl rfl hl.1 rfl (Nat.le_of_ble_eq_true rfl) dL_law_413 ⟨Nat.le_refl _, Nat.le_refl _⟩ (fun r2 u H locs hr2 hPm hDm hPx hX hS => ?_)
  obtain ⟨T2, fi2, mo2⟩ := u
  have hX := hX.symm
  have hr2 : sw_coR Sz St Ct Tm L z1 r2 ∧ (∀ t, t < L → T2 t = Tm t) ∧ ∀ t, T2 t < 4 := hr2
  have hPx : va_P D vwCl (wX o1 a1 k1 Sz St Ct T L lk1 fp1 fo1 lp1 dn1 ac1 ea1 la1 ne1 nl1 eA1 lA1) H := hPx
  have hDx : va_D A (wX o1 a1 k1 Sz St Ct T L lk1 fp1 fo1 lp1 dn1 ac1 ea1 la1 ne1 nl1 eA1 lA1) := hDx
  have hPm : va_P D vwCl (wM o2 a2 k2 Sz St Ct L T2 fi2 mo2) H := hPm
  have hDm : va_D A (wM o2 a2 k2 Sz St Ct L T2 fi2 mo2) := hDm
  have hX : sw_dis (wX o1 a1 k1 Sz St Ct T L lk1 fp1 fo1 lp1 dn1 ac1 ea1 la1 ne1 nl1 eA1 lA1) (wM o2 a2 k2 Sz St Ct L T2 fi2 mo2) := hX
  have heq := sw_coR_uniq hTT hr1.1 hr2.1
  refine lv_icmp_eq (tgt := 434) hx hb dL_law_416 (by decide) (fun _ => ?_) (fun q => absurd heq q)
  exact kk _ _ ⟨_, _, _, _, _, _, _, _, _, _, _, _, _, _, _, _, _, _, _, _, hO, hr1.2, hr2.2.2, (fun t h => (hr2.2.1 t h).trans (hTT t h)), hPx, hDx, hPm, hDm, hX⟩ hS
set_option maxHeartbeats 4000000 in
set_option maxRecDepth 100000 in
theorem lc_13 (S : CallFix p m c cL_law 4 s args lw_all R_law) (hXs : va_X b n xs s H0) (hbl : b < H0.size) (hbA : ¬ A b) (hn : n ≤ 256) (hi : i + 4 ≤ n) (hA : ∀ q, H0.size ≤ q → A q) (hK1 : va_K D vwCl (tyX k1) s) (hK2 : va_K D vwCl (tyM k2) s) (hI : sw_Inv D A o1 a1 k1 o2 a2 k2 H) (hS : va_S A H0 H locs) (hl : lv_has ls 4 [(0, .ref b), (1, .ref o1), (2, .ref o2), (3, .int (nI i))]) (kk : ∀ (H : Heap) (locs : List Loc), sw_Inv D A o1 a1 k1 o2 a2 k2 H → va_S A H0 H locs → W p l e room_1 s m args below meth c H locs 600000 7290000 Q (F0 m 434 ls [])) : W p l e room_1 s m args below meth c H locs 600000 7290000 Q (F0 m 421 ls []) := by
  have hx := S.1
  have hb := S.2.1
  have hown := S.2.2.2.1
  have hts := S.2.2.2.2
  obtain ⟨Sz, St, Ct, T, L, lk, fp, fo, lp, dn, ac, ea, la, ne, nl, eA, lA, Tm, fi, mo, hO, hCa, hT4, hTT, hPx, hDx, hPm, hDm, hX⟩ := hI
  have hOm : sw_Ok Sz St Ct Tm L := ⟨hO.1, hO.2.1, hO.2.2.1, hT4, hO.2.2.2.2⟩
  refine lv_aload_n hx hb dL_law_421 rfl (lv_at hl 1 rfl) ?_
  refine sw_cvR (As := []) (rest := []) (C := RX0) (ci := 0) (q0 := 0) S (mX0_emptyFits l hO.1 hO.2.2.1) (cwV 0 hts (lw_V q197 q198 q199 q20 q200) rfl rfl rfl (by decide +kernel) ⟨Nat.le_of_ble_eq_true rfl, Nat.le_of_ble_eq_true rfl⟩) hK1 hPx rfl rfl rfl rfl hl.1 rfl (Nat.le_of_ble_eq_true rfl) dL_law_422 ⟨Nat.le_refl _, Nat.le_refl _⟩ (fun r1 hr1 => ?_)
  have hr1 : ∃ x, r1 = nI x ∧ sw_set 4 (fun j => sw_open Ct (j * 6) (j * 6 + Sz j)) x := hr1
  refine lv_aload_n hx hb dL_law_425 rfl (lv_at hl 2 rfl) ?_
  refine sw_lcI (As := []) (rest := [.int (r1)]) (C := RX1) (ci := 1) (q0 := 0) S (fun sz => mX1_emptyFits l hOm sz) (cwV 0 hts (lw_V q303 q304 q305 q21 q306) rfl rfl rfl (by decide +kernel) ⟨Nat.le_of_ble_eq_true rfl, Nat.le_of_ble_eq_true rfl⟩) hK2 hPm hDm hPx hX.symm hS hA rfl rfl rfl rfl hl.1 rfl (Nat.le_of_ble_eq_true rfl) dL_law_426 ⟨Nat.le_refl _, Nat.le_refl _⟩ (fun r2 u H locs hr2 hPm hDm hPx hX hS => ?_)
  obtain ⟨fi2, mo2⟩ := u
  have hX := hX.symm
  have hr2 : (∃ x, r2 = nI x ∧ sw_set 4 (fun j => sw_open Ct (j * 6) (j * 6 + Sz j)) x) := hr2
  have hPx : va_P D vwCl (wX o1 a1 k1 Sz St Ct T L lk fp fo lp dn ac ea la ne nl eA lA) H := hPx
  have hDx : va_D A (wX o1 a1 k1 Sz St Ct T L lk fp fo lp dn ac ea la ne nl eA lA) := hDx
  have hPm : va_P D vwCl (wM o2 a2 k2 Sz St Ct L Tm fi2 mo2) H := hPm
  have hDm : va_D A (wM o2 a2 k2 Sz St Ct L Tm fi2 mo2) := hDm
  have hX : sw_dis (wX o1 a1 k1 Sz St Ct T L lk fp fo lp dn ac ea la ne nl eA lA) (wM o2 a2 k2 Sz St Ct L Tm fi2 mo2) := hX
  have heq := sw_emp_uniq hr1 hr2
  refine lv_icmp_eq (tgt := 434) hx hb dL_law_429 (by decide) (fun _ => ?_) (fun q => absurd heq q)
  exact kk _ _ ⟨_, _, _, _, _, _, _, _, _, _, _, _, _, _, _, _, _, _, _, _, hO, hCa, hT4, hTT, hPx, hDx, hPm, hDm, hX⟩ hS
set_option maxHeartbeats 4000000 in
set_option maxRecDepth 100000 in
/-- the law's loop at its head -/
theorem law_loop (S : CallFix p m c cL_law 4 s args lw_all R_law) (hXs : va_X b n xs s H0) (hbl : b < H0.size) (hbA : ¬ A b) (hn : n ≤ 256) (hA : ∀ q, H0.size ≤ q → A q) (hK1 : va_K D vwCl (tyX k1) s) (hK2 : va_K D vwCl (tyM k2) s) (fin : ∀ (H : Heap) (locs : List Loc) (ls : Array Slot), va_S A H0 H locs → W p l e room_1 s m args below meth c H locs 600000 7290000 Q (F0 m 440 ls [])) : ∀ (f i : Nat), i ≤ 260 → n - i < f → ∀ (H : Heap) (locs : List Loc) (ls : Array Slot), sw_Inv D A o1 a1 k1 o2 a2 k2 H → va_S A H0 H locs → lv_has ls 4 [(0, .ref b), (1, .ref o1), (2, .ref o2), (3, .int (nI i))] → W p l e room_1 s m args below meth c H locs 600000 7290000 Q (F0 m 18 ls []) := by
  have hx := S.1
  have hb := S.2.1
  intro f
  induction f with
  | zero => intro i _ h; exact absurd h (Nat.not_lt_zero _)
  | succ f ih =>
    intro i hi260 hf H locs ls hI hS hl
    refine lv_iload_n hx hb dL_law_18 rfl (lv_at hl 3 rfl) ?_
    refine lv_aload_n hx hb dL_law_19 rfl (lv_at hl 0 rfl) ?_
    refine va_slen hx hb hXs hbl hbA hS dL_law_20 ?_
    refine lv_iconst (v := nI 4) hx hb dL_law_21 (by decide) ?_
    refine lv_isub hx hb dL_law_22 ?_
    refine sw_top (y := zI ((n : Int) - 4)) (sw_isubZ n 4) ?_
    refine sw_dgt (tgt := 440) hx hb dL_law_23 (by decide) (nI_toInt (show i < 2 ^ 31 by omega)) (zI_toInt (z := (n : Int) - 4) (by omega) (by omega)) (fun h23 => fin _ _ _ hS) (fun h23 => ?_)
    have back : ∀ (H : Heap) (locs : List Loc), sw_Inv D A o1 a1 k1 o2 a2 k2 H → va_S A H0 H locs → W p l e room_1 s m args below meth c H locs 600000 7290000 Q (F0 m 434 ls []) := by
      intro H locs hI hS
      refine lv_iinc (k := 3) (v := nI (i + 4)) (lv' := [(3, .int (nI (i + 4))), (0, .ref b), (1, .ref o1), (2, .ref o2)]) hx hb dL_law_434 hl rfl (nI_add _ 4) (by decide) rfl (fun ls hl => ?_)
      refine lv_goto (tgt := 18) hx hb dL_law_437 (by decide) ?_
      exact ih (i + 4) (by omega) (by omega) _ _ _ hI hS (lv_sub hl [1, 2, 3, 0] rfl)
    refine lv_aload_n hx hb dL_law_26 rfl (lv_at hl 0 rfl) ?_
    refine lv_iload_n hx hb dL_law_27 rfl (lv_at hl 3 rfl) ?_
    refine sw_sld hx hb hXs hbl hbA hS (by omega) (by omega) (v := xs i) rfl dL_law_28 ?_
    refine lv_bipush (v := nI 15) hx hb dL_law_29 (by decide) ?_
    refine lv_iand hx hb dL_law_31 ?_
    obtain ⟨j, hj, ej⟩ := pk_andE (xs i) 4 (m := nI 15) (by decide)
    refine sw_top ej ?_
    rcases (show j = 0 ∨ j = 1 ∨ j = 2 ∨ j = 3 ∨ j = 4 ∨ j = 5 ∨ j = 6 ∨ j = 7 ∨ j = 8 ∨ j = 9 ∨ j = 10 ∨ j = 11 ∨ j = 12 ∨ j = 13 ∨ j = 14 ∨ j = 15 by omega) with rfl | rfl | rfl | rfl | rfl | rfl | rfl | rfl | rfl | rfl | rfl | rfl | rfl | rfl | rfl | rfl
    · refine lv_tableIn (off := 72) (tgt := 104) hx hb dL_law_32 (by decide) (by decide) (by decide +kernel) (by decide) ?_
      exact lc_0 S hXs hbl hbA hn (by omega) hA hK1 hK2 hI hS hl back
    · refine lv_tableIn (off := 115) (tgt := 147) hx hb dL_law_32 (by decide) (by decide) (by decide +kernel) (by decide) ?_
      exact lc_1 S hXs hbl hbA hn (by omega) hA hK1 hK2 hI hS hl back
    · refine lv_tableIn (off := 138) (tgt := 170) hx hb dL_law_32 (by decide) (by decide) (by decide +kernel) (by decide) ?_
      exact lc_2 S hXs hbl hbA hn (by omega) hA hK1 hK2 hI hS hl back
    · refine lv_tableIn (off := 161) (tgt := 193) hx hb dL_law_32 (by decide) (by decide) (by decide +kernel) (by decide) ?_
      exact lc_3 S hXs hbl hbA hn (by omega) hA hK1 hK2 hI hS hl back
    · refine lv_tableIn (off := 184) (tgt := 216) hx hb dL_law_32 (by decide) (by decide) (by decide +kernel) (by decide) ?_
      exact lc_4 S hXs hbl hbA hn (by omega) hA hK1 hK2 hI hS hl back
    · refine lv_tableIn (off := 195) (tgt := 227) hx hb dL_law_32 (by decide) (by decide) (by decide +kernel) (by decide) ?_
      exact lc_5 S hXs hbl hbA hn (by omega) hA hK1 hK2 hI hS hl back
    · refine lv_tableIn (off := 208) (tgt := 240) hx hb dL_law_32 (by decide) (by decide) (by decide +kernel) (by decide) ?_
      exact lc_6 S hXs hbl hbA hn (by omega) hA hK1 hK2 hI hS hl back
    · refine lv_tableIn (off := 231) (tgt := 263) hx hb dL_law_32 (by decide) (by decide) (by decide +kernel) (by decide) ?_
      exact lc_7 S hXs hbl hbA hn (by omega) hA hK1 hK2 hI hS hl back
    · refine lv_tableIn (off := 254) (tgt := 286) hx hb dL_law_32 (by decide) (by decide) (by decide +kernel) (by decide) ?_
      exact lc_8 S hXs hbl hbA hn (by omega) hA hK1 hK2 hI hS hl back
    · refine lv_tableIn (off := 277) (tgt := 309) hx hb dL_law_32 (by decide) (by decide) (by decide +kernel) (by decide) ?_
      exact lc_9 S hXs hbl hbA hn (by omega) hA hK1 hK2 hI hS hl back
    · refine lv_tableIn (off := 310) (tgt := 342) hx hb dL_law_32 (by decide) (by decide) (by decide +kernel) (by decide) ?_
      exact lc_10 S hXs hbl hbA hn (by omega) hA hK1 hK2 hI hS hl back
    · refine lv_tableIn (off := 343) (tgt := 375) hx hb dL_law_32 (by decide) (by decide) (by decide +kernel) (by decide) ?_
      exact lc_11 S hXs hbl hbA hn (by omega) hA hK1 hK2 hI hS hl back
    · refine lv_tableIn (off := 366) (tgt := 398) hx hb dL_law_32 (by decide) (by decide) (by decide +kernel) (by decide) ?_
      exact lc_12 S hXs hbl hbA hn (by omega) hA hK1 hK2 hI hS hl back
    · refine lv_tableIn (off := 389) (tgt := 421) hx hb dL_law_32 (by decide) (by decide) (by decide +kernel) (by decide) ?_
      exact lc_13 S hXs hbl hbA hn (by omega) hA hK1 hK2 hI hS hl back
    · exact lv_tableOut (tgt := 434) hx hb dL_law_32 (Or.inr (by decide)) (by decide) (back _ _ hI hS)
    · exact lv_tableOut (tgt := 434) hx hb dL_law_32 (Or.inr (by decide)) (by decide) (back _ _ hI hS)
end SWLAW
end
section
set_option maxHeartbeats 4000000 in
set_option maxRecDepth 100000 in
theorem whole_start {p : Program} {e : Env} {s : State} {m : MethodId} {below : List Frame} {meth : Method} {c : Code} (l : Launch) {b L : Nat} {xs : Nat → Int32} (hL : L ≤ 256) (C0 : lw_At p s m meth c b L xs) : W p l e room_1 s m #[Value.ref b] below meth c s.heap [] 0 0 (lw_Z below #[Value.ref b] s) (entryFrame m ([Value.ref b] : List Value).toArray 4) := by
  obtain ⟨hx, hb, hr, hml, hown, hts0, hXs, hbl, hlocks, hgv⟩ := id C0
  have hts : ∀ w ∈ lw_all, w.before #[Value.ref b] s = true := fun w h => hts0 w (lw_all_tbl h)
  have hA : ∀ q : Nat, s.heap.size ≤ q → (fun q : Nat => s.heap.size ≤ q) q := fun _ h => h
  have hbA : ¬ (fun q : Nat => s.heap.size ≤ q) b := Nat.not_le.mpr hbl
  obtain ⟨c0, iS0, hKn0⟩ := u_known (C := RX0) (T := TX0) (N := 17) (n := 17) hts in_X0 (hts _ q23)
  obtain ⟨c1, iS1, hKn1⟩ := u_known (C := RX1) (T := TX1) (N := 7) (n := 7) hts in_X1 (hts _ q202)
  obtain ⟨D, hKc⟩ : ∃ D : va_G, ∀ (k : Nat) (q : vw_C), vwCl[k]? = some q → u_Kn s q.1 q.2.1 q.2.2 (D.1 k) (D.2 k) := by
    refine ⟨(fun k => if k = 0 then c0 else c1, fun k => if k = 0 then iS0 else iS1), ?_⟩
    intro k q hq
    match k, hq with
    | 0, hq => cases hq; exact hKn0
    | 1, hq => cases hq; exact hKn1
    | k + 2, hq => simp [vwCl] at hq
  have S : CallFix p m c cL_law 4 s #[Value.ref b] lw_all R_law := ⟨hx, hb, hml, hown, hts⟩
  have hS : va_S (fun q : Nat => s.heap.size ≤ q) s.heap s.heap [] := va_S.rf
  have hK : va_K D vwCl [] s := ⟨hKc, fun k q h => by simp at h⟩
  have hP : va_P D vwCl [] s.heap := fun k q h => by simp at h
  have hD : va_D (fun q : Nat => s.heap.size ≤ q) [] := ⟨fun i j p q h => by simp at h, fun k q h => by simp at h⟩
  have hl := lv_entry ([.ref b]) (n := 4) (Nat.le_of_ble_eq_true rfl)
  rw [lg_entry_eq]
  generalize (lg_sl ([.ref b]) ++ List.replicate (4 - (lg_sl ([.ref b])).length) Slot.unset).toArray = ls at hl ⊢
  have hl : lv_has ls 4 [(0, .ref b)] := hl
  refine va_new (ci := 0) (fs := [.null, .null, .null, .null, .int (nI 0), .int (nI 0), .int (nI 0), .null, .int (nI 0), .int (nI 0), .int (nI 0), .null, .null, .null, .null, .null, .null]) (C := RX0) (T := TX0) (N := 17) hx hb hts in_X0 tyX0 tyX0_ok hown (hts _ q22) (hts _ q23) (hts _ q20) hK hP hD hS hA rfl (fun j hj => by rcases (show j = 0 ∨ j = 1 ∨ j = 2 ∨ j = 3 ∨ j = 4 ∨ j = 5 ∨ j = 6 ∨ j = 7 ∨ j = 8 ∨ j = 9 ∨ j = 10 ∨ j = 11 ∨ j = 12 ∨ j = 13 ∨ j = 14 ∨ j = 15 ∨ j = 16 by omega) with rfl | rfl | rfl | rfl | rfl | rfl | rfl | rfl | rfl | rfl | rfl | rfl | rfl | rfl | rfl | rfl | rfl <;> rfl) (Nat.le_of_ble_eq_true rfl) (Nat.le_of_ble_eq_true rfl) dL_law_0 (fun o1 H hP hD hS => ?_)
  have hP : va_P D vwCl (w0X0 o1) H := hP
  have hD : va_D (fun q : Nat => s.heap.size ≤ q) (w0X0 o1) := hD
  refine W.cs (cells' := 1) (slots' := 17) rfl rfl ?_
  refine lv_dup hx hb dL_law_3 rfl ?_
  refine sw_lcN (rest := [.ref o1]) (w2 := []) S (fun sz => mX0_init l sz) (cwI 0 hts (lw_meth q26) rfl rfl rfl (hts _ q20) (hts _ q24) (hts _ q25) rfl (by decide +kernel) ⟨Nat.le_of_ble_eq_true rfl, Nat.le_of_ble_eq_true rfl⟩) hK hP hD (fun k q h => by simp at h) (fun i j p q _ h => by simp at h) hS hA hl.1 rfl (Nat.le_of_ble_eq_true rfl) dL_law_4 ⟨Nat.le_of_ble_eq_true rfl, Nat.le_of_ble_eq_true rfl⟩ (fun u H locs hPx hK1 hDx _ _ hS => ?_)
  obtain ⟨a1, k1⟩ := u
  have hPx : va_P D vwCl (wX o1 a1 k1 (fun _ => 0) (fun _ => 0) (fun _ => 0) (fun _ => 0) 0 0 0 (fun _ => 0) 0 0 0 (fun _ => 0) (fun _ => 0) (fun _ => 0) (fun _ => 0) (fun _ => 0) (fun _ => 0)) H := hPx
  have hDx : va_D (fun q : Nat => s.heap.size ≤ q) (wX o1 a1 k1 (fun _ => 0) (fun _ => 0) (fun _ => 0) (fun _ => 0) 0 0 0 (fun _ => 0) 0 0 0 (fun _ => 0) (fun _ => 0) (fun _ => 0) (fun _ => 0) (fun _ => 0) (fun _ => 0)) := hDx
  have hK1 : va_K D vwCl (tyX k1) s := hK1
  refine W.cs (cells' := 12) (slots' := 729) rfl rfl ?_
  refine lv_astore_n (lv' := [(1, .ref o1), (0, .ref b)]) hx hb dL_law_7 rfl hl (by decide) rfl (fun ls hl => ?_)
  refine va_new (ci := 1) (fs := [.null, .null, .null, .int (nI 0), .null, .null, .null]) (C := RX1) (T := TX1) (N := 7) hx hb hts in_X1 tyX1 tyX1_ok hown (hts _ q201) (hts _ q202) (hts _ q21) hK1 hPx hDx hS hA rfl (fun j hj => by rcases (show j = 0 ∨ j = 1 ∨ j = 2 ∨ j = 3 ∨ j = 4 ∨ j = 5 ∨ j = 6 by omega) with rfl | rfl | rfl | rfl | rfl | rfl | rfl <;> rfl) (Nat.le_of_ble_eq_true rfl) (Nat.le_of_ble_eq_true rfl) dL_law_8 (fun o2 H hP hD hS => ?_)
  have hPx := sw_Pl hP
  have hP2 : va_P D vwCl (w0X1 o2) H := sw_Pr hP
  have hDx := sw_Dl hD
  have hD2 : va_D (fun q : Nat => s.heap.size ≤ q) (w0X1 o2) := sw_Dr hD
  have hX : sw_dis (wX o1 a1 k1 (fun _ => 0) (fun _ => 0) (fun _ => 0) (fun _ => 0) 0 0 0 (fun _ => 0) 0 0 0 (fun _ => 0) (fun _ => 0) (fun _ => 0) (fun _ => 0) (fun _ => 0) (fun _ => 0)) (w0X1 o2) := sw_Dx hD
  refine W.cs (cells' := 13) (slots' := 736) rfl rfl ?_
  refine lv_dup hx hb dL_law_11 rfl ?_
  refine sw_lcN (rest := [.ref o2]) (w2 := wX o1 a1 k1 (fun _ => 0) (fun _ => 0) (fun _ => 0) (fun _ => 0) 0 0 0 (fun _ => 0) 0 0 0 (fun _ => 0) (fun _ => 0) (fun _ => 0) (fun _ => 0) (fun _ => 0) (fun _ => 0)) S (fun sz => mX1_init l sz) (cwI 0 hts (lw_meth q205) rfl rfl rfl (hts _ q21) (hts _ q203) (hts _ q204) rfl (by decide +kernel) ⟨Nat.le_of_ble_eq_true rfl, Nat.le_of_ble_eq_true rfl⟩) hK hP2 hD2 hPx hX.symm hS hA hl.1 rfl (Nat.le_of_ble_eq_true rfl) dL_law_12 ⟨Nat.le_of_ble_eq_true rfl, Nat.le_of_ble_eq_true rfl⟩ (fun u H locs hPm hK2 hDm hPx hX hS => ?_)
  obtain ⟨a2, k2⟩ := u
  have hPm : va_P D vwCl (wM o2 a2 k2 (fun _ => 0) (fun _ => 0) (fun _ => 0) 0 (fun _ => 0) (fun _ => 0) (fun _ => 0)) H := hPm
  have hDm : va_D (fun q : Nat => s.heap.size ≤ q) (wM o2 a2 k2 (fun _ => 0) (fun _ => 0) (fun _ => 0) 0 (fun _ => 0) (fun _ => 0) (fun _ => 0)) := hDm
  have hK2 : va_K D vwCl (tyM k2) s := hK2
  have hX : sw_dis (wX o1 a1 k1 (fun _ => 0) (fun _ => 0) (fun _ => 0) (fun _ => 0) 0 0 0 (fun _ => 0) 0 0 0 (fun _ => 0) (fun _ => 0) (fun _ => 0) (fun _ => 0) (fun _ => 0) (fun _ => 0)) (wM o2 a2 k2 (fun _ => 0) (fun _ => 0) (fun _ => 0) 0 (fun _ => 0) (fun _ => 0) (fun _ => 0)) := hX.symm
  refine W.widen (k := 600000) (n := 7290000) (Nat.le_of_ble_eq_true rfl) (Nat.le_of_ble_eq_true rfl) ?_
  refine lv_astore_n (lv' := [(2, .ref o2), (1, .ref o1), (0, .ref b)]) hx hb dL_law_15 rfl hl (by decide) rfl (fun ls hl => ?_)
  refine lv_iconst (v := nI 0) hx hb dL_law_16 (by decide) ?_
  refine lv_istore_n (lv' := [(3, .int (nI 0)), (2, .ref o2), (1, .ref o1), (0, .ref b)]) hx hb dL_law_17 rfl hl (by decide) rfl (fun ls hl => ?_)
  have hO : sw_Ok (fun _ => 0) (fun _ => 0) (fun _ => 0) (fun _ => 0) 0 := ⟨fun _ => Nat.zero_le _, fun _ => Nat.le_of_ble_eq_true rfl, fun _ => Nat.zero_le _, fun _ => Nat.le_of_ble_eq_true rfl, Nat.zero_le _⟩
  have hI : sw_Inv D (fun q : Nat => s.heap.size ≤ q) o1 a1 k1 o2 a2 k2 H := ⟨_, _, _, _, _, _, _, _, _, _, _, _, _, _, _, _, _, _, _, _, hO, sw_Ca_0 (Or.inl rfl), fun _ => by decide, fun _ _ => rfl, hPx, hDx, hPm, hDm, hX⟩
  refine law_loop S hXs hbl hbA hL hA hK1 hK2 (fun H locs ls hS => ?_) (L + 1) 0 (by omega) (by omega) H locs ls hI hS (lv_sub hl [3, 2, 1, 0] rfl)
  refine va_forget (fun q hq => hS.2.2 q hq) ?_
  refine lv_iconst (v := 1) hx hb dL_law_440 (by decide) ?_
  exact lw_ret hx hb hr hlocks dL_law_441
set_option maxHeartbeats 4000000 in
theorem lw_walk (l : Launch) (b : Addr) (xs : List Int32) : MetFree l x (headSpec (Jvm.Cond.code x code maxLocals ret :: tables_1) room_1) (lw_P b xs) (fun _ _ _ _ _ => True) lw_Q := by
  refine MetFree.of_bodyS (code := code) (maxLocals := maxLocals) (ret := ret) (by decide) ?_ ?_
  · intro args s m h hn
    obtain ⟨meth, c, h1, h2, h3, h4, h5, h6, -, -⟩ := Cond.code_spec hn (atoms_spec (ws := Jvm.Cond.code x code maxLocals ret :: tables_1) h _ List.mem_cons_self)
    exact ⟨meth, c, h1, h2, h3, h4, h5, h6⟩
  · intro p e s m args below meth c s₁ B hml0 hP _
    obtain ⟨rfl, hx, hbd, hgv⟩ := hP
    obtain ⟨scr, harrAt, hlist, hof, hsmall⟩ := hx
    obtain ⟨hcb, hkn, -, -⟩ := State.arrayAt?_spec harrAt
    have hown : s.vm.findClass R_law = some m.cls := findClass_of_methodNamed B.named
    have hts0 : ∀ c ∈ (Jvm.Cond.code x code maxLocals ret :: tables_1), c.before #[Value.ref b] s = true := atoms_spec (ws := Jvm.Cond.code x code maxLocals ret :: tables_1) B.pre
    have hts : ∀ w ∈ lw_tbl, w.before #[Value.ref b] s = true := k2_hts_sels lw_privs (fun w hw => hts0 w (List.mem_cons_of_mem _ hw)) lw_privs_ok
    have hml : c.maxLocals = 4 := B.maxLocals_eq (hts0 _ List.mem_cons_self)
    have X₀ : Stand p l e room_1 s m #[Value.ref b] below meth c s₁ [] 0 0 := Stand.of_body B
    have hh0 : s₁.heap = s.heap := by rw [B.state]; rfl
    have hsz : scr.slots.size = xs.length := by rw [← Array.length_toList, hlist, List.length_map]
    have hval : ∀ j : Nat, j < xs.length → scr.slots[j]? = some (.int (xs.getD j 0)) := fun j hj => by
      rw [← Array.getElem?_toList, hlist]
      simp [hj]
    have hbl : b < s.heap.size := (Array.getElem?_eq_some_iff.mp hcb).1
    have hX : va_X b xs.length (fun j => xs.getD j 0) s s.heap := ⟨scr, hcb, hof, hkn, hsz, hval⟩
    have K : W p l e room_1 s m #[Value.ref b] below meth c s₁.heap [] 0 0 (lw_Z below #[Value.ref b] s) (entryFrame m ([Value.ref b] : List Value).toArray 4) := by
      rw [hh0]
      exact whole_start l hbd ⟨B.exec, B.bytes, B.returns, hml, hown, hts, hX, hbl, B.notSynchronized, hgv⟩
    obtain ⟨t, a1, o, b1, b2, b3⟩ := K s₁ rfl X₀
    exact ⟨t, o, a1, b1, b2, b3⟩
theorem lw_pre_spec {args : Array Value} {s : State} (h : (Jvm.Cond.and given_1 narrow_1).before args s = true) (hr : rest_1_c.before args s = true) : ∃ (b : Addr) (xs : List Int32), lw_P b xs args s := by
  have hs := flat_of_before _ h
  have hq := flat_of_before _ hr
  have hc : (Cond.count 1).before args s = true := hs _ (by decide +kernel)
  have harr : (Cond.arrayOf (.arg 0) .int).before args s = true := hs _ (by decide +kernel)
  have hle : (Cond.le (.length (.arg 0)) (.int 256)).before args s = true := hs _ (by decide +kernel)
  have hlen : (Cond.isInt (.length (.arg 0))).before args s = true := hq _ (by decide +kernel)
  have hall : (Cond.all (.arg 0) (.isInt (.elem (.arg 0) (.index 0)))).before args s = true := hq _ (by decide +kernel)
  obtain ⟨b, xs, hb, hx⟩ := State.ints_of_pre rfl harr hlen hall
  have hsm : xs.length < 2 ^ 31 := hx.choose_spec.2.2.2
  have hev : (Term.length (.arg 0)).eval args s none [] s = some (.int xs.length.toInt32) := hx.length_eval hb
  have hv := Cond.le_ints hev (show (Term.int 256).eval args s none [] s = some (.int 256) from rfl)
  have hd : xs.length.toInt32 ≤ 256 := by
    simpa [Cond.before, Cond.holds, hv] using hle
  have hN : xs.length ≤ 256 := (Int32.ofNat_le_ofNat hsm (by decide)).mp (show Int32.ofNat xs.length ≤ Int32.ofNat 256 from hd)
  exact ⟨b, xs, Cond.one_arg hc (show args[0]? = some (.ref b) from hb), hx, hN, h⟩
theorem lw_comes (l : Launch) : Comes l x (Jvm.Cond.code x code maxLocals ret :: tables_1) room_1 (fun tb e args s => Calls_1 tb e args s ∧ rest_1 tb e args s ∧ Pre_1 tb e args s)
    (fun _ _ args s o t => lw_Q args s o t) := by
  intro p e ha hc hk s m args below hf hfit hheap happ hpre
  obtain ⟨b, xs, hP⟩ := lw_pre_spec hpre.2.2 hpre.2.1
  obtain ⟨k, o, h1, h2, h3, hQ⟩ := lw_walk l b xs p e ha hc hk s m args below hf ((Spec.applies_iff_loose hf).mp happ).1 hP trivial
  exact ⟨k, o, h1, h2, h3, hQ⟩
theorem lw_frame {s t : State} {o : Outcome} {args : Array Value} (h : Framed s o t [] 600000 7290000) :
    Framed s o t (fieldLocs frame_1_writes args s ++ arrayLocs frame_1_arrays args s ++ staticLocs frame_1_statics s) 600000 7290000 := h
theorem lw_limb (L : Cond) (hL : ∀ (args : Array Value) (s t : State), L.after args s (.returned (some (.int 1))) t = true) :
    ArmFor flags0 classFile x code maxLocals ret World_1 tables_1 room_1 Calls_1 rest_1 Pre_1
      (fun tb e a s o t => postC L tb e a s o t ∧ Framed s o t (fieldLocs frame_1_writes a s ++ arrayLocs frame_1_arrays a s ++ staticLocs frame_1_statics s) 600000 7290000) := by
  intro l _ _ _ p e ha hc hk s m args below hf hfit hheap happ hpre
  obtain ⟨k, o, h1, h2, h3, rfl, hF⟩ := lw_comes l p e ha hc hk s m args below hf hfit hheap happ hpre
  exact ⟨k, _, h1, h2, h3, hL args s _, lw_frame hF⟩
theorem i_vc : Claimed_1_1 ∧ Claimed_1_2 := ⟨lw_limb limb_1_1 (fun args s t => by simp [limb_1_1, Cond.after, Cond.holds, Cond.value]), lw_limb limb_1_2 (fun args s t => Cond.after_iff.mpr (by
  first | (rw [show limb_1_2 = Cond.eq .result (.int 1) from rfl, Cond.eq_ints (x := 1) (y := 1) rfl rfl]; simp; done) | (simp [limb_1_2, Cond.value, Term.eval]; done)))⟩
end
