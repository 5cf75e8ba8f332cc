section
-- ===== PART A: goes FIRST, ahead of the names: the tables' words, and 'selects' of the private methods out of them =====
/-- a private method of a class that the tables say can be made, by its rows of tables_1 -/
def lw_okq (q : MethodName × Nat) : Prop := (q.1.cls ≠ "java/lang/invoke/MethodHandle" ∧ q.1.cls ≠ "java/lang/invoke/VarHandle") ∧ Cond.instantiable q.1.cls q.2 ∈ tables_1 ∧ Cond.privateMethod q.1 ∈ tables_1 ∧ Cond.instanceMethod q.1 ∈ tables_1
set_option maxRecDepth 100000
theorem lw_t1 {w : Cond} (h : w ∈ tables_1_1) : w ∈ tables_1 := List.mem_append_left _ h
theorem lw_t2 {w : Cond} (h : w ∈ tables_1_2) : w ∈ tables_1 := List.mem_append_right _ h
theorem lw_p0 : lw_okq (⟨"IncrementalLinker", "bad", "(I)Z"⟩, 10) := ⟨⟨by decide +kernel, by decide +kernel⟩, lw_t1 (List.mem_of_getElem? (i := 4) rfl), lw_t1 (List.mem_of_getElem? (i := 48) rfl), lw_t1 (List.mem_of_getElem? (i := 49) rfl)⟩
theorem lw_p1 : lw_okq (⟨"IncrementalLinker", "append", "(IIII)I"⟩, 10) := ⟨⟨by decide +kernel, by decide +kernel⟩, lw_t1 (List.mem_of_getElem? (i := 4) rfl), lw_t1 (List.mem_of_getElem? (i := 52) rfl), lw_t1 (List.mem_of_getElem? (i := 53) rfl)⟩
theorem lw_p2 : lw_okq (⟨"IncrementalLinker", "words", "(I)I"⟩, 10) := ⟨⟨by decide +kernel, by decide +kernel⟩, lw_t1 (List.mem_of_getElem? (i := 4) rfl), lw_t1 (List.mem_of_getElem? (i := 56) rfl), lw_t1 (List.mem_of_getElem? (i := 57) rfl)⟩
theorem lw_p3 : lw_okq (⟨"IncrementalLinker", "open", "(II)V"⟩, 10) := ⟨⟨by decide +kernel, by decide +kernel⟩, lw_t1 (List.mem_of_getElem? (i := 4) rfl), lw_t1 (List.mem_of_getElem? (i := 60) rfl), lw_t1 (List.mem_of_getElem? (i := 61) rfl)⟩
theorem lw_p4 : lw_okq (⟨"IncrementalLinker", "moveWord", "(II)V"⟩, 10) := ⟨⟨by decide +kernel, by decide +kernel⟩, lw_t1 (List.mem_of_getElem? (i := 4) rfl), lw_t1 (List.mem_of_getElem? (i := 64) rfl), lw_t1 (List.mem_of_getElem? (i := 65) rfl)⟩
theorem lw_p5 : lw_okq (⟨"IncrementalLinker", "unlink", "(II)V"⟩, 10) := ⟨⟨by decide +kernel, by decide +kernel⟩, lw_t1 (List.mem_of_getElem? (i := 4) rfl), lw_t1 (List.mem_of_getElem? (i := 68) rfl), lw_t1 (List.mem_of_getElem? (i := 69) rfl)⟩
theorem lw_p6 : lw_okq (⟨"IncrementalLinker", "put", "(IIII)V"⟩, 10) := ⟨⟨by decide +kernel, by decide +kernel⟩, lw_t1 (List.mem_of_getElem? (i := 4) rfl), lw_t1 (List.mem_of_getElem? (i := 72) rfl), lw_t1 (List.mem_of_getElem? (i := 73) rfl)⟩
theorem lw_p7 : lw_okq (⟨"IncrementalLinker", "link", "(II)V"⟩, 10) := ⟨⟨by decide +kernel, by decide +kernel⟩, lw_t1 (List.mem_of_getElem? (i := 4) rfl), lw_t1 (List.mem_of_getElem? (i := 76) rfl), lw_t1 (List.mem_of_getElem? (i := 77) rfl)⟩
theorem lw_p8 : lw_okq (⟨"IncrementalLinker", "bind", "(I)V"⟩, 10) := ⟨⟨by decide +kernel, by decide +kernel⟩, lw_t1 (List.mem_of_getElem? (i := 4) rfl), lw_t1 (List.mem_of_getElem? (i := 80) rfl), lw_t1 (List.mem_of_getElem? (i := 81) rfl)⟩
theorem lw_p9 : lw_okq (⟨"IncrementalLinker", "refresh", "()V"⟩, 10) := ⟨⟨by decide +kernel, by decide +kernel⟩, lw_t1 (List.mem_of_getElem? (i := 4) rfl), lw_t1 (List.mem_of_getElem? (i := 84) rfl), lw_t1 (List.mem_of_getElem? (i := 85) rfl)⟩
theorem lw_p10 : lw_okq (⟨"IncrementalLinker", "rebind", "(I)V"⟩, 10) := ⟨⟨by decide +kernel, by decide +kernel⟩, lw_t1 (List.mem_of_getElem? (i := 4) rfl), lw_t1 (List.mem_of_getElem? (i := 88) rfl), lw_t1 (List.mem_of_getElem? (i := 89) rfl)⟩
theorem lw_p11 : lw_okq (⟨"IncrementalLinker", "badName", "(I)Z"⟩, 10) := ⟨⟨by decide +kernel, by decide +kernel⟩, lw_t1 (List.mem_of_getElem? (i := 4) rfl), lw_t1 (List.mem_of_getElem? (i := 96) rfl), lw_t1 (List.mem_of_getElem? (i := 97) rfl)⟩
theorem lw_p12 : lw_okq (⟨"IncrementalLinker", "close", "(II)V"⟩, 10) := ⟨⟨by decide +kernel, by decide +kernel⟩, lw_t1 (List.mem_of_getElem? (i := 4) rfl), lw_t1 (List.mem_of_getElem? (i := 112) rfl), lw_t1 (List.mem_of_getElem? (i := 113) rfl)⟩
theorem lw_p13 : lw_okq (⟨"IncrementalLinker", "chainLength", "(I)I"⟩, 10) := ⟨⟨by decide +kernel, by decide +kernel⟩, lw_t1 (List.mem_of_getElem? (i := 4) rfl), lw_t1 (List.mem_of_getElem? (i := 148) rfl), lw_t1 (List.mem_of_getElem? (i := 149) rfl)⟩
theorem lw_p14 : lw_okq (⟨"IncrementalLinker", "moduleAt", "(I)I"⟩, 10) := ⟨⟨by decide +kernel, by decide +kernel⟩, lw_t1 (List.mem_of_getElem? (i := 4) rfl), lw_t1 (List.mem_of_getElem? (i := 164) rfl), lw_t1 (List.mem_of_getElem? (i := 165) rfl)⟩
theorem lw_p15 : lw_okq (⟨"IncrementalLinkerModel", "isModule", "(I)Z"⟩, 4) := ⟨⟨by decide +kernel, by decide +kernel⟩, lw_t1 (List.mem_of_getElem? (i := 176) rfl), lw_t1 (List.mem_of_getElem? (i := 199) rfl), lw_t1 (List.mem_of_getElem? (i := 200) rfl)⟩
def lw_privs_1 : List (MethodName × Nat) := [(⟨"IncrementalLinker", "bad", "(I)Z"⟩, 10), (⟨"IncrementalLinker", "append", "(IIII)I"⟩, 10), (⟨"IncrementalLinker", "words", "(I)I"⟩, 10), (⟨"IncrementalLinker", "open", "(II)V"⟩, 10), (⟨"IncrementalLinker", "moveWord", "(II)V"⟩, 10), (⟨"IncrementalLinker", "unlink", "(II)V"⟩, 10), (⟨"IncrementalLinker", "put", "(IIII)V"⟩, 10), (⟨"IncrementalLinker", "link", "(II)V"⟩, 10), (⟨"IncrementalLinker", "bind", "(I)V"⟩, 10), (⟨"IncrementalLinker", "refresh", "()V"⟩, 10), (⟨"IncrementalLinker", "rebind", "(I)V"⟩, 10), (⟨"IncrementalLinker", "badName", "(I)Z"⟩, 10), (⟨"IncrementalLinker", "close", "(II)V"⟩, 10), (⟨"IncrementalLinker", "chainLength", "(I)I"⟩, 10), (⟨"IncrementalLinker", "moduleAt", "(I)I"⟩, 10), (⟨"IncrementalLinkerModel", "isModule", "(I)Z"⟩, 4)]
theorem lw_r1 : ∀ q ∈ lw_privs_1, lw_okq q := List.forall_mem_cons.mpr ⟨lw_p0, List.forall_mem_cons.mpr ⟨lw_p1, List.forall_mem_cons.mpr ⟨lw_p2, List.forall_mem_cons.mpr ⟨lw_p3, List.forall_mem_cons.mpr ⟨lw_p4, List.forall_mem_cons.mpr ⟨lw_p5, List.forall_mem_cons.mpr ⟨lw_p6, List.forall_mem_cons.mpr ⟨lw_p7, List.forall_mem_cons.mpr ⟨lw_p8, List.forall_mem_cons.mpr ⟨lw_p9, List.forall_mem_cons.mpr ⟨lw_p10, List.forall_mem_cons.mpr ⟨lw_p11, List.forall_mem_cons.mpr ⟨lw_p12, List.forall_mem_cons.mpr ⟨lw_p13, List.forall_mem_cons.mpr ⟨lw_p14, List.forall_mem_cons.mpr ⟨lw_p15, fun _ h => absurd h List.not_mem_nil⟩⟩⟩⟩⟩⟩⟩⟩⟩⟩⟩⟩⟩⟩⟩⟩
theorem lw_p16 : lw_okq (⟨"IncrementalLinkerModel", "append", "(III)I"⟩, 4) := ⟨⟨by decide +kernel, by decide +kernel⟩, lw_t1 (List.mem_of_getElem? (i := 176) rfl), lw_t1 (List.mem_of_getElem? (i := 203) rfl), lw_t1 (List.mem_of_getElem? (i := 204) rfl)⟩
theorem lw_p17 : lw_okq (⟨"IncrementalLinkerModel", "isName", "(I)Z"⟩, 4) := ⟨⟨by decide +kernel, by decide +kernel⟩, lw_t1 (List.mem_of_getElem? (i := 176) rfl), lw_t1 (List.mem_of_getElem? (i := 211) rfl), lw_t1 (List.mem_of_getElem? (i := 212) rfl)⟩
theorem lw_p18 : lw_okq (⟨"IncrementalLinkerModel", "isWord", "(II)Z"⟩, 4) := ⟨⟨by decide +kernel, by decide +kernel⟩, lw_t1 (List.mem_of_getElem? (i := 176) rfl), lw_t1 (List.mem_of_getElem? (i := 219) rfl), lw_t1 (List.mem_of_getElem? (i := 220) rfl)⟩
theorem lw_p19 : lw_okq (⟨"IncrementalLinkerModel", "begin", "(I)I"⟩, 4) := ⟨⟨by decide +kernel, by decide +kernel⟩, lw_t1 (List.mem_of_getElem? (i := 176) rfl), lw_t2 (List.mem_of_getElem? (i := 7) rfl), lw_t2 (List.mem_of_getElem? (i := 8) rfl)⟩
theorem lw_p20 : lw_okq (⟨"IncrementalLinkerModel", "valueOf", "(I)I"⟩, 4) := ⟨⟨by decide +kernel, by decide +kernel⟩, lw_t1 (List.mem_of_getElem? (i := 176) rfl), lw_t2 (List.mem_of_getElem? (i := 19) rfl), lw_t2 (List.mem_of_getElem? (i := 20) rfl)⟩
theorem lw_p21 : lw_okq (⟨"IncrementalLinkerModel", "moduleFor", "(I)I"⟩, 4) := ⟨⟨by decide +kernel, by decide +kernel⟩, lw_t1 (List.mem_of_getElem? (i := 176) rfl), lw_t2 (List.mem_of_getElem? (i := 27) rfl), lw_t2 (List.mem_of_getElem? (i := 28) rfl)⟩
def lw_privs_2 : List (MethodName × Nat) := [(⟨"IncrementalLinkerModel", "append", "(III)I"⟩, 4), (⟨"IncrementalLinkerModel", "isName", "(I)Z"⟩, 4), (⟨"IncrementalLinkerModel", "isWord", "(II)Z"⟩, 4), (⟨"IncrementalLinkerModel", "begin", "(I)I"⟩, 4), (⟨"IncrementalLinkerModel", "valueOf", "(I)I"⟩, 4), (⟨"IncrementalLinkerModel", "moduleFor", "(I)I"⟩, 4)]
theorem lw_r2 : ∀ q ∈ lw_privs_2, lw_okq q := List.forall_mem_cons.mpr ⟨lw_p16, List.forall_mem_cons.mpr ⟨lw_p17, List.forall_mem_cons.mpr ⟨lw_p18, List.forall_mem_cons.mpr ⟨lw_p19, List.forall_mem_cons.mpr ⟨lw_p20, List.forall_mem_cons.mpr ⟨lw_p21, fun _ h => absurd h List.not_mem_nil⟩⟩⟩⟩⟩⟩
def lw_privs : List (MethodName × Nat) := lw_privs_1 ++ (lw_privs_2)
def lw_tbl : List Cond := k2_sels lw_privs ++ tables_1
theorem lw_privs_ok : ∀ q ∈ lw_privs, lw_okq q := by
  show ∀ q ∈ lw_privs_1 ++ (lw_privs_2), lw_okq q
  exact List.forall_mem_append.mpr ⟨lw_r1, lw_r2⟩
-- ===== ONE list of words for every method: the tables' words that hold all through a run =====
def lw_all : List Cond := lw_tbl.filter goodWord
/-- a word of the tables by its place: claim/WORDS.tsv -/
theorem lw_w {w : Cond} (i : Nat) (h : lw_tbl[i]? = some w) (g : goodWord w = true) : w ∈ lw_all := List.mem_filter.mpr ⟨List.mem_of_getElem? h, g⟩
theorem lw_all_tbl {w : Cond} (h : w ∈ lw_all) : w ∈ lw_tbl := (List.mem_filter.mp h).1
theorem lw_self : GoodIn lw_all lw_all := fun w h => ⟨h, good_of_word (List.mem_filter.mp h).2⟩
/-- a class's field words, by their places -/
theorem lw_in (ws : List Cond) (ps : List Nat) (hp : ws = ps.filterMap (fun i => lw_tbl[i]?)) (hg : ws.all goodWord = true) : ∀ w ∈ ws, w ∈ lw_all := by
  intro w h
  have h1 := List.all_eq_true.mp hg w h
  rw [hp] at h
  obtain ⟨i, -, hi⟩ := List.mem_filterMap.mp h
  exact lw_w i hi h1
/-- the words of a contract for the method y with code b, L locals, answer r -/
abbrev ws_ (y : MethodName) (b : ByteArray) (L : Nat) (r : Option FieldType) : List Cond := Cond.code y b L r :: lw_all
theorem lw_meth {y : MethodName} {b : ByteArray} {L : Nat} {r : Option FieldType} (h : Cond.code y b L r ∈ lw_all) : GoodIn lw_all (ws_ y b L r) := by
  intro w hw
  rcases List.mem_cons.mp hw with e | e
  · rw [e]
    exact lw_self _ h
  · exact lw_self _ e
theorem lw_app {a c : List Cond} (ha : ∀ w ∈ a, w ∈ lw_all) (hc : GoodIn lw_all c) : GoodIn lw_all (a ++ c) := by
  intro w hw
  rcases List.mem_append.mp hw with e | e
  · exact lw_self w (ha w e)
  · exact hc w e
/-- what a call through an object asks: cwV n hts (lw_V ..) -/
theorem lw_V {own : String} {idx : Nat} {C : String} {y : MethodName} {b : ByteArray} {L : Nat} {r : Option FieldType} (h1 : Cond.methodLink own idx y ∈ lw_all) (h2 : Cond.instanceMethod y ∈ lw_all) (h3 : Cond.selects C y y ∈ lw_all) (h4 : Cond.initialized C ∈ lw_all) (h5 : Cond.code y b L r ∈ lw_all) : GoodIn lw_all (wsV own idx C y (ws_ y b L r)) := by
  refine lw_app ?_ (lw_meth h5)
  intro w hw
  simp only [List.mem_cons, List.not_mem_nil, or_false] at hw
  rcases hw with e | e | e | e
  · rw [e]; exact h1
  · rw [e]; exact h2
  · rw [e]; exact h3
  · rw [e]; exact h4
/-- what a static call asks: va_cwS n hts (lw_S ..) -/
theorem lw_S {own : String} {idx : Nat} {y : MethodName} {b : ByteArray} {L : Nat} {r : Option FieldType} (h1 : Cond.methodLink own idx y ∈ lw_all) (h2 : Cond.static y ∈ lw_all) (h3 : Cond.initialized y.cls ∈ lw_all) (h4 : Cond.code y b L r ∈ lw_all) : GoodIn lw_all (va_wsS own idx y (ws_ y b L r)) := by
  refine lw_app ?_ (lw_meth h4)
  intro w hw
  simp only [List.mem_cons, List.not_mem_nil, or_false] at hw
  rcases hw with e | e | e
  · rw [e]; exact h1
  · rw [e]; exact h2
  · rw [e]; exact h3
/-- the words of a contract for a method WITH HANDLERS (hh: its table) -/
abbrev wsW_ (y : MethodName) (b : ByteArray) (L : Nat) (r : Option FieldType) (hh : List (Nat × Nat × Nat × Nat)) : List Cond := Cond.codeWith y b L r hh :: lw_all
theorem lw_methW {y : MethodName} {b : ByteArray} {L : Nat} {r : Option FieldType} {hh : List (Nat × Nat × Nat × Nat)} (h : Cond.codeWith y b L r hh ∈ lw_all) : GoodIn lw_all (wsW_ y b L r hh) := by
  intro w hw
  rcases List.mem_cons.mp hw with e | e
  · rw [e]
    exact lw_self _ h
  · exact lw_self _ e
/-- any list of words by their places (lw_in), good -/
theorem lw_good {ws : List Cond} (h : ∀ w ∈ ws, w ∈ lw_all) : GoodIn lw_all ws := fun w hw => lw_self w (h w hw)
/-- what a call of a method with handlers asks: vx_cwVW n hts (lw_VW ..), vx_cwSW n hts (lw_SW ..) -/
theorem lw_VW {own : String} {idx : Nat} {C : String} {y : MethodName} {b : ByteArray} {L : Nat} {r : Option FieldType} {hh : List (Nat × Nat × Nat × Nat)} (h1 : Cond.methodLink own idx y ∈ lw_all) (h2 : Cond.instanceMethod y ∈ lw_all) (h3 : Cond.selects C y y ∈ lw_all) (h4 : Cond.initialized C ∈ lw_all) (h5 : Cond.codeWith y b L r hh ∈ lw_all) : GoodIn lw_all (wsV own idx C y (wsW_ y b L r hh)) := by
  refine lw_app ?_ (lw_methW h5)
  intro w hw
  simp only [List.mem_cons, List.not_mem_nil, or_false] at hw
  rcases hw with e | e | e | e
  · rw [e]; exact h1
  · rw [e]; exact h2
  · rw [e]; exact h3
  · rw [e]; exact h4
theorem lw_SW {own : String} {idx : Nat} {y : MethodName} {b : ByteArray} {L : Nat} {r : Option FieldType} {hh : List (Nat × Nat × Nat × Nat)} (h1 : Cond.methodLink own idx y ∈ lw_all) (h2 : Cond.static y ∈ lw_all) (h3 : Cond.initialized y.cls ∈ lw_all) (h4 : Cond.codeWith y b L r hh ∈ lw_all) : GoodIn lw_all (va_wsS own idx y (wsW_ y b L r hh)) := by
  refine lw_app ?_ (lw_methW h4)
  intro w hw
  simp only [List.mem_cons, List.not_mem_nil, or_false] at hw
  rcases hw with e | e | e
  · rw [e]; exact h1
  · rw [e]; exact h2
  · rw [e]; exact h3
/-- a word by its place in its run of the tables -/
theorem lw_at {r : List Cond} (hr : ∀ w ∈ r, w ∈ lw_tbl) {w : Cond} (i : Nat) (h : r[i]? = some w) : w ∈ lw_tbl := hr w (List.mem_of_getElem? h)
theorem lw_g {w : Cond} (h : w ∈ lw_tbl) (g : goodWord w = true) : w ∈ lw_all := List.mem_filter.mpr ⟨h, g⟩
theorem lw_ms : ∀ w ∈ k2_sels lw_privs, w ∈ lw_tbl := fun w h => show w ∈ k2_sels lw_privs ++ tables_1 from List.mem_append_left _ h
theorem lw_m1 : ∀ w ∈ tables_1_1, w ∈ lw_tbl := fun w h => show w ∈ k2_sels lw_privs ++ tables_1 from List.mem_append_right (k2_sels lw_privs) (show w ∈ tables_1 from List.mem_append_left _ h)
theorem lw_m2 : ∀ w ∈ tables_1_2, w ∈ lw_tbl := fun w h => show w ∈ k2_sels lw_privs ++ tables_1 from List.mem_append_right (k2_sels lw_privs) (show w ∈ tables_1 from List.mem_append_right _ h)
theorem qs0 : (Cond.selects "IncrementalLinker" ⟨"IncrementalLinker", "bad", "(I)Z"⟩ ⟨"IncrementalLinker", "bad", "(I)Z"⟩) ∈ lw_all := lw_g (lw_at lw_ms 0 rfl) rfl
theorem qs1 : (Cond.selects "IncrementalLinker" ⟨"IncrementalLinker", "append", "(IIII)I"⟩ ⟨"IncrementalLinker", "append", "(IIII)I"⟩) ∈ lw_all := lw_g (lw_at lw_ms 1 rfl) rfl
theorem qs2 : (Cond.selects "IncrementalLinker" ⟨"IncrementalLinker", "words", "(I)I"⟩ ⟨"IncrementalLinker", "words", "(I)I"⟩) ∈ lw_all := lw_g (lw_at lw_ms 2 rfl) rfl
theorem qs3 : (Cond.selects "IncrementalLinker" ⟨"IncrementalLinker", "open", "(II)V"⟩ ⟨"IncrementalLinker", "open", "(II)V"⟩) ∈ lw_all := lw_g (lw_at lw_ms 3 rfl) rfl
theorem qs4 : (Cond.selects "IncrementalLinker" ⟨"IncrementalLinker", "moveWord", "(II)V"⟩ ⟨"IncrementalLinker", "moveWord", "(II)V"⟩) ∈ lw_all := lw_g (lw_at lw_ms 4 rfl) rfl
theorem qs5 : (Cond.selects "IncrementalLinker" ⟨"IncrementalLinker", "unlink", "(II)V"⟩ ⟨"IncrementalLinker", "unlink", "(II)V"⟩) ∈ lw_all := lw_g (lw_at lw_ms 5 rfl) rfl
theorem qs6 : (Cond.selects "IncrementalLinker" ⟨"IncrementalLinker", "put", "(IIII)V"⟩ ⟨"IncrementalLinker", "put", "(IIII)V"⟩) ∈ lw_all := lw_g (lw_at lw_ms 6 rfl) rfl
theorem qs7 : (Cond.selects "IncrementalLinker" ⟨"IncrementalLinker", "link", "(II)V"⟩ ⟨"IncrementalLinker", "link", "(II)V"⟩) ∈ lw_all := lw_g (lw_at lw_ms 7 rfl) rfl
theorem qs8 : (Cond.selects "IncrementalLinker" ⟨"IncrementalLinker", "bind", "(I)V"⟩ ⟨"IncrementalLinker", "bind", "(I)V"⟩) ∈ lw_all := lw_g (lw_at lw_ms 8 rfl) rfl
theorem qs9 : (Cond.selects "IncrementalLinker" ⟨"IncrementalLinker", "refresh", "()V"⟩ ⟨"IncrementalLinker", "refresh", "()V"⟩) ∈ lw_all := lw_g (lw_at lw_ms 9 rfl) rfl
theorem qs10 : (Cond.selects "IncrementalLinker" ⟨"IncrementalLinker", "rebind", "(I)V"⟩ ⟨"IncrementalLinker", "rebind", "(I)V"⟩) ∈ lw_all := lw_g (lw_at lw_ms 10 rfl) rfl
theorem qs11 : (Cond.selects "IncrementalLinker" ⟨"IncrementalLinker", "badName", "(I)Z"⟩ ⟨"IncrementalLinker", "badName", "(I)Z"⟩) ∈ lw_all := lw_g (lw_at lw_ms 11 rfl) rfl
theorem qs12 : (Cond.selects "IncrementalLinker" ⟨"IncrementalLinker", "close", "(II)V"⟩ ⟨"IncrementalLinker", "close", "(II)V"⟩) ∈ lw_all := lw_g (lw_at lw_ms 12 rfl) rfl
theorem qs13 : (Cond.selects "IncrementalLinker" ⟨"IncrementalLinker", "chainLength", "(I)I"⟩ ⟨"IncrementalLinker", "chainLength", "(I)I"⟩) ∈ lw_all := lw_g (lw_at lw_ms 13 rfl) rfl
theorem qs14 : (Cond.selects "IncrementalLinker" ⟨"IncrementalLinker", "moduleAt", "(I)I"⟩ ⟨"IncrementalLinker", "moduleAt", "(I)I"⟩) ∈ lw_all := lw_g (lw_at lw_ms 14 rfl) rfl
theorem qs15 : (Cond.selects "IncrementalLinkerModel" ⟨"IncrementalLinkerModel", "isModule", "(I)Z"⟩ ⟨"IncrementalLinkerModel", "isModule", "(I)Z"⟩) ∈ lw_all := lw_g (lw_at lw_ms 15 rfl) rfl
theorem qs16 : (Cond.selects "IncrementalLinkerModel" ⟨"IncrementalLinkerModel", "append", "(III)I"⟩ ⟨"IncrementalLinkerModel", "append", "(III)I"⟩) ∈ lw_all := lw_g (lw_at lw_ms 16 rfl) rfl
theorem qs17 : (Cond.selects "IncrementalLinkerModel" ⟨"IncrementalLinkerModel", "isName", "(I)Z"⟩ ⟨"IncrementalLinkerModel", "isName", "(I)Z"⟩) ∈ lw_all := lw_g (lw_at lw_ms 17 rfl) rfl
theorem qs18 : (Cond.selects "IncrementalLinkerModel" ⟨"IncrementalLinkerModel", "isWord", "(II)Z"⟩ ⟨"IncrementalLinkerModel", "isWord", "(II)Z"⟩) ∈ lw_all := lw_g (lw_at lw_ms 18 rfl) rfl
theorem qs19 : (Cond.selects "IncrementalLinkerModel" ⟨"IncrementalLinkerModel", "begin", "(I)I"⟩ ⟨"IncrementalLinkerModel", "begin", "(I)I"⟩) ∈ lw_all := lw_g (lw_at lw_ms 19 rfl) rfl
theorem qs20 : (Cond.selects "IncrementalLinkerModel" ⟨"IncrementalLinkerModel", "valueOf", "(I)I"⟩ ⟨"IncrementalLinkerModel", "valueOf", "(I)I"⟩) ∈ lw_all := lw_g (lw_at lw_ms 20 rfl) rfl
theorem qs21 : (Cond.selects "IncrementalLinkerModel" ⟨"IncrementalLinkerModel", "moduleFor", "(I)I"⟩ ⟨"IncrementalLinkerModel", "moduleFor", "(I)I"⟩) ∈ lw_all := lw_g (lw_at lw_ms 21 rfl) rfl
end
section
set_option maxRecDepth 100000
/-! IncrementalLinker -/
def RX0 : String := "IncrementalLinker"
def TX0 : u_T := fun k => match k with
  | 0 => ("IncrementalLinker", "start", "[I", true)
  | 1 => ("IncrementalLinker", "value", "[I", true)
  | 2 => ("IncrementalLinker", "name", "[I", true)
  | 3 => ("IncrementalLinker", "addend", "[I", true)
  | 4 => ("IncrementalLinker", "defined", "[I", true)
  | 5 => ("IncrementalLinker", "known", "[I", true)
  | 6 => ("IncrementalLinker", "counting", "[I", true)
  | 7 => ("IncrementalLinker", "chain", "[I", true)
  | 8 => ("IncrementalLinker", "next", "[I", true)
  | _ => ("IncrementalLinker", "before", "[I", true)
def tyX0 : Nat → FieldType := fun k => match k with
  | 0 => .array .int
  | 1 => .array .int
  | 2 => .array .int
  | 3 => .array .int
  | 4 => .array .int
  | 5 => .array .int
  | 6 => .array .int
  | 7 => .array .int
  | 8 => .array .int
  | _ => .array .int
abbrev wsX00 : List Cond := u_ws RX0 TX0 10
theorem nmX0 : ∀ a, a < 10 → ∀ b, b < 10 → a ≠ b → (TX0 a).2.1 ≠ (TX0 b).2.1 := by decide +kernel
theorem tyX0_ok : ∀ k, k < 10 → parseFieldDescriptor (TX0 k).2.2.1 = some (tyX0 k) := by decide +kernel
abbrev cX0_init : ByteArray := prog_1_method_1_code
def yX0_init : MethodName := ⟨RX0, "<init>", "()V"⟩
theorem dX0_init_0 : decode cX0_init 0 = .ok (.aload_n 0, 1) := by decide +kernel
theorem dX0_init_1 : decode cX0_init 1 = .ok (.invokespecial 1, 3) := by decide +kernel
theorem dX0_init_4 : decode cX0_init 4 = .ok (.aload_n 0, 1) := by decide +kernel
theorem dX0_init_5 : decode cX0_init 5 = .ok (.bipush 7, 2) := by decide +kernel
theorem dX0_init_7 : decode cX0_init 7 = .ok (.newarray .int, 2) := by decide +kernel
theorem dX0_init_9 : decode cX0_init 9 = .ok (.putfield 7, 3) := by decide +kernel
theorem dX0_init_12 : decode cX0_init 12 = .ok (.aload_n 0, 1) := by decide +kernel
theorem dX0_init_13 : decode cX0_init 13 = .ok (.bipush 48, 2) := by decide +kernel
theorem dX0_init_15 : decode cX0_init 15 = .ok (.newarray .int, 2) := by decide +kernel
theorem dX0_init_17 : decode cX0_init 17 = .ok (.putfield 13, 3) := by decide +kernel
theorem dX0_init_20 : decode cX0_init 20 = .ok (.aload_n 0, 1) := by decide +kernel
theorem dX0_init_21 : decode cX0_init 21 = .ok (.bipush 48, 2) := by decide +kernel
theorem dX0_init_23 : decode cX0_init 23 = .ok (.newarray .int, 2) := by decide +kernel
theorem dX0_init_25 : decode cX0_init 25 = .ok (.putfield 16, 3) := by decide +kernel
theorem dX0_init_28 : decode cX0_init 28 = .ok (.aload_n 0, 1) := by decide +kernel
theorem dX0_init_29 : decode cX0_init 29 = .ok (.bipush 48, 2) := by decide +kernel
theorem dX0_init_31 : decode cX0_init 31 = .ok (.newarray .int, 2) := by decide +kernel
theorem dX0_init_33 : decode cX0_init 33 = .ok (.putfield 19, 3) := by decide +kernel
theorem dX0_init_36 : decode cX0_init 36 = .ok (.aload_n 0, 1) := by decide +kernel
theorem dX0_init_37 : decode cX0_init 37 = .ok (.bipush 60, 2) := by decide +kernel
theorem dX0_init_39 : decode cX0_init 39 = .ok (.newarray .int, 2) := by decide +kernel
theorem dX0_init_41 : decode cX0_init 41 = .ok (.putfield 22, 3) := by decide +kernel
theorem dX0_init_44 : decode cX0_init 44 = .ok (.aload_n 0, 1) := by decide +kernel
theorem dX0_init_45 : decode cX0_init 45 = .ok (.bipush 10, 2) := by decide +kernel
theorem dX0_init_47 : decode cX0_init 47 = .ok (.newarray .int, 2) := by decide +kernel
theorem dX0_init_49 : decode cX0_init 49 = .ok (.putfield 25, 3) := by decide +kernel
theorem dX0_init_52 : decode cX0_init 52 = .ok (.aload_n 0, 1) := by decide +kernel
theorem dX0_init_53 : decode cX0_init 53 = .ok (.bipush 10, 2) := by decide +kernel
theorem dX0_init_55 : decode cX0_init 55 = .ok (.newarray .int, 2) := by decide +kernel
theorem dX0_init_57 : decode cX0_init 57 = .ok (.putfield 28, 3) := by decide +kernel
theorem dX0_init_60 : decode cX0_init 60 = .ok (.aload_n 0, 1) := by decide +kernel
theorem dX0_init_61 : decode cX0_init 61 = .ok (.bipush 10, 2) := by decide +kernel
theorem dX0_init_63 : decode cX0_init 63 = .ok (.newarray .int, 2) := by decide +kernel
theorem dX0_init_65 : decode cX0_init 65 = .ok (.putfield 31, 3) := by decide +kernel
theorem dX0_init_68 : decode cX0_init 68 = .ok (.aload_n 0, 1) := by decide +kernel
theorem dX0_init_69 : decode cX0_init 69 = .ok (.bipush 48, 2) := by decide +kernel
theorem dX0_init_71 : decode cX0_init 71 = .ok (.newarray .int, 2) := by decide +kernel
theorem dX0_init_73 : decode cX0_init 73 = .ok (.putfield 34, 3) := by decide +kernel
theorem dX0_init_76 : decode cX0_init 76 = .ok (.aload_n 0, 1) := by decide +kernel
theorem dX0_init_77 : decode cX0_init 77 = .ok (.bipush 48, 2) := by decide +kernel
theorem dX0_init_79 : decode cX0_init 79 = .ok (.newarray .int, 2) := by decide +kernel
theorem dX0_init_81 : decode cX0_init 81 = .ok (.putfield 37, 3) := by decide +kernel
theorem dX0_init_84 : decode cX0_init 84 = .ok (.iconst 0, 1) := by decide +kernel
theorem dX0_init_85 : decode cX0_init 85 = .ok (.istore_n 1, 1) := by decide +kernel
theorem dX0_init_86 : decode cX0_init 86 = .ok (.iload_n 1, 1) := by decide +kernel
theorem dX0_init_87 : decode cX0_init 87 = .ok (.bipush 60, 2) := by decide +kernel
theorem dX0_init_89 : decode cX0_init 89 = .ok (.if_icmp .ge 17, 3) := by decide +kernel
theorem dX0_init_92 : decode cX0_init 92 = .ok (.aload_n 0, 1) := by decide +kernel
theorem dX0_init_93 : decode cX0_init 93 = .ok (.getfield 22, 3) := by decide +kernel
theorem dX0_init_96 : decode cX0_init 96 = .ok (.iload_n 1, 1) := by decide +kernel
theorem dX0_init_97 : decode cX0_init 97 = .ok (.bipush (-4), 2) := by decide +kernel
theorem dX0_init_99 : decode cX0_init 99 = .ok (.iastore, 1) := by decide +kernel
theorem dX0_init_100 : decode cX0_init 100 = .ok (.iinc 1 1, 3) := by decide +kernel
theorem dX0_init_103 : decode cX0_init 103 = .ok (.goto (-17), 3) := by decide +kernel
theorem dX0_init_106 : decode cX0_init 106 = .ok (.iconst 0, 1) := by decide +kernel
theorem dX0_init_107 : decode cX0_init 107 = .ok (.istore_n 1, 1) := by decide +kernel
theorem dX0_init_108 : decode cX0_init 108 = .ok (.iload_n 1, 1) := by decide +kernel
theorem dX0_init_109 : decode cX0_init 109 = .ok (.bipush 10, 2) := by decide +kernel
theorem dX0_init_111 : decode cX0_init 111 = .ok (.if_icmp .ge 33, 3) := by decide +kernel
theorem dX0_init_114 : decode cX0_init 114 = .ok (.aload_n 0, 1) := by decide +kernel
theorem dX0_init_115 : decode cX0_init 115 = .ok (.getfield 25, 3) := by decide +kernel
theorem dX0_init_118 : decode cX0_init 118 = .ok (.iload_n 1, 1) := by decide +kernel
theorem dX0_init_119 : decode cX0_init 119 = .ok (.bipush (-4), 2) := by decide +kernel
theorem dX0_init_121 : decode cX0_init 121 = .ok (.iastore, 1) := by decide +kernel
theorem dX0_init_122 : decode cX0_init 122 = .ok (.aload_n 0, 1) := by decide +kernel
theorem dX0_init_123 : decode cX0_init 123 = .ok (.getfield 28, 3) := by decide +kernel
theorem dX0_init_126 : decode cX0_init 126 = .ok (.iload_n 1, 1) := by decide +kernel
theorem dX0_init_127 : decode cX0_init 127 = .ok (.bipush (-4), 2) := by decide +kernel
theorem dX0_init_129 : decode cX0_init 129 = .ok (.iastore, 1) := by decide +kernel
theorem dX0_init_130 : decode cX0_init 130 = .ok (.aload_n 0, 1) := by decide +kernel
theorem dX0_init_131 : decode cX0_init 131 = .ok (.getfield 31, 3) := by decide +kernel
theorem dX0_init_134 : decode cX0_init 134 = .ok (.iload_n 1, 1) := by decide +kernel
theorem dX0_init_135 : decode cX0_init 135 = .ok (.bipush (-4), 2) := by decide +kernel
theorem dX0_init_137 : decode cX0_init 137 = .ok (.iastore, 1) := by decide +kernel
theorem dX0_init_138 : decode cX0_init 138 = .ok (.iinc 1 1, 3) := by decide +kernel
theorem dX0_init_141 : decode cX0_init 141 = .ok (.goto (-33), 3) := by decide +kernel
theorem dX0_init_144 : decode cX0_init 144 = .ok (.iconst 0, 1) := by decide +kernel
theorem dX0_init_145 : decode cX0_init 145 = .ok (.istore_n 1, 1) := by decide +kernel
theorem dX0_init_146 : decode cX0_init 146 = .ok (.iload_n 1, 1) := by decide +kernel
theorem dX0_init_147 : decode cX0_init 147 = .ok (.bipush 48, 2) := by decide +kernel
theorem dX0_init_149 : decode cX0_init 149 = .ok (.if_icmp .ge 17, 3) := by decide +kernel
theorem dX0_init_152 : decode cX0_init 152 = .ok (.aload_n 0, 1) := by decide +kernel
theorem dX0_init_153 : decode cX0_init 153 = .ok (.getfield 16, 3) := by decide +kernel
theorem dX0_init_156 : decode cX0_init 156 = .ok (.iload_n 1, 1) := by decide +kernel
theorem dX0_init_157 : decode cX0_init 157 = .ok (.bipush (-4), 2) := by decide +kernel
theorem dX0_init_159 : decode cX0_init 159 = .ok (.iastore, 1) := by decide +kernel
theorem dX0_init_160 : decode cX0_init 160 = .ok (.iinc 1 1, 3) := by decide +kernel
theorem dX0_init_163 : decode cX0_init 163 = .ok (.goto (-17), 3) := by decide +kernel
theorem dX0_init_166 : decode cX0_init 166 = .ok (.return_, 1) := by decide +kernel
abbrev cX0_constant : ByteArray := prog_1_method_15_code
def yX0_constant : MethodName := ⟨RX0, "constant", "(II)I"⟩
theorem dX0_constant_0 : decode cX0_constant 0 = .ok (.aload_n 0, 1) := by decide +kernel
theorem dX0_constant_1 : decode cX0_constant 1 = .ok (.iload_n 1, 1) := by decide +kernel
theorem dX0_constant_2 : decode cX0_constant 2 = .ok (.invokevirtual 71, 3) := by decide +kernel
theorem dX0_constant_5 : decode cX0_constant 5 = .ok (.ifCond .eq 5, 3) := by decide +kernel
theorem dX0_constant_8 : decode cX0_constant 8 = .ok (.iconst (-1), 1) := by decide +kernel
theorem dX0_constant_9 : decode cX0_constant 9 = .ok (.ireturn, 1) := by decide +kernel
theorem dX0_constant_10 : decode cX0_constant 10 = .ok (.aload_n 0, 1) := by decide +kernel
theorem dX0_constant_11 : decode cX0_constant 11 = .ok (.iload_n 1, 1) := by decide +kernel
theorem dX0_constant_12 : decode cX0_constant 12 = .ok (.iload_n 2, 1) := by decide +kernel
theorem dX0_constant_13 : decode cX0_constant 13 = .ok (.bipush (-4), 2) := by decide +kernel
theorem dX0_constant_15 : decode cX0_constant 15 = .ok (.iconst 0, 1) := by decide +kernel
theorem dX0_constant_16 : decode cX0_constant 16 = .ok (.invokevirtual 75, 3) := by decide +kernel
theorem dX0_constant_19 : decode cX0_constant 19 = .ok (.ireturn, 1) := by decide +kernel
abbrev cX0_bad : ByteArray := prog_1_method_2_code
def yX0_bad : MethodName := ⟨RX0, "bad", "(I)Z"⟩
theorem dX0_bad_0 : decode cX0_bad 0 = .ok (.iload_n 1, 1) := by decide +kernel
theorem dX0_bad_1 : decode cX0_bad 1 = .ok (.ifCond .lt 9, 3) := by decide +kernel
theorem dX0_bad_4 : decode cX0_bad 4 = .ok (.iload_n 1, 1) := by decide +kernel
theorem dX0_bad_5 : decode cX0_bad 5 = .ok (.bipush 6, 2) := by decide +kernel
theorem dX0_bad_7 : decode cX0_bad 7 = .ok (.if_icmp .lt 7, 3) := by decide +kernel
theorem dX0_bad_10 : decode cX0_bad 10 = .ok (.iconst 1, 1) := by decide +kernel
theorem dX0_bad_11 : decode cX0_bad 11 = .ok (.goto 4, 3) := by decide +kernel
theorem dX0_bad_14 : decode cX0_bad 14 = .ok (.iconst 0, 1) := by decide +kernel
theorem dX0_bad_15 : decode cX0_bad 15 = .ok (.ireturn, 1) := by decide +kernel
abbrev cX0_append : ByteArray := prog_1_method_14_code
def yX0_append : MethodName := ⟨RX0, "append", "(IIII)I"⟩
theorem dX0_append_0 : decode cX0_append 0 = .ok (.aload_n 0, 1) := by decide +kernel
theorem dX0_append_1 : decode cX0_append 1 = .ok (.iload_n 1, 1) := by decide +kernel
theorem dX0_append_2 : decode cX0_append 2 = .ok (.invokevirtual 61, 3) := by decide +kernel
theorem dX0_append_5 : decode cX0_append 5 = .ok (.bipush 8, 2) := by decide +kernel
theorem dX0_append_7 : decode cX0_append 7 = .ok (.if_icmp .ne 6, 3) := by decide +kernel
theorem dX0_append_10 : decode cX0_append 10 = .ok (.bipush (-2), 2) := by decide +kernel
theorem dX0_append_12 : decode cX0_append 12 = .ok (.ireturn, 1) := by decide +kernel
theorem dX0_append_13 : decode cX0_append 13 = .ok (.aload_n 0, 1) := by decide +kernel
theorem dX0_append_14 : decode cX0_append 14 = .ok (.getfield 7, 3) := by decide +kernel
theorem dX0_append_17 : decode cX0_append 17 = .ok (.iload_n 1, 1) := by decide +kernel
theorem dX0_append_18 : decode cX0_append 18 = .ok (.iconst 1, 1) := by decide +kernel
theorem dX0_append_19 : decode cX0_append 19 = .ok (.iadd, 1) := by decide +kernel
theorem dX0_append_20 : decode cX0_append 20 = .ok (.iaload, 1) := by decide +kernel
theorem dX0_append_21 : decode cX0_append 21 = .ok (.istore 5, 2) := by decide +kernel
theorem dX0_append_23 : decode cX0_append 23 = .ok (.aload_n 0, 1) := by decide +kernel
theorem dX0_append_24 : decode cX0_append 24 = .ok (.iload_n 1, 1) := by decide +kernel
theorem dX0_append_25 : decode cX0_append 25 = .ok (.iload 5, 2) := by decide +kernel
theorem dX0_append_27 : decode cX0_append 27 = .ok (.invokevirtual 65, 3) := by decide +kernel
theorem dX0_append_30 : decode cX0_append 30 = .ok (.aload_n 0, 1) := by decide +kernel
theorem dX0_append_31 : decode cX0_append 31 = .ok (.iload 5, 2) := by decide +kernel
theorem dX0_append_33 : decode cX0_append 33 = .ok (.iload_n 2, 1) := by decide +kernel
theorem dX0_append_34 : decode cX0_append 34 = .ok (.iload_n 3, 1) := by decide +kernel
theorem dX0_append_35 : decode cX0_append 35 = .ok (.iload 4, 2) := by decide +kernel
theorem dX0_append_37 : decode cX0_append 37 = .ok (.invokevirtual 54, 3) := by decide +kernel
theorem dX0_append_40 : decode cX0_append 40 = .ok (.aload_n 0, 1) := by decide +kernel
theorem dX0_append_41 : decode cX0_append 41 = .ok (.invokevirtual 68, 3) := by decide +kernel
theorem dX0_append_44 : decode cX0_append 44 = .ok (.aload_n 0, 1) := by decide +kernel
theorem dX0_append_45 : decode cX0_append 45 = .ok (.iload_n 1, 1) := by decide +kernel
theorem dX0_append_46 : decode cX0_append 46 = .ok (.invokevirtual 61, 3) := by decide +kernel
theorem dX0_append_49 : decode cX0_append 49 = .ok (.ireturn, 1) := by decide +kernel
abbrev cX0_words : ByteArray := prog_1_method_4_code
def yX0_words : MethodName := ⟨RX0, "words", "(I)I"⟩
theorem dX0_words_0 : decode cX0_words 0 = .ok (.aload_n 0, 1) := by decide +kernel
theorem dX0_words_1 : decode cX0_words 1 = .ok (.getfield 7, 3) := by decide +kernel
theorem dX0_words_4 : decode cX0_words 4 = .ok (.iload_n 1, 1) := by decide +kernel
theorem dX0_words_5 : decode cX0_words 5 = .ok (.iconst 1, 1) := by decide +kernel
theorem dX0_words_6 : decode cX0_words 6 = .ok (.iadd, 1) := by decide +kernel
theorem dX0_words_7 : decode cX0_words 7 = .ok (.iaload, 1) := by decide +kernel
theorem dX0_words_8 : decode cX0_words 8 = .ok (.aload_n 0, 1) := by decide +kernel
theorem dX0_words_9 : decode cX0_words 9 = .ok (.getfield 7, 3) := by decide +kernel
theorem dX0_words_12 : decode cX0_words 12 = .ok (.iload_n 1, 1) := by decide +kernel
theorem dX0_words_13 : decode cX0_words 13 = .ok (.iaload, 1) := by decide +kernel
theorem dX0_words_14 : decode cX0_words 14 = .ok (.isub, 1) := by decide +kernel
theorem dX0_words_15 : decode cX0_words 15 = .ok (.ireturn, 1) := by decide +kernel
abbrev cX0_open : ByteArray := prog_1_method_12_code
def yX0_open : MethodName := ⟨RX0, "open", "(II)V"⟩
theorem dX0_open_0 : decode cX0_open 0 = .ok (.aload_n 0, 1) := by decide +kernel
theorem dX0_open_1 : decode cX0_open 1 = .ok (.getfield 7, 3) := by decide +kernel
theorem dX0_open_4 : decode cX0_open 4 = .ok (.bipush 6, 2) := by decide +kernel
theorem dX0_open_6 : decode cX0_open 6 = .ok (.iaload, 1) := by decide +kernel
theorem dX0_open_7 : decode cX0_open 7 = .ok (.iconst 1, 1) := by decide +kernel
theorem dX0_open_8 : decode cX0_open 8 = .ok (.isub, 1) := by decide +kernel
theorem dX0_open_9 : decode cX0_open 9 = .ok (.istore_n 3, 1) := by decide +kernel
theorem dX0_open_10 : decode cX0_open 10 = .ok (.iload_n 3, 1) := by decide +kernel
theorem dX0_open_11 : decode cX0_open 11 = .ok (.iload_n 2, 1) := by decide +kernel
theorem dX0_open_12 : decode cX0_open 12 = .ok (.if_icmp .lt 17, 3) := by decide +kernel
theorem dX0_open_15 : decode cX0_open 15 = .ok (.aload_n 0, 1) := by decide +kernel
theorem dX0_open_16 : decode cX0_open 16 = .ok (.iload_n 3, 1) := by decide +kernel
theorem dX0_open_17 : decode cX0_open 17 = .ok (.iload_n 3, 1) := by decide +kernel
theorem dX0_open_18 : decode cX0_open 18 = .ok (.iconst 1, 1) := by decide +kernel
theorem dX0_open_19 : decode cX0_open 19 = .ok (.iadd, 1) := by decide +kernel
theorem dX0_open_20 : decode cX0_open 20 = .ok (.invokevirtual 58, 3) := by decide +kernel
theorem dX0_open_23 : decode cX0_open 23 = .ok (.iinc 3 (-1), 3) := by decide +kernel
theorem dX0_open_26 : decode cX0_open 26 = .ok (.goto (-16), 3) := by decide +kernel
theorem dX0_open_29 : decode cX0_open 29 = .ok (.iload_n 1, 1) := by decide +kernel
theorem dX0_open_30 : decode cX0_open 30 = .ok (.iconst 1, 1) := by decide +kernel
theorem dX0_open_31 : decode cX0_open 31 = .ok (.iadd, 1) := by decide +kernel
theorem dX0_open_32 : decode cX0_open 32 = .ok (.istore_n 3, 1) := by decide +kernel
theorem dX0_open_33 : decode cX0_open 33 = .ok (.iload_n 3, 1) := by decide +kernel
theorem dX0_open_34 : decode cX0_open 34 = .ok (.bipush 6, 2) := by decide +kernel
theorem dX0_open_36 : decode cX0_open 36 = .ok (.if_icmp .gt 23, 3) := by decide +kernel
theorem dX0_open_39 : decode cX0_open 39 = .ok (.aload_n 0, 1) := by decide +kernel
theorem dX0_open_40 : decode cX0_open 40 = .ok (.getfield 7, 3) := by decide +kernel
theorem dX0_open_43 : decode cX0_open 43 = .ok (.iload_n 3, 1) := by decide +kernel
theorem dX0_open_44 : decode cX0_open 44 = .ok (.aload_n 0, 1) := by decide +kernel
theorem dX0_open_45 : decode cX0_open 45 = .ok (.getfield 7, 3) := by decide +kernel
theorem dX0_open_48 : decode cX0_open 48 = .ok (.iload_n 3, 1) := by decide +kernel
theorem dX0_open_49 : decode cX0_open 49 = .ok (.iaload, 1) := by decide +kernel
theorem dX0_open_50 : decode cX0_open 50 = .ok (.iconst 1, 1) := by decide +kernel
theorem dX0_open_51 : decode cX0_open 51 = .ok (.iadd, 1) := by decide +kernel
theorem dX0_open_52 : decode cX0_open 52 = .ok (.iastore, 1) := by decide +kernel
theorem dX0_open_53 : decode cX0_open 53 = .ok (.iinc 3 1, 3) := by decide +kernel
theorem dX0_open_56 : decode cX0_open 56 = .ok (.goto (-23), 3) := by decide +kernel
theorem dX0_open_59 : decode cX0_open 59 = .ok (.return_, 1) := by decide +kernel
abbrev cX0_moveWord : ByteArray := prog_1_method_11_code
def yX0_moveWord : MethodName := ⟨RX0, "moveWord", "(II)V"⟩
theorem dX0_moveWord_0 : decode cX0_moveWord 0 = .ok (.aload_n 0, 1) := by decide +kernel
theorem dX0_moveWord_1 : decode cX0_moveWord 1 = .ok (.getfield 16, 3) := by decide +kernel
theorem dX0_moveWord_4 : decode cX0_moveWord 4 = .ok (.iload_n 1, 1) := by decide +kernel
theorem dX0_moveWord_5 : decode cX0_moveWord 5 = .ok (.iaload, 1) := by decide +kernel
theorem dX0_moveWord_6 : decode cX0_moveWord 6 = .ok (.istore_n 3, 1) := by decide +kernel
theorem dX0_moveWord_7 : decode cX0_moveWord 7 = .ok (.iload_n 3, 1) := by decide +kernel
theorem dX0_moveWord_8 : decode cX0_moveWord 8 = .ok (.ifCond .lt 9, 3) := by decide +kernel
theorem dX0_moveWord_11 : decode cX0_moveWord 11 = .ok (.aload_n 0, 1) := by decide +kernel
theorem dX0_moveWord_12 : decode cX0_moveWord 12 = .ok (.iload_n 1, 1) := by decide +kernel
theorem dX0_moveWord_13 : decode cX0_moveWord 13 = .ok (.iload_n 3, 1) := by decide +kernel
theorem dX0_moveWord_14 : decode cX0_moveWord 14 = .ok (.invokevirtual 51, 3) := by decide +kernel
theorem dX0_moveWord_17 : decode cX0_moveWord 17 = .ok (.aload_n 0, 1) := by decide +kernel
theorem dX0_moveWord_18 : decode cX0_moveWord 18 = .ok (.iload_n 2, 1) := by decide +kernel
theorem dX0_moveWord_19 : decode cX0_moveWord 19 = .ok (.aload_n 0, 1) := by decide +kernel
theorem dX0_moveWord_20 : decode cX0_moveWord 20 = .ok (.getfield 13, 3) := by decide +kernel
theorem dX0_moveWord_23 : decode cX0_moveWord 23 = .ok (.iload_n 1, 1) := by decide +kernel
theorem dX0_moveWord_24 : decode cX0_moveWord 24 = .ok (.iaload, 1) := by decide +kernel
theorem dX0_moveWord_25 : decode cX0_moveWord 25 = .ok (.iload_n 3, 1) := by decide +kernel
theorem dX0_moveWord_26 : decode cX0_moveWord 26 = .ok (.aload_n 0, 1) := by decide +kernel
theorem dX0_moveWord_27 : decode cX0_moveWord 27 = .ok (.getfield 19, 3) := by decide +kernel
theorem dX0_moveWord_30 : decode cX0_moveWord 30 = .ok (.iload_n 1, 1) := by decide +kernel
theorem dX0_moveWord_31 : decode cX0_moveWord 31 = .ok (.iaload, 1) := by decide +kernel
theorem dX0_moveWord_32 : decode cX0_moveWord 32 = .ok (.invokevirtual 54, 3) := by decide +kernel
theorem dX0_moveWord_35 : decode cX0_moveWord 35 = .ok (.aload_n 0, 1) := by decide +kernel
theorem dX0_moveWord_36 : decode cX0_moveWord 36 = .ok (.getfield 16, 3) := by decide +kernel
theorem dX0_moveWord_39 : decode cX0_moveWord 39 = .ok (.iload_n 1, 1) := by decide +kernel
theorem dX0_moveWord_40 : decode cX0_moveWord 40 = .ok (.bipush (-4), 2) := by decide +kernel
theorem dX0_moveWord_42 : decode cX0_moveWord 42 = .ok (.iastore, 1) := by decide +kernel
theorem dX0_moveWord_43 : decode cX0_moveWord 43 = .ok (.return_, 1) := by decide +kernel
abbrev cX0_unlink : ByteArray := prog_1_method_6_code
def yX0_unlink : MethodName := ⟨RX0, "unlink", "(II)V"⟩
theorem dX0_unlink_0 : decode cX0_unlink 0 = .ok (.aload_n 0, 1) := by decide +kernel
theorem dX0_unlink_1 : decode cX0_unlink 1 = .ok (.getfield 37, 3) := by decide +kernel
theorem dX0_unlink_4 : decode cX0_unlink 4 = .ok (.iload_n 1, 1) := by decide +kernel
theorem dX0_unlink_5 : decode cX0_unlink 5 = .ok (.iaload, 1) := by decide +kernel
theorem dX0_unlink_6 : decode cX0_unlink 6 = .ok (.ifCond .lt 23, 3) := by decide +kernel
theorem dX0_unlink_9 : decode cX0_unlink 9 = .ok (.aload_n 0, 1) := by decide +kernel
theorem dX0_unlink_10 : decode cX0_unlink 10 = .ok (.getfield 34, 3) := by decide +kernel
theorem dX0_unlink_13 : decode cX0_unlink 13 = .ok (.aload_n 0, 1) := by decide +kernel
theorem dX0_unlink_14 : decode cX0_unlink 14 = .ok (.getfield 37, 3) := by decide +kernel
theorem dX0_unlink_17 : decode cX0_unlink 17 = .ok (.iload_n 1, 1) := by decide +kernel
theorem dX0_unlink_18 : decode cX0_unlink 18 = .ok (.iaload, 1) := by decide +kernel
theorem dX0_unlink_19 : decode cX0_unlink 19 = .ok (.aload_n 0, 1) := by decide +kernel
theorem dX0_unlink_20 : decode cX0_unlink 20 = .ok (.getfield 34, 3) := by decide +kernel
theorem dX0_unlink_23 : decode cX0_unlink 23 = .ok (.iload_n 1, 1) := by decide +kernel
theorem dX0_unlink_24 : decode cX0_unlink 24 = .ok (.iaload, 1) := by decide +kernel
theorem dX0_unlink_25 : decode cX0_unlink 25 = .ok (.iastore, 1) := by decide +kernel
theorem dX0_unlink_26 : decode cX0_unlink 26 = .ok (.goto 15, 3) := by decide +kernel
theorem dX0_unlink_29 : decode cX0_unlink 29 = .ok (.aload_n 0, 1) := by decide +kernel
theorem dX0_unlink_30 : decode cX0_unlink 30 = .ok (.getfield 31, 3) := by decide +kernel
theorem dX0_unlink_33 : decode cX0_unlink 33 = .ok (.iload_n 2, 1) := by decide +kernel
theorem dX0_unlink_34 : decode cX0_unlink 34 = .ok (.aload_n 0, 1) := by decide +kernel
theorem dX0_unlink_35 : decode cX0_unlink 35 = .ok (.getfield 34, 3) := by decide +kernel
theorem dX0_unlink_38 : decode cX0_unlink 38 = .ok (.iload_n 1, 1) := by decide +kernel
theorem dX0_unlink_39 : decode cX0_unlink 39 = .ok (.iaload, 1) := by decide +kernel
theorem dX0_unlink_40 : decode cX0_unlink 40 = .ok (.iastore, 1) := by decide +kernel
theorem dX0_unlink_41 : decode cX0_unlink 41 = .ok (.aload_n 0, 1) := by decide +kernel
theorem dX0_unlink_42 : decode cX0_unlink 42 = .ok (.getfield 34, 3) := by decide +kernel
theorem dX0_unlink_45 : decode cX0_unlink 45 = .ok (.iload_n 1, 1) := by decide +kernel
theorem dX0_unlink_46 : decode cX0_unlink 46 = .ok (.iaload, 1) := by decide +kernel
theorem dX0_unlink_47 : decode cX0_unlink 47 = .ok (.ifCond .lt 20, 3) := by decide +kernel
theorem dX0_unlink_50 : decode cX0_unlink 50 = .ok (.aload_n 0, 1) := by decide +kernel
theorem dX0_unlink_51 : decode cX0_unlink 51 = .ok (.getfield 37, 3) := by decide +kernel
theorem dX0_unlink_54 : decode cX0_unlink 54 = .ok (.aload_n 0, 1) := by decide +kernel
theorem dX0_unlink_55 : decode cX0_unlink 55 = .ok (.getfield 34, 3) := by decide +kernel
theorem dX0_unlink_58 : decode cX0_unlink 58 = .ok (.iload_n 1, 1) := by decide +kernel
theorem dX0_unlink_59 : decode cX0_unlink 59 = .ok (.iaload, 1) := by decide +kernel
theorem dX0_unlink_60 : decode cX0_unlink 60 = .ok (.aload_n 0, 1) := by decide +kernel
theorem dX0_unlink_61 : decode cX0_unlink 61 = .ok (.getfield 37, 3) := by decide +kernel
theorem dX0_unlink_64 : decode cX0_unlink 64 = .ok (.iload_n 1, 1) := by decide +kernel
theorem dX0_unlink_65 : decode cX0_unlink 65 = .ok (.iaload, 1) := by decide +kernel
theorem dX0_unlink_66 : decode cX0_unlink 66 = .ok (.iastore, 1) := by decide +kernel
theorem dX0_unlink_67 : decode cX0_unlink 67 = .ok (.return_, 1) := by decide +kernel
abbrev cX0_put : ByteArray := prog_1_method_10_code
def yX0_put : MethodName := ⟨RX0, "put", "(IIII)V"⟩
theorem dX0_put_0 : decode cX0_put 0 = .ok (.aload_n 0, 1) := by decide +kernel
theorem dX0_put_1 : decode cX0_put 1 = .ok (.getfield 13, 3) := by decide +kernel
theorem dX0_put_4 : decode cX0_put 4 = .ok (.iload_n 1, 1) := by decide +kernel
theorem dX0_put_5 : decode cX0_put 5 = .ok (.iload_n 2, 1) := by decide +kernel
theorem dX0_put_6 : decode cX0_put 6 = .ok (.iastore, 1) := by decide +kernel
theorem dX0_put_7 : decode cX0_put 7 = .ok (.aload_n 0, 1) := by decide +kernel
theorem dX0_put_8 : decode cX0_put 8 = .ok (.getfield 16, 3) := by decide +kernel
theorem dX0_put_11 : decode cX0_put 11 = .ok (.iload_n 1, 1) := by decide +kernel
theorem dX0_put_12 : decode cX0_put 12 = .ok (.iload_n 3, 1) := by decide +kernel
theorem dX0_put_13 : decode cX0_put 13 = .ok (.iastore, 1) := by decide +kernel
theorem dX0_put_14 : decode cX0_put 14 = .ok (.aload_n 0, 1) := by decide +kernel
theorem dX0_put_15 : decode cX0_put 15 = .ok (.getfield 19, 3) := by decide +kernel
theorem dX0_put_18 : decode cX0_put 18 = .ok (.iload_n 1, 1) := by decide +kernel
theorem dX0_put_19 : decode cX0_put 19 = .ok (.iload 4, 2) := by decide +kernel
theorem dX0_put_21 : decode cX0_put 21 = .ok (.iastore, 1) := by decide +kernel
theorem dX0_put_22 : decode cX0_put 22 = .ok (.iload_n 3, 1) := by decide +kernel
theorem dX0_put_23 : decode cX0_put 23 = .ok (.ifCond .lt 14, 3) := by decide +kernel
theorem dX0_put_26 : decode cX0_put 26 = .ok (.aload_n 0, 1) := by decide +kernel
theorem dX0_put_27 : decode cX0_put 27 = .ok (.iload_n 1, 1) := by decide +kernel
theorem dX0_put_28 : decode cX0_put 28 = .ok (.iload_n 3, 1) := by decide +kernel
theorem dX0_put_29 : decode cX0_put 29 = .ok (.invokevirtual 47, 3) := by decide +kernel
theorem dX0_put_32 : decode cX0_put 32 = .ok (.aload_n 0, 1) := by decide +kernel
theorem dX0_put_33 : decode cX0_put 33 = .ok (.iload_n 1, 1) := by decide +kernel
theorem dX0_put_34 : decode cX0_put 34 = .ok (.invokevirtual 40, 3) := by decide +kernel
theorem dX0_put_37 : decode cX0_put 37 = .ok (.return_, 1) := by decide +kernel
abbrev cX0_link : ByteArray := prog_1_method_5_code
def yX0_link : MethodName := ⟨RX0, "link", "(II)V"⟩
theorem dX0_link_0 : decode cX0_link 0 = .ok (.aload_n 0, 1) := by decide +kernel
theorem dX0_link_1 : decode cX0_link 1 = .ok (.getfield 31, 3) := by decide +kernel
theorem dX0_link_4 : decode cX0_link 4 = .ok (.iload_n 2, 1) := by decide +kernel
theorem dX0_link_5 : decode cX0_link 5 = .ok (.iaload, 1) := by decide +kernel
theorem dX0_link_6 : decode cX0_link 6 = .ok (.istore_n 3, 1) := by decide +kernel
theorem dX0_link_7 : decode cX0_link 7 = .ok (.aload_n 0, 1) := by decide +kernel
theorem dX0_link_8 : decode cX0_link 8 = .ok (.getfield 34, 3) := by decide +kernel
theorem dX0_link_11 : decode cX0_link 11 = .ok (.iload_n 1, 1) := by decide +kernel
theorem dX0_link_12 : decode cX0_link 12 = .ok (.iload_n 3, 1) := by decide +kernel
theorem dX0_link_13 : decode cX0_link 13 = .ok (.iastore, 1) := by decide +kernel
theorem dX0_link_14 : decode cX0_link 14 = .ok (.aload_n 0, 1) := by decide +kernel
theorem dX0_link_15 : decode cX0_link 15 = .ok (.getfield 37, 3) := by decide +kernel
theorem dX0_link_18 : decode cX0_link 18 = .ok (.iload_n 1, 1) := by decide +kernel
theorem dX0_link_19 : decode cX0_link 19 = .ok (.bipush (-4), 2) := by decide +kernel
theorem dX0_link_21 : decode cX0_link 21 = .ok (.iastore, 1) := by decide +kernel
theorem dX0_link_22 : decode cX0_link 22 = .ok (.iload_n 3, 1) := by decide +kernel
theorem dX0_link_23 : decode cX0_link 23 = .ok (.ifCond .lt 10, 3) := by decide +kernel
theorem dX0_link_26 : decode cX0_link 26 = .ok (.aload_n 0, 1) := by decide +kernel
theorem dX0_link_27 : decode cX0_link 27 = .ok (.getfield 37, 3) := by decide +kernel
theorem dX0_link_30 : decode cX0_link 30 = .ok (.iload_n 3, 1) := by decide +kernel
theorem dX0_link_31 : decode cX0_link 31 = .ok (.iload_n 1, 1) := by decide +kernel
theorem dX0_link_32 : decode cX0_link 32 = .ok (.iastore, 1) := by decide +kernel
theorem dX0_link_33 : decode cX0_link 33 = .ok (.aload_n 0, 1) := by decide +kernel
theorem dX0_link_34 : decode cX0_link 34 = .ok (.getfield 31, 3) := by decide +kernel
theorem dX0_link_37 : decode cX0_link 37 = .ok (.iload_n 2, 1) := by decide +kernel
theorem dX0_link_38 : decode cX0_link 38 = .ok (.iload_n 1, 1) := by decide +kernel
theorem dX0_link_39 : decode cX0_link 39 = .ok (.iastore, 1) := by decide +kernel
theorem dX0_link_40 : decode cX0_link 40 = .ok (.return_, 1) := by decide +kernel
abbrev cX0_bind : ByteArray := prog_1_method_7_code
def yX0_bind : MethodName := ⟨RX0, "bind", "(I)V"⟩
theorem dX0_bind_0 : decode cX0_bind 0 = .ok (.aload_n 0, 1) := by decide +kernel
theorem dX0_bind_1 : decode cX0_bind 1 = .ok (.getfield 16, 3) := by decide +kernel
theorem dX0_bind_4 : decode cX0_bind 4 = .ok (.iload_n 1, 1) := by decide +kernel
theorem dX0_bind_5 : decode cX0_bind 5 = .ok (.iaload, 1) := by decide +kernel
theorem dX0_bind_6 : decode cX0_bind 6 = .ok (.istore_n 2, 1) := by decide +kernel
theorem dX0_bind_7 : decode cX0_bind 7 = .ok (.aload_n 0, 1) := by decide +kernel
theorem dX0_bind_8 : decode cX0_bind 8 = .ok (.getfield 13, 3) := by decide +kernel
theorem dX0_bind_11 : decode cX0_bind 11 = .ok (.iload_n 1, 1) := by decide +kernel
theorem dX0_bind_12 : decode cX0_bind 12 = .ok (.aload_n 0, 1) := by decide +kernel
theorem dX0_bind_13 : decode cX0_bind 13 = .ok (.getfield 25, 3) := by decide +kernel
theorem dX0_bind_16 : decode cX0_bind 16 = .ok (.iload_n 2, 1) := by decide +kernel
theorem dX0_bind_17 : decode cX0_bind 17 = .ok (.iaload, 1) := by decide +kernel
theorem dX0_bind_18 : decode cX0_bind 18 = .ok (.ifCond .ge 7, 3) := by decide +kernel
theorem dX0_bind_21 : decode cX0_bind 21 = .ok (.iconst (-1), 1) := by decide +kernel
theorem dX0_bind_22 : decode cX0_bind 22 = .ok (.goto 16, 3) := by decide +kernel
theorem dX0_bind_25 : decode cX0_bind 25 = .ok (.aload_n 0, 1) := by decide +kernel
theorem dX0_bind_26 : decode cX0_bind 26 = .ok (.getfield 25, 3) := by decide +kernel
theorem dX0_bind_29 : decode cX0_bind 29 = .ok (.iload_n 2, 1) := by decide +kernel
theorem dX0_bind_30 : decode cX0_bind 30 = .ok (.iaload, 1) := by decide +kernel
theorem dX0_bind_31 : decode cX0_bind 31 = .ok (.aload_n 0, 1) := by decide +kernel
theorem dX0_bind_32 : decode cX0_bind 32 = .ok (.getfield 19, 3) := by decide +kernel
theorem dX0_bind_35 : decode cX0_bind 35 = .ok (.iload_n 1, 1) := by decide +kernel
theorem dX0_bind_36 : decode cX0_bind 36 = .ok (.iaload, 1) := by decide +kernel
theorem dX0_bind_37 : decode cX0_bind 37 = .ok (.iadd, 1) := by decide +kernel
theorem dX0_bind_38 : decode cX0_bind 38 = .ok (.iastore, 1) := by decide +kernel
theorem dX0_bind_39 : decode cX0_bind 39 = .ok (.return_, 1) := by decide +kernel
abbrev cX0_refresh : ByteArray := prog_1_method_9_code
def yX0_refresh : MethodName := ⟨RX0, "refresh", "()V"⟩
theorem dX0_refresh_0 : decode cX0_refresh 0 = .ok (.iconst 0, 1) := by decide +kernel
theorem dX0_refresh_1 : decode cX0_refresh 1 = .ok (.istore_n 1, 1) := by decide +kernel
theorem dX0_refresh_2 : decode cX0_refresh 2 = .ok (.iload_n 1, 1) := by decide +kernel
theorem dX0_refresh_3 : decode cX0_refresh 3 = .ok (.bipush 10, 2) := by decide +kernel
theorem dX0_refresh_5 : decode cX0_refresh 5 = .ok (.if_icmp .ge 101, 3) := by decide +kernel
theorem dX0_refresh_8 : decode cX0_refresh 8 = .ok (.bipush (-4), 2) := by decide +kernel
theorem dX0_refresh_10 : decode cX0_refresh 10 = .ok (.istore_n 2, 1) := by decide +kernel
theorem dX0_refresh_11 : decode cX0_refresh 11 = .ok (.iconst 5, 1) := by decide +kernel
theorem dX0_refresh_12 : decode cX0_refresh 12 = .ok (.istore_n 3, 1) := by decide +kernel
theorem dX0_refresh_13 : decode cX0_refresh 13 = .ok (.iload_n 3, 1) := by decide +kernel
theorem dX0_refresh_14 : decode cX0_refresh 14 = .ok (.ifCond .lt 29, 3) := by decide +kernel
theorem dX0_refresh_17 : decode cX0_refresh 17 = .ok (.aload_n 0, 1) := by decide +kernel
theorem dX0_refresh_18 : decode cX0_refresh 18 = .ok (.getfield 22, 3) := by decide +kernel
theorem dX0_refresh_21 : decode cX0_refresh 21 = .ok (.iload_n 3, 1) := by decide +kernel
theorem dX0_refresh_22 : decode cX0_refresh 22 = .ok (.bipush 10, 2) := by decide +kernel
theorem dX0_refresh_24 : decode cX0_refresh 24 = .ok (.imul, 1) := by decide +kernel
theorem dX0_refresh_25 : decode cX0_refresh 25 = .ok (.iload_n 1, 1) := by decide +kernel
theorem dX0_refresh_26 : decode cX0_refresh 26 = .ok (.iadd, 1) := by decide +kernel
theorem dX0_refresh_27 : decode cX0_refresh 27 = .ok (.iaload, 1) := by decide +kernel
theorem dX0_refresh_28 : decode cX0_refresh 28 = .ok (.ifCond .lt 7, 3) := by decide +kernel
theorem dX0_refresh_31 : decode cX0_refresh 31 = .ok (.iload_n 3, 1) := by decide +kernel
theorem dX0_refresh_32 : decode cX0_refresh 32 = .ok (.goto 4, 3) := by decide +kernel
theorem dX0_refresh_35 : decode cX0_refresh 35 = .ok (.iload_n 2, 1) := by decide +kernel
theorem dX0_refresh_36 : decode cX0_refresh 36 = .ok (.istore_n 2, 1) := by decide +kernel
theorem dX0_refresh_37 : decode cX0_refresh 37 = .ok (.iinc 3 (-1), 3) := by decide +kernel
theorem dX0_refresh_40 : decode cX0_refresh 40 = .ok (.goto (-27), 3) := by decide +kernel
theorem dX0_refresh_43 : decode cX0_refresh 43 = .ok (.iload_n 2, 1) := by decide +kernel
theorem dX0_refresh_44 : decode cX0_refresh 44 = .ok (.ifCond .ge 8, 3) := by decide +kernel
end
section
set_option maxRecDepth 100000
theorem dX0_refresh_47 : decode cX0_refresh 47 = .ok (.bipush (-4), 2) := by decide +kernel
theorem dX0_refresh_49 : decode cX0_refresh 49 = .ok (.goto 21, 3) := by decide +kernel
theorem dX0_refresh_52 : decode cX0_refresh 52 = .ok (.aload_n 0, 1) := by decide +kernel
theorem dX0_refresh_53 : decode cX0_refresh 53 = .ok (.getfield 7, 3) := by decide +kernel
theorem dX0_refresh_56 : decode cX0_refresh 56 = .ok (.iload_n 2, 1) := by decide +kernel
theorem dX0_refresh_57 : decode cX0_refresh 57 = .ok (.iaload, 1) := by decide +kernel
theorem dX0_refresh_58 : decode cX0_refresh 58 = .ok (.aload_n 0, 1) := by decide +kernel
theorem dX0_refresh_59 : decode cX0_refresh 59 = .ok (.getfield 22, 3) := by decide +kernel
theorem dX0_refresh_62 : decode cX0_refresh 62 = .ok (.iload_n 2, 1) := by decide +kernel
theorem dX0_refresh_63 : decode cX0_refresh 63 = .ok (.bipush 10, 2) := by decide +kernel
theorem dX0_refresh_65 : decode cX0_refresh 65 = .ok (.imul, 1) := by decide +kernel
theorem dX0_refresh_66 : decode cX0_refresh 66 = .ok (.iload_n 1, 1) := by decide +kernel
theorem dX0_refresh_67 : decode cX0_refresh 67 = .ok (.iadd, 1) := by decide +kernel
theorem dX0_refresh_68 : decode cX0_refresh 68 = .ok (.iaload, 1) := by decide +kernel
theorem dX0_refresh_69 : decode cX0_refresh 69 = .ok (.iadd, 1) := by decide +kernel
theorem dX0_refresh_70 : decode cX0_refresh 70 = .ok (.istore_n 3, 1) := by decide +kernel
theorem dX0_refresh_71 : decode cX0_refresh 71 = .ok (.aload_n 0, 1) := by decide +kernel
theorem dX0_refresh_72 : decode cX0_refresh 72 = .ok (.getfield 28, 3) := by decide +kernel
theorem dX0_refresh_75 : decode cX0_refresh 75 = .ok (.iload_n 1, 1) := by decide +kernel
theorem dX0_refresh_76 : decode cX0_refresh 76 = .ok (.iload_n 2, 1) := by decide +kernel
theorem dX0_refresh_77 : decode cX0_refresh 77 = .ok (.iastore, 1) := by decide +kernel
theorem dX0_refresh_78 : decode cX0_refresh 78 = .ok (.iload_n 3, 1) := by decide +kernel
theorem dX0_refresh_79 : decode cX0_refresh 79 = .ok (.aload_n 0, 1) := by decide +kernel
theorem dX0_refresh_80 : decode cX0_refresh 80 = .ok (.getfield 25, 3) := by decide +kernel
theorem dX0_refresh_83 : decode cX0_refresh 83 = .ok (.iload_n 1, 1) := by decide +kernel
theorem dX0_refresh_84 : decode cX0_refresh 84 = .ok (.iaload, 1) := by decide +kernel
theorem dX0_refresh_85 : decode cX0_refresh 85 = .ok (.if_icmp .eq 15, 3) := by decide +kernel
theorem dX0_refresh_88 : decode cX0_refresh 88 = .ok (.aload_n 0, 1) := by decide +kernel
theorem dX0_refresh_89 : decode cX0_refresh 89 = .ok (.getfield 25, 3) := by decide +kernel
theorem dX0_refresh_92 : decode cX0_refresh 92 = .ok (.iload_n 1, 1) := by decide +kernel
theorem dX0_refresh_93 : decode cX0_refresh 93 = .ok (.iload_n 3, 1) := by decide +kernel
theorem dX0_refresh_94 : decode cX0_refresh 94 = .ok (.iastore, 1) := by decide +kernel
theorem dX0_refresh_95 : decode cX0_refresh 95 = .ok (.aload_n 0, 1) := by decide +kernel
theorem dX0_refresh_96 : decode cX0_refresh 96 = .ok (.iload_n 1, 1) := by decide +kernel
theorem dX0_refresh_97 : decode cX0_refresh 97 = .ok (.invokevirtual 44, 3) := by decide +kernel
theorem dX0_refresh_100 : decode cX0_refresh 100 = .ok (.iinc 1 1, 3) := by decide +kernel
theorem dX0_refresh_103 : decode cX0_refresh 103 = .ok (.goto (-101), 3) := by decide +kernel
theorem dX0_refresh_106 : decode cX0_refresh 106 = .ok (.return_, 1) := by decide +kernel
abbrev cX0_rebind : ByteArray := prog_1_method_8_code
def yX0_rebind : MethodName := ⟨RX0, "rebind", "(I)V"⟩
theorem dX0_rebind_0 : decode cX0_rebind 0 = .ok (.aload_n 0, 1) := by decide +kernel
theorem dX0_rebind_1 : decode cX0_rebind 1 = .ok (.getfield 31, 3) := by decide +kernel
theorem dX0_rebind_4 : decode cX0_rebind 4 = .ok (.iload_n 1, 1) := by decide +kernel
theorem dX0_rebind_5 : decode cX0_rebind 5 = .ok (.iaload, 1) := by decide +kernel
theorem dX0_rebind_6 : decode cX0_rebind 6 = .ok (.istore_n 2, 1) := by decide +kernel
theorem dX0_rebind_7 : decode cX0_rebind 7 = .ok (.iconst 0, 1) := by decide +kernel
theorem dX0_rebind_8 : decode cX0_rebind 8 = .ok (.istore_n 3, 1) := by decide +kernel
theorem dX0_rebind_9 : decode cX0_rebind 9 = .ok (.iload_n 3, 1) := by decide +kernel
theorem dX0_rebind_10 : decode cX0_rebind 10 = .ok (.bipush 48, 2) := by decide +kernel
theorem dX0_rebind_12 : decode cX0_rebind 12 = .ok (.if_icmp .ge 25, 3) := by decide +kernel
theorem dX0_rebind_15 : decode cX0_rebind 15 = .ok (.iload_n 2, 1) := by decide +kernel
theorem dX0_rebind_16 : decode cX0_rebind 16 = .ok (.ifCond .lt 21, 3) := by decide +kernel
theorem dX0_rebind_19 : decode cX0_rebind 19 = .ok (.aload_n 0, 1) := by decide +kernel
theorem dX0_rebind_20 : decode cX0_rebind 20 = .ok (.iload_n 2, 1) := by decide +kernel
theorem dX0_rebind_21 : decode cX0_rebind 21 = .ok (.invokevirtual 40, 3) := by decide +kernel
theorem dX0_rebind_24 : decode cX0_rebind 24 = .ok (.aload_n 0, 1) := by decide +kernel
theorem dX0_rebind_25 : decode cX0_rebind 25 = .ok (.getfield 34, 3) := by decide +kernel
theorem dX0_rebind_28 : decode cX0_rebind 28 = .ok (.iload_n 2, 1) := by decide +kernel
theorem dX0_rebind_29 : decode cX0_rebind 29 = .ok (.iaload, 1) := by decide +kernel
theorem dX0_rebind_30 : decode cX0_rebind 30 = .ok (.istore_n 2, 1) := by decide +kernel
theorem dX0_rebind_31 : decode cX0_rebind 31 = .ok (.iinc 3 1, 3) := by decide +kernel
theorem dX0_rebind_34 : decode cX0_rebind 34 = .ok (.goto (-25), 3) := by decide +kernel
theorem dX0_rebind_37 : decode cX0_rebind 37 = .ok (.return_, 1) := by decide +kernel
abbrev cX0_reference : ByteArray := prog_1_method_16_code
def yX0_reference : MethodName := ⟨RX0, "reference", "(III)I"⟩
theorem dX0_reference_0 : decode cX0_reference 0 = .ok (.aload_n 0, 1) := by decide +kernel
theorem dX0_reference_1 : decode cX0_reference 1 = .ok (.iload_n 1, 1) := by decide +kernel
theorem dX0_reference_2 : decode cX0_reference 2 = .ok (.invokevirtual 71, 3) := by decide +kernel
theorem dX0_reference_5 : decode cX0_reference 5 = .ok (.ifCond .ne 23, 3) := by decide +kernel
theorem dX0_reference_8 : decode cX0_reference 8 = .ok (.aload_n 0, 1) := by decide +kernel
theorem dX0_reference_9 : decode cX0_reference 9 = .ok (.iload_n 2, 1) := by decide +kernel
theorem dX0_reference_10 : decode cX0_reference 10 = .ok (.invokevirtual 79, 3) := by decide +kernel
theorem dX0_reference_13 : decode cX0_reference 13 = .ok (.ifCond .ne 15, 3) := by decide +kernel
theorem dX0_reference_16 : decode cX0_reference 16 = .ok (.iload_n 3, 1) := by decide +kernel
theorem dX0_reference_17 : decode cX0_reference 17 = .ok (.bipush (-100), 2) := by decide +kernel
theorem dX0_reference_19 : decode cX0_reference 19 = .ok (.if_icmp .lt 9, 3) := by decide +kernel
theorem dX0_reference_22 : decode cX0_reference 22 = .ok (.iload_n 3, 1) := by decide +kernel
theorem dX0_reference_23 : decode cX0_reference 23 = .ok (.bipush 100, 2) := by decide +kernel
theorem dX0_reference_25 : decode cX0_reference 25 = .ok (.if_icmp .le 5, 3) := by decide +kernel
theorem dX0_reference_28 : decode cX0_reference 28 = .ok (.iconst (-1), 1) := by decide +kernel
theorem dX0_reference_29 : decode cX0_reference 29 = .ok (.ireturn, 1) := by decide +kernel
theorem dX0_reference_30 : decode cX0_reference 30 = .ok (.aload_n 0, 1) := by decide +kernel
theorem dX0_reference_31 : decode cX0_reference 31 = .ok (.iload_n 1, 1) := by decide +kernel
theorem dX0_reference_32 : decode cX0_reference 32 = .ok (.iconst 0, 1) := by decide +kernel
theorem dX0_reference_33 : decode cX0_reference 33 = .ok (.iload_n 2, 1) := by decide +kernel
theorem dX0_reference_34 : decode cX0_reference 34 = .ok (.iload_n 3, 1) := by decide +kernel
theorem dX0_reference_35 : decode cX0_reference 35 = .ok (.invokevirtual 75, 3) := by decide +kernel
theorem dX0_reference_38 : decode cX0_reference 38 = .ok (.ireturn, 1) := by decide +kernel
abbrev cX0_badName : ByteArray := prog_1_method_3_code
def yX0_badName : MethodName := ⟨RX0, "badName", "(I)Z"⟩
theorem dX0_badName_0 : decode cX0_badName 0 = .ok (.iload_n 1, 1) := by decide +kernel
theorem dX0_badName_1 : decode cX0_badName 1 = .ok (.ifCond .lt 9, 3) := by decide +kernel
theorem dX0_badName_4 : decode cX0_badName 4 = .ok (.iload_n 1, 1) := by decide +kernel
theorem dX0_badName_5 : decode cX0_badName 5 = .ok (.bipush 10, 2) := by decide +kernel
theorem dX0_badName_7 : decode cX0_badName 7 = .ok (.if_icmp .lt 7, 3) := by decide +kernel
theorem dX0_badName_10 : decode cX0_badName 10 = .ok (.iconst 1, 1) := by decide +kernel
theorem dX0_badName_11 : decode cX0_badName 11 = .ok (.goto 4, 3) := by decide +kernel
theorem dX0_badName_14 : decode cX0_badName 14 = .ok (.iconst 0, 1) := by decide +kernel
theorem dX0_badName_15 : decode cX0_badName 15 = .ok (.ireturn, 1) := by decide +kernel
abbrev cX0_patch : ByteArray := prog_1_method_17_code
def yX0_patch : MethodName := ⟨RX0, "patch", "(III)I"⟩
theorem dX0_patch_0 : decode cX0_patch 0 = .ok (.aload_n 0, 1) := by decide +kernel
theorem dX0_patch_1 : decode cX0_patch 1 = .ok (.iload_n 1, 1) := by decide +kernel
theorem dX0_patch_2 : decode cX0_patch 2 = .ok (.invokevirtual 71, 3) := by decide +kernel
theorem dX0_patch_5 : decode cX0_patch 5 = .ok (.ifCond .eq 5, 3) := by decide +kernel
theorem dX0_patch_8 : decode cX0_patch 8 = .ok (.iconst (-1), 1) := by decide +kernel
theorem dX0_patch_9 : decode cX0_patch 9 = .ok (.ireturn, 1) := by decide +kernel
theorem dX0_patch_10 : decode cX0_patch 10 = .ok (.iload_n 2, 1) := by decide +kernel
theorem dX0_patch_11 : decode cX0_patch 11 = .ok (.ifCond .lt 12, 3) := by decide +kernel
theorem dX0_patch_14 : decode cX0_patch 14 = .ok (.iload_n 2, 1) := by decide +kernel
theorem dX0_patch_15 : decode cX0_patch 15 = .ok (.aload_n 0, 1) := by decide +kernel
theorem dX0_patch_16 : decode cX0_patch 16 = .ok (.iload_n 1, 1) := by decide +kernel
theorem dX0_patch_17 : decode cX0_patch 17 = .ok (.invokevirtual 61, 3) := by decide +kernel
theorem dX0_patch_20 : decode cX0_patch 20 = .ok (.if_icmp .lt 6, 3) := by decide +kernel
theorem dX0_patch_23 : decode cX0_patch 23 = .ok (.bipush (-4), 2) := by decide +kernel
theorem dX0_patch_25 : decode cX0_patch 25 = .ok (.ireturn, 1) := by decide +kernel
theorem dX0_patch_26 : decode cX0_patch 26 = .ok (.aload_n 0, 1) := by decide +kernel
theorem dX0_patch_27 : decode cX0_patch 27 = .ok (.getfield 7, 3) := by decide +kernel
theorem dX0_patch_30 : decode cX0_patch 30 = .ok (.iload_n 1, 1) := by decide +kernel
theorem dX0_patch_31 : decode cX0_patch 31 = .ok (.iaload, 1) := by decide +kernel
theorem dX0_patch_32 : decode cX0_patch 32 = .ok (.iload_n 2, 1) := by decide +kernel
theorem dX0_patch_33 : decode cX0_patch 33 = .ok (.iadd, 1) := by decide +kernel
theorem dX0_patch_34 : decode cX0_patch 34 = .ok (.istore 4, 2) := by decide +kernel
theorem dX0_patch_36 : decode cX0_patch 36 = .ok (.aload_n 0, 1) := by decide +kernel
theorem dX0_patch_37 : decode cX0_patch 37 = .ok (.getfield 16, 3) := by decide +kernel
theorem dX0_patch_40 : decode cX0_patch 40 = .ok (.iload 4, 2) := by decide +kernel
theorem dX0_patch_42 : decode cX0_patch 42 = .ok (.iaload, 1) := by decide +kernel
theorem dX0_patch_43 : decode cX0_patch 43 = .ok (.ifCond .lt 7, 3) := by decide +kernel
theorem dX0_patch_46 : decode cX0_patch 46 = .ok (.iconst 1, 1) := by decide +kernel
theorem dX0_patch_47 : decode cX0_patch 47 = .ok (.goto 4, 3) := by decide +kernel
theorem dX0_patch_50 : decode cX0_patch 50 = .ok (.iconst 0, 1) := by decide +kernel
theorem dX0_patch_51 : decode cX0_patch 51 = .ok (.istore 5, 2) := by decide +kernel
theorem dX0_patch_53 : decode cX0_patch 53 = .ok (.iload 5, 2) := by decide +kernel
theorem dX0_patch_55 : decode cX0_patch 55 = .ok (.iconst 1, 1) := by decide +kernel
theorem dX0_patch_56 : decode cX0_patch 56 = .ok (.if_icmp .ne 16, 3) := by decide +kernel
theorem dX0_patch_59 : decode cX0_patch 59 = .ok (.aload_n 0, 1) := by decide +kernel
theorem dX0_patch_60 : decode cX0_patch 60 = .ok (.iload 4, 2) := by decide +kernel
theorem dX0_patch_62 : decode cX0_patch 62 = .ok (.aload_n 0, 1) := by decide +kernel
theorem dX0_patch_63 : decode cX0_patch 63 = .ok (.getfield 16, 3) := by decide +kernel
theorem dX0_patch_66 : decode cX0_patch 66 = .ok (.iload 4, 2) := by decide +kernel
theorem dX0_patch_68 : decode cX0_patch 68 = .ok (.iaload, 1) := by decide +kernel
theorem dX0_patch_69 : decode cX0_patch 69 = .ok (.invokevirtual 51, 3) := by decide +kernel
theorem dX0_patch_72 : decode cX0_patch 72 = .ok (.aload_n 0, 1) := by decide +kernel
theorem dX0_patch_73 : decode cX0_patch 73 = .ok (.iload 4, 2) := by decide +kernel
theorem dX0_patch_75 : decode cX0_patch 75 = .ok (.iload_n 3, 1) := by decide +kernel
theorem dX0_patch_76 : decode cX0_patch 76 = .ok (.bipush (-4), 2) := by decide +kernel
theorem dX0_patch_78 : decode cX0_patch 78 = .ok (.iconst 0, 1) := by decide +kernel
theorem dX0_patch_79 : decode cX0_patch 79 = .ok (.invokevirtual 54, 3) := by decide +kernel
theorem dX0_patch_82 : decode cX0_patch 82 = .ok (.iload 5, 2) := by decide +kernel
theorem dX0_patch_84 : decode cX0_patch 84 = .ok (.ireturn, 1) := by decide +kernel
abbrev cX0_insert : ByteArray := prog_1_method_18_code
def yX0_insert : MethodName := ⟨RX0, "insert", "(III)I"⟩
theorem dX0_insert_0 : decode cX0_insert 0 = .ok (.aload_n 0, 1) := by decide +kernel
theorem dX0_insert_1 : decode cX0_insert 1 = .ok (.iload_n 1, 1) := by decide +kernel
theorem dX0_insert_2 : decode cX0_insert 2 = .ok (.invokevirtual 71, 3) := by decide +kernel
theorem dX0_insert_5 : decode cX0_insert 5 = .ok (.ifCond .eq 5, 3) := by decide +kernel
theorem dX0_insert_8 : decode cX0_insert 8 = .ok (.iconst (-1), 1) := by decide +kernel
theorem dX0_insert_9 : decode cX0_insert 9 = .ok (.ireturn, 1) := by decide +kernel
theorem dX0_insert_10 : decode cX0_insert 10 = .ok (.iload_n 2, 1) := by decide +kernel
theorem dX0_insert_11 : decode cX0_insert 11 = .ok (.ifCond .lt 12, 3) := by decide +kernel
theorem dX0_insert_14 : decode cX0_insert 14 = .ok (.iload_n 2, 1) := by decide +kernel
theorem dX0_insert_15 : decode cX0_insert 15 = .ok (.aload_n 0, 1) := by decide +kernel
theorem dX0_insert_16 : decode cX0_insert 16 = .ok (.iload_n 1, 1) := by decide +kernel
theorem dX0_insert_17 : decode cX0_insert 17 = .ok (.invokevirtual 61, 3) := by decide +kernel
theorem dX0_insert_20 : decode cX0_insert 20 = .ok (.if_icmp .le 6, 3) := by decide +kernel
theorem dX0_insert_23 : decode cX0_insert 23 = .ok (.bipush (-4), 2) := by decide +kernel
theorem dX0_insert_25 : decode cX0_insert 25 = .ok (.ireturn, 1) := by decide +kernel
theorem dX0_insert_26 : decode cX0_insert 26 = .ok (.aload_n 0, 1) := by decide +kernel
theorem dX0_insert_27 : decode cX0_insert 27 = .ok (.iload_n 1, 1) := by decide +kernel
theorem dX0_insert_28 : decode cX0_insert 28 = .ok (.invokevirtual 61, 3) := by decide +kernel
theorem dX0_insert_31 : decode cX0_insert 31 = .ok (.bipush 8, 2) := by decide +kernel
theorem dX0_insert_33 : decode cX0_insert 33 = .ok (.if_icmp .ne 6, 3) := by decide +kernel
theorem dX0_insert_36 : decode cX0_insert 36 = .ok (.bipush (-2), 2) := by decide +kernel
theorem dX0_insert_38 : decode cX0_insert 38 = .ok (.ireturn, 1) := by decide +kernel
theorem dX0_insert_39 : decode cX0_insert 39 = .ok (.aload_n 0, 1) := by decide +kernel
theorem dX0_insert_40 : decode cX0_insert 40 = .ok (.getfield 7, 3) := by decide +kernel
theorem dX0_insert_43 : decode cX0_insert 43 = .ok (.iload_n 1, 1) := by decide +kernel
theorem dX0_insert_44 : decode cX0_insert 44 = .ok (.iaload, 1) := by decide +kernel
theorem dX0_insert_45 : decode cX0_insert 45 = .ok (.iload_n 2, 1) := by decide +kernel
theorem dX0_insert_46 : decode cX0_insert 46 = .ok (.iadd, 1) := by decide +kernel
theorem dX0_insert_47 : decode cX0_insert 47 = .ok (.istore 4, 2) := by decide +kernel
theorem dX0_insert_49 : decode cX0_insert 49 = .ok (.aload_n 0, 1) := by decide +kernel
theorem dX0_insert_50 : decode cX0_insert 50 = .ok (.iload_n 1, 1) := by decide +kernel
theorem dX0_insert_51 : decode cX0_insert 51 = .ok (.iload 4, 2) := by decide +kernel
theorem dX0_insert_53 : decode cX0_insert 53 = .ok (.invokevirtual 65, 3) := by decide +kernel
theorem dX0_insert_56 : decode cX0_insert 56 = .ok (.aload_n 0, 1) := by decide +kernel
theorem dX0_insert_57 : decode cX0_insert 57 = .ok (.iload 4, 2) := by decide +kernel
theorem dX0_insert_59 : decode cX0_insert 59 = .ok (.iload_n 3, 1) := by decide +kernel
theorem dX0_insert_60 : decode cX0_insert 60 = .ok (.bipush (-4), 2) := by decide +kernel
theorem dX0_insert_62 : decode cX0_insert 62 = .ok (.iconst 0, 1) := by decide +kernel
theorem dX0_insert_63 : decode cX0_insert 63 = .ok (.invokevirtual 54, 3) := by decide +kernel
theorem dX0_insert_66 : decode cX0_insert 66 = .ok (.iconst 0, 1) := by decide +kernel
theorem dX0_insert_67 : decode cX0_insert 67 = .ok (.istore 5, 2) := by decide +kernel
theorem dX0_insert_69 : decode cX0_insert 69 = .ok (.iload 5, 2) := by decide +kernel
theorem dX0_insert_71 : decode cX0_insert 71 = .ok (.bipush 10, 2) := by decide +kernel
theorem dX0_insert_73 : decode cX0_insert 73 = .ok (.if_icmp .ge 51, 3) := by decide +kernel
theorem dX0_insert_76 : decode cX0_insert 76 = .ok (.aload_n 0, 1) := by decide +kernel
theorem dX0_insert_77 : decode cX0_insert 77 = .ok (.getfield 22, 3) := by decide +kernel
theorem dX0_insert_80 : decode cX0_insert 80 = .ok (.iload_n 1, 1) := by decide +kernel
theorem dX0_insert_81 : decode cX0_insert 81 = .ok (.bipush 10, 2) := by decide +kernel
theorem dX0_insert_83 : decode cX0_insert 83 = .ok (.imul, 1) := by decide +kernel
theorem dX0_insert_84 : decode cX0_insert 84 = .ok (.iload 5, 2) := by decide +kernel
theorem dX0_insert_86 : decode cX0_insert 86 = .ok (.iadd, 1) := by decide +kernel
theorem dX0_insert_87 : decode cX0_insert 87 = .ok (.iaload, 1) := by decide +kernel
theorem dX0_insert_88 : decode cX0_insert 88 = .ok (.iload_n 2, 1) := by decide +kernel
theorem dX0_insert_89 : decode cX0_insert 89 = .ok (.if_icmp .lt 29, 3) := by decide +kernel
theorem dX0_insert_92 : decode cX0_insert 92 = .ok (.aload_n 0, 1) := by decide +kernel
theorem dX0_insert_93 : decode cX0_insert 93 = .ok (.getfield 22, 3) := by decide +kernel
theorem dX0_insert_96 : decode cX0_insert 96 = .ok (.iload_n 1, 1) := by decide +kernel
theorem dX0_insert_97 : decode cX0_insert 97 = .ok (.bipush 10, 2) := by decide +kernel
theorem dX0_insert_99 : decode cX0_insert 99 = .ok (.imul, 1) := by decide +kernel
theorem dX0_insert_100 : decode cX0_insert 100 = .ok (.iload 5, 2) := by decide +kernel
theorem dX0_insert_102 : decode cX0_insert 102 = .ok (.iadd, 1) := by decide +kernel
theorem dX0_insert_103 : decode cX0_insert 103 = .ok (.aload_n 0, 1) := by decide +kernel
theorem dX0_insert_104 : decode cX0_insert 104 = .ok (.getfield 22, 3) := by decide +kernel
theorem dX0_insert_107 : decode cX0_insert 107 = .ok (.iload_n 1, 1) := by decide +kernel
theorem dX0_insert_108 : decode cX0_insert 108 = .ok (.bipush 10, 2) := by decide +kernel
theorem dX0_insert_110 : decode cX0_insert 110 = .ok (.imul, 1) := by decide +kernel
theorem dX0_insert_111 : decode cX0_insert 111 = .ok (.iload 5, 2) := by decide +kernel
theorem dX0_insert_113 : decode cX0_insert 113 = .ok (.iadd, 1) := by decide +kernel
theorem dX0_insert_114 : decode cX0_insert 114 = .ok (.iaload, 1) := by decide +kernel
theorem dX0_insert_115 : decode cX0_insert 115 = .ok (.iconst 1, 1) := by decide +kernel
theorem dX0_insert_116 : decode cX0_insert 116 = .ok (.iadd, 1) := by decide +kernel
theorem dX0_insert_117 : decode cX0_insert 117 = .ok (.iastore, 1) := by decide +kernel
theorem dX0_insert_118 : decode cX0_insert 118 = .ok (.iinc 5 1, 3) := by decide +kernel
theorem dX0_insert_121 : decode cX0_insert 121 = .ok (.goto (-52), 3) := by decide +kernel
theorem dX0_insert_124 : decode cX0_insert 124 = .ok (.aload_n 0, 1) := by decide +kernel
theorem dX0_insert_125 : decode cX0_insert 125 = .ok (.invokevirtual 68, 3) := by decide +kernel
theorem dX0_insert_128 : decode cX0_insert 128 = .ok (.aload_n 0, 1) := by decide +kernel
theorem dX0_insert_129 : decode cX0_insert 129 = .ok (.iload_n 1, 1) := by decide +kernel
theorem dX0_insert_130 : decode cX0_insert 130 = .ok (.invokevirtual 61, 3) := by decide +kernel
theorem dX0_insert_133 : decode cX0_insert 133 = .ok (.ireturn, 1) := by decide +kernel
abbrev cX0_delete : ByteArray := prog_1_method_19_code
def yX0_delete : MethodName := ⟨RX0, "delete", "(II)I"⟩
theorem dX0_delete_0 : decode cX0_delete 0 = .ok (.aload_n 0, 1) := by decide +kernel
theorem dX0_delete_1 : decode cX0_delete 1 = .ok (.iload_n 1, 1) := by decide +kernel
theorem dX0_delete_2 : decode cX0_delete 2 = .ok (.invokevirtual 71, 3) := by decide +kernel
theorem dX0_delete_5 : decode cX0_delete 5 = .ok (.ifCond .eq 5, 3) := by decide +kernel
theorem dX0_delete_8 : decode cX0_delete 8 = .ok (.iconst (-1), 1) := by decide +kernel
theorem dX0_delete_9 : decode cX0_delete 9 = .ok (.ireturn, 1) := by decide +kernel
theorem dX0_delete_10 : decode cX0_delete 10 = .ok (.iload_n 2, 1) := by decide +kernel
theorem dX0_delete_11 : decode cX0_delete 11 = .ok (.ifCond .lt 12, 3) := by decide +kernel
theorem dX0_delete_14 : decode cX0_delete 14 = .ok (.iload_n 2, 1) := by decide +kernel
theorem dX0_delete_15 : decode cX0_delete 15 = .ok (.aload_n 0, 1) := by decide +kernel
theorem dX0_delete_16 : decode cX0_delete 16 = .ok (.iload_n 1, 1) := by decide +kernel
theorem dX0_delete_17 : decode cX0_delete 17 = .ok (.invokevirtual 61, 3) := by decide +kernel
theorem dX0_delete_20 : decode cX0_delete 20 = .ok (.if_icmp .lt 6, 3) := by decide +kernel
theorem dX0_delete_23 : decode cX0_delete 23 = .ok (.bipush (-4), 2) := by decide +kernel
theorem dX0_delete_25 : decode cX0_delete 25 = .ok (.ireturn, 1) := by decide +kernel
theorem dX0_delete_26 : decode cX0_delete 26 = .ok (.aload_n 0, 1) := by decide +kernel
theorem dX0_delete_27 : decode cX0_delete 27 = .ok (.iload_n 1, 1) := by decide +kernel
theorem dX0_delete_28 : decode cX0_delete 28 = .ok (.aload_n 0, 1) := by decide +kernel
theorem dX0_delete_29 : decode cX0_delete 29 = .ok (.getfield 7, 3) := by decide +kernel
theorem dX0_delete_32 : decode cX0_delete 32 = .ok (.iload_n 1, 1) := by decide +kernel
theorem dX0_delete_33 : decode cX0_delete 33 = .ok (.iaload, 1) := by decide +kernel
theorem dX0_delete_34 : decode cX0_delete 34 = .ok (.iload_n 2, 1) := by decide +kernel
theorem dX0_delete_35 : decode cX0_delete 35 = .ok (.iadd, 1) := by decide +kernel
theorem dX0_delete_36 : decode cX0_delete 36 = .ok (.invokevirtual 82, 3) := by decide +kernel
theorem dX0_delete_39 : decode cX0_delete 39 = .ok (.iconst 0, 1) := by decide +kernel
theorem dX0_delete_40 : decode cX0_delete 40 = .ok (.istore_n 3, 1) := by decide +kernel
theorem dX0_delete_41 : decode cX0_delete 41 = .ok (.iload_n 3, 1) := by decide +kernel
theorem dX0_delete_42 : decode cX0_delete 42 = .ok (.bipush 10, 2) := by decide +kernel
theorem dX0_delete_44 : decode cX0_delete 44 = .ok (.if_icmp .ge 48, 3) := by decide +kernel
theorem dX0_delete_47 : decode cX0_delete 47 = .ok (.aload_n 0, 1) := by decide +kernel
theorem dX0_delete_48 : decode cX0_delete 48 = .ok (.getfield 22, 3) := by decide +kernel
theorem dX0_delete_51 : decode cX0_delete 51 = .ok (.iload_n 1, 1) := by decide +kernel
theorem dX0_delete_52 : decode cX0_delete 52 = .ok (.bipush 10, 2) := by decide +kernel
theorem dX0_delete_54 : decode cX0_delete 54 = .ok (.imul, 1) := by decide +kernel
theorem dX0_delete_55 : decode cX0_delete 55 = .ok (.iload_n 3, 1) := by decide +kernel
theorem dX0_delete_56 : decode cX0_delete 56 = .ok (.iadd, 1) := by decide +kernel
theorem dX0_delete_57 : decode cX0_delete 57 = .ok (.iaload, 1) := by decide +kernel
theorem dX0_delete_58 : decode cX0_delete 58 = .ok (.iload_n 2, 1) := by decide +kernel
theorem dX0_delete_59 : decode cX0_delete 59 = .ok (.if_icmp .le 27, 3) := by decide +kernel
theorem dX0_delete_62 : decode cX0_delete 62 = .ok (.aload_n 0, 1) := by decide +kernel
theorem dX0_delete_63 : decode cX0_delete 63 = .ok (.getfield 22, 3) := by decide +kernel
theorem dX0_delete_66 : decode cX0_delete 66 = .ok (.iload_n 1, 1) := by decide +kernel
theorem dX0_delete_67 : decode cX0_delete 67 = .ok (.bipush 10, 2) := by decide +kernel
theorem dX0_delete_69 : decode cX0_delete 69 = .ok (.imul, 1) := by decide +kernel
theorem dX0_delete_70 : decode cX0_delete 70 = .ok (.iload_n 3, 1) := by decide +kernel
theorem dX0_delete_71 : decode cX0_delete 71 = .ok (.iadd, 1) := by decide +kernel
theorem dX0_delete_72 : decode cX0_delete 72 = .ok (.aload_n 0, 1) := by decide +kernel
theorem dX0_delete_73 : decode cX0_delete 73 = .ok (.getfield 22, 3) := by decide +kernel
theorem dX0_delete_76 : decode cX0_delete 76 = .ok (.iload_n 1, 1) := by decide +kernel
theorem dX0_delete_77 : decode cX0_delete 77 = .ok (.bipush 10, 2) := by decide +kernel
theorem dX0_delete_79 : decode cX0_delete 79 = .ok (.imul, 1) := by decide +kernel
theorem dX0_delete_80 : decode cX0_delete 80 = .ok (.iload_n 3, 1) := by decide +kernel
theorem dX0_delete_81 : decode cX0_delete 81 = .ok (.iadd, 1) := by decide +kernel
theorem dX0_delete_82 : decode cX0_delete 82 = .ok (.iaload, 1) := by decide +kernel
theorem dX0_delete_83 : decode cX0_delete 83 = .ok (.iconst 1, 1) := by decide +kernel
theorem dX0_delete_84 : decode cX0_delete 84 = .ok (.isub, 1) := by decide +kernel
theorem dX0_delete_85 : decode cX0_delete 85 = .ok (.iastore, 1) := by decide +kernel
theorem dX0_delete_86 : decode cX0_delete 86 = .ok (.iinc 3 1, 3) := by decide +kernel
theorem dX0_delete_89 : decode cX0_delete 89 = .ok (.goto (-48), 3) := by decide +kernel
theorem dX0_delete_92 : decode cX0_delete 92 = .ok (.aload_n 0, 1) := by decide +kernel
theorem dX0_delete_93 : decode cX0_delete 93 = .ok (.invokevirtual 68, 3) := by decide +kernel
theorem dX0_delete_96 : decode cX0_delete 96 = .ok (.aload_n 0, 1) := by decide +kernel
theorem dX0_delete_97 : decode cX0_delete 97 = .ok (.iload_n 1, 1) := by decide +kernel
theorem dX0_delete_98 : decode cX0_delete 98 = .ok (.invokevirtual 61, 3) := by decide +kernel
theorem dX0_delete_101 : decode cX0_delete 101 = .ok (.ireturn, 1) := by decide +kernel
abbrev cX0_close : ByteArray := prog_1_method_13_code
def yX0_close : MethodName := ⟨RX0, "close", "(II)V"⟩
theorem dX0_close_0 : decode cX0_close 0 = .ok (.aload_n 0, 1) := by decide +kernel
theorem dX0_close_1 : decode cX0_close 1 = .ok (.getfield 16, 3) := by decide +kernel
theorem dX0_close_4 : decode cX0_close 4 = .ok (.iload_n 2, 1) := by decide +kernel
theorem dX0_close_5 : decode cX0_close 5 = .ok (.iaload, 1) := by decide +kernel
theorem dX0_close_6 : decode cX0_close 6 = .ok (.ifCond .lt 22, 3) := by decide +kernel
theorem dX0_close_9 : decode cX0_close 9 = .ok (.aload_n 0, 1) := by decide +kernel
theorem dX0_close_10 : decode cX0_close 10 = .ok (.iload_n 2, 1) := by decide +kernel
theorem dX0_close_11 : decode cX0_close 11 = .ok (.aload_n 0, 1) := by decide +kernel
theorem dX0_close_12 : decode cX0_close 12 = .ok (.getfield 16, 3) := by decide +kernel
theorem dX0_close_15 : decode cX0_close 15 = .ok (.iload_n 2, 1) := by decide +kernel
theorem dX0_close_16 : decode cX0_close 16 = .ok (.iaload, 1) := by decide +kernel
theorem dX0_close_17 : decode cX0_close 17 = .ok (.invokevirtual 51, 3) := by decide +kernel
theorem dX0_close_20 : decode cX0_close 20 = .ok (.aload_n 0, 1) := by decide +kernel
theorem dX0_close_21 : decode cX0_close 21 = .ok (.getfield 16, 3) := by decide +kernel
theorem dX0_close_24 : decode cX0_close 24 = .ok (.iload_n 2, 1) := by decide +kernel
theorem dX0_close_25 : decode cX0_close 25 = .ok (.bipush (-4), 2) := by decide +kernel
theorem dX0_close_27 : decode cX0_close 27 = .ok (.iastore, 1) := by decide +kernel
theorem dX0_close_28 : decode cX0_close 28 = .ok (.iload_n 2, 1) := by decide +kernel
theorem dX0_close_29 : decode cX0_close 29 = .ok (.iconst 1, 1) := by decide +kernel
theorem dX0_close_30 : decode cX0_close 30 = .ok (.iadd, 1) := by decide +kernel
theorem dX0_close_31 : decode cX0_close 31 = .ok (.istore_n 3, 1) := by decide +kernel
theorem dX0_close_32 : decode cX0_close 32 = .ok (.iload_n 3, 1) := by decide +kernel
theorem dX0_close_33 : decode cX0_close 33 = .ok (.aload_n 0, 1) := by decide +kernel
theorem dX0_close_34 : decode cX0_close 34 = .ok (.getfield 7, 3) := by decide +kernel
theorem dX0_close_37 : decode cX0_close 37 = .ok (.bipush 6, 2) := by decide +kernel
theorem dX0_close_39 : decode cX0_close 39 = .ok (.iaload, 1) := by decide +kernel
theorem dX0_close_40 : decode cX0_close 40 = .ok (.if_icmp .ge 17, 3) := by decide +kernel
theorem dX0_close_43 : decode cX0_close 43 = .ok (.aload_n 0, 1) := by decide +kernel
theorem dX0_close_44 : decode cX0_close 44 = .ok (.iload_n 3, 1) := by decide +kernel
theorem dX0_close_45 : decode cX0_close 45 = .ok (.iload_n 3, 1) := by decide +kernel
theorem dX0_close_46 : decode cX0_close 46 = .ok (.iconst 1, 1) := by decide +kernel
theorem dX0_close_47 : decode cX0_close 47 = .ok (.isub, 1) := by decide +kernel
theorem dX0_close_48 : decode cX0_close 48 = .ok (.invokevirtual 58, 3) := by decide +kernel
theorem dX0_close_51 : decode cX0_close 51 = .ok (.iinc 3 1, 3) := by decide +kernel
theorem dX0_close_54 : decode cX0_close 54 = .ok (.goto (-22), 3) := by decide +kernel
theorem dX0_close_57 : decode cX0_close 57 = .ok (.iload_n 1, 1) := by decide +kernel
theorem dX0_close_58 : decode cX0_close 58 = .ok (.iconst 1, 1) := by decide +kernel
theorem dX0_close_59 : decode cX0_close 59 = .ok (.iadd, 1) := by decide +kernel
theorem dX0_close_60 : decode cX0_close 60 = .ok (.istore_n 3, 1) := by decide +kernel
theorem dX0_close_61 : decode cX0_close 61 = .ok (.iload_n 3, 1) := by decide +kernel
theorem dX0_close_62 : decode cX0_close 62 = .ok (.bipush 6, 2) := by decide +kernel
theorem dX0_close_64 : decode cX0_close 64 = .ok (.if_icmp .gt 23, 3) := by decide +kernel
theorem dX0_close_67 : decode cX0_close 67 = .ok (.aload_n 0, 1) := by decide +kernel
theorem dX0_close_68 : decode cX0_close 68 = .ok (.getfield 7, 3) := by decide +kernel
theorem dX0_close_71 : decode cX0_close 71 = .ok (.iload_n 3, 1) := by decide +kernel
theorem dX0_close_72 : decode cX0_close 72 = .ok (.aload_n 0, 1) := by decide +kernel
theorem dX0_close_73 : decode cX0_close 73 = .ok (.getfield 7, 3) := by decide +kernel
theorem dX0_close_76 : decode cX0_close 76 = .ok (.iload_n 3, 1) := by decide +kernel
theorem dX0_close_77 : decode cX0_close 77 = .ok (.iaload, 1) := by decide +kernel
theorem dX0_close_78 : decode cX0_close 78 = .ok (.iconst 1, 1) := by decide +kernel
theorem dX0_close_79 : decode cX0_close 79 = .ok (.isub, 1) := by decide +kernel
theorem dX0_close_80 : decode cX0_close 80 = .ok (.iastore, 1) := by decide +kernel
theorem dX0_close_81 : decode cX0_close 81 = .ok (.iinc 3 1, 3) := by decide +kernel
theorem dX0_close_84 : decode cX0_close 84 = .ok (.goto (-23), 3) := by decide +kernel
theorem dX0_close_87 : decode cX0_close 87 = .ok (.return_, 1) := by decide +kernel
abbrev cX0_unload : ByteArray := prog_1_method_20_code
def yX0_unload : MethodName := ⟨RX0, "unload", "(I)I"⟩
theorem dX0_unload_0 : decode cX0_unload 0 = .ok (.aload_n 0, 1) := by decide +kernel
theorem dX0_unload_1 : decode cX0_unload 1 = .ok (.iload_n 1, 1) := by decide +kernel
theorem dX0_unload_2 : decode cX0_unload 2 = .ok (.invokevirtual 71, 3) := by decide +kernel
theorem dX0_unload_5 : decode cX0_unload 5 = .ok (.ifCond .eq 5, 3) := by decide +kernel
theorem dX0_unload_8 : decode cX0_unload 8 = .ok (.iconst (-1), 1) := by decide +kernel
theorem dX0_unload_9 : decode cX0_unload 9 = .ok (.ireturn, 1) := by decide +kernel
theorem dX0_unload_10 : decode cX0_unload 10 = .ok (.aload_n 0, 1) := by decide +kernel
theorem dX0_unload_11 : decode cX0_unload 11 = .ok (.iload_n 1, 1) := by decide +kernel
theorem dX0_unload_12 : decode cX0_unload 12 = .ok (.invokevirtual 61, 3) := by decide +kernel
theorem dX0_unload_15 : decode cX0_unload 15 = .ok (.istore_n 2, 1) := by decide +kernel
theorem dX0_unload_16 : decode cX0_unload 16 = .ok (.iconst 0, 1) := by decide +kernel
theorem dX0_unload_17 : decode cX0_unload 17 = .ok (.istore_n 3, 1) := by decide +kernel
theorem dX0_unload_18 : decode cX0_unload 18 = .ok (.iload_n 3, 1) := by decide +kernel
theorem dX0_unload_19 : decode cX0_unload 19 = .ok (.iload_n 2, 1) := by decide +kernel
theorem dX0_unload_20 : decode cX0_unload 20 = .ok (.if_icmp .ge 20, 3) := by decide +kernel
theorem dX0_unload_23 : decode cX0_unload 23 = .ok (.aload_n 0, 1) := by decide +kernel
theorem dX0_unload_24 : decode cX0_unload 24 = .ok (.iload_n 1, 1) := by decide +kernel
theorem dX0_unload_25 : decode cX0_unload 25 = .ok (.aload_n 0, 1) := by decide +kernel
theorem dX0_unload_26 : decode cX0_unload 26 = .ok (.getfield 7, 3) := by decide +kernel
theorem dX0_unload_29 : decode cX0_unload 29 = .ok (.iload_n 1, 1) := by decide +kernel
theorem dX0_unload_30 : decode cX0_unload 30 = .ok (.iaload, 1) := by decide +kernel
theorem dX0_unload_31 : decode cX0_unload 31 = .ok (.invokevirtual 82, 3) := by decide +kernel
theorem dX0_unload_34 : decode cX0_unload 34 = .ok (.iinc 3 1, 3) := by decide +kernel
theorem dX0_unload_37 : decode cX0_unload 37 = .ok (.goto (-19), 3) := by decide +kernel
theorem dX0_unload_40 : decode cX0_unload 40 = .ok (.iconst 0, 1) := by decide +kernel
theorem dX0_unload_41 : decode cX0_unload 41 = .ok (.istore_n 3, 1) := by decide +kernel
theorem dX0_unload_42 : decode cX0_unload 42 = .ok (.iload_n 3, 1) := by decide +kernel
theorem dX0_unload_43 : decode cX0_unload 43 = .ok (.bipush 10, 2) := by decide +kernel
theorem dX0_unload_45 : decode cX0_unload 45 = .ok (.if_icmp .ge 22, 3) := by decide +kernel
theorem dX0_unload_48 : decode cX0_unload 48 = .ok (.aload_n 0, 1) := by decide +kernel
theorem dX0_unload_49 : decode cX0_unload 49 = .ok (.getfield 22, 3) := by decide +kernel
theorem dX0_unload_52 : decode cX0_unload 52 = .ok (.iload_n 1, 1) := by decide +kernel
theorem dX0_unload_53 : decode cX0_unload 53 = .ok (.bipush 10, 2) := by decide +kernel
theorem dX0_unload_55 : decode cX0_unload 55 = .ok (.imul, 1) := by decide +kernel
theorem dX0_unload_56 : decode cX0_unload 56 = .ok (.iload_n 3, 1) := by decide +kernel
theorem dX0_unload_57 : decode cX0_unload 57 = .ok (.iadd, 1) := by decide +kernel
theorem dX0_unload_58 : decode cX0_unload 58 = .ok (.bipush (-4), 2) := by decide +kernel
theorem dX0_unload_60 : decode cX0_unload 60 = .ok (.iastore, 1) := by decide +kernel
theorem dX0_unload_61 : decode cX0_unload 61 = .ok (.iinc 3 1, 3) := by decide +kernel
theorem dX0_unload_64 : decode cX0_unload 64 = .ok (.goto (-22), 3) := by decide +kernel
theorem dX0_unload_67 : decode cX0_unload 67 = .ok (.aload_n 0, 1) := by decide +kernel
theorem dX0_unload_68 : decode cX0_unload 68 = .ok (.invokevirtual 68, 3) := by decide +kernel
theorem dX0_unload_71 : decode cX0_unload 71 = .ok (.iload_n 2, 1) := by decide +kernel
theorem dX0_unload_72 : decode cX0_unload 72 = .ok (.ireturn, 1) := by decide +kernel
abbrev cX0_define : ByteArray := prog_1_method_21_code
def yX0_define : MethodName := ⟨RX0, "define", "(III)I"⟩
theorem dX0_define_0 : decode cX0_define 0 = .ok (.aload_n 0, 1) := by decide +kernel
theorem dX0_define_1 : decode cX0_define 1 = .ok (.iload_n 1, 1) := by decide +kernel
theorem dX0_define_2 : decode cX0_define 2 = .ok (.invokevirtual 71, 3) := by decide +kernel
theorem dX0_define_5 : decode cX0_define 5 = .ok (.ifCond .ne 11, 3) := by decide +kernel
theorem dX0_define_8 : decode cX0_define 8 = .ok (.aload_n 0, 1) := by decide +kernel
theorem dX0_define_9 : decode cX0_define 9 = .ok (.iload_n 2, 1) := by decide +kernel
theorem dX0_define_10 : decode cX0_define 10 = .ok (.invokevirtual 79, 3) := by decide +kernel
theorem dX0_define_13 : decode cX0_define 13 = .ok (.ifCond .eq 5, 3) := by decide +kernel
theorem dX0_define_16 : decode cX0_define 16 = .ok (.iconst (-1), 1) := by decide +kernel
theorem dX0_define_17 : decode cX0_define 17 = .ok (.ireturn, 1) := by decide +kernel
theorem dX0_define_18 : decode cX0_define 18 = .ok (.iload_n 3, 1) := by decide +kernel
theorem dX0_define_19 : decode cX0_define 19 = .ok (.ifCond .lt 12, 3) := by decide +kernel
theorem dX0_define_22 : decode cX0_define 22 = .ok (.iload_n 3, 1) := by decide +kernel
theorem dX0_define_23 : decode cX0_define 23 = .ok (.aload_n 0, 1) := by decide +kernel
theorem dX0_define_24 : decode cX0_define 24 = .ok (.iload_n 1, 1) := by decide +kernel
theorem dX0_define_25 : decode cX0_define 25 = .ok (.invokevirtual 61, 3) := by decide +kernel
end
section
set_option maxRecDepth 100000
theorem dX0_define_28 : decode cX0_define 28 = .ok (.if_icmp .le 6, 3) := by decide +kernel
theorem dX0_define_31 : decode cX0_define 31 = .ok (.bipush (-4), 2) := by decide +kernel
theorem dX0_define_33 : decode cX0_define 33 = .ok (.ireturn, 1) := by decide +kernel
theorem dX0_define_34 : decode cX0_define 34 = .ok (.aload_n 0, 1) := by decide +kernel
theorem dX0_define_35 : decode cX0_define 35 = .ok (.getfield 22, 3) := by decide +kernel
theorem dX0_define_38 : decode cX0_define 38 = .ok (.iload_n 1, 1) := by decide +kernel
theorem dX0_define_39 : decode cX0_define 39 = .ok (.bipush 10, 2) := by decide +kernel
theorem dX0_define_41 : decode cX0_define 41 = .ok (.imul, 1) := by decide +kernel
theorem dX0_define_42 : decode cX0_define 42 = .ok (.iload_n 2, 1) := by decide +kernel
theorem dX0_define_43 : decode cX0_define 43 = .ok (.iadd, 1) := by decide +kernel
theorem dX0_define_44 : decode cX0_define 44 = .ok (.iaload, 1) := by decide +kernel
theorem dX0_define_45 : decode cX0_define 45 = .ok (.ifCond .lt 7, 3) := by decide +kernel
theorem dX0_define_48 : decode cX0_define 48 = .ok (.iconst 1, 1) := by decide +kernel
theorem dX0_define_49 : decode cX0_define 49 = .ok (.goto 4, 3) := by decide +kernel
theorem dX0_define_52 : decode cX0_define 52 = .ok (.iconst 0, 1) := by decide +kernel
theorem dX0_define_53 : decode cX0_define 53 = .ok (.istore 4, 2) := by decide +kernel
theorem dX0_define_55 : decode cX0_define 55 = .ok (.aload_n 0, 1) := by decide +kernel
theorem dX0_define_56 : decode cX0_define 56 = .ok (.getfield 22, 3) := by decide +kernel
theorem dX0_define_59 : decode cX0_define 59 = .ok (.iload_n 1, 1) := by decide +kernel
theorem dX0_define_60 : decode cX0_define 60 = .ok (.bipush 10, 2) := by decide +kernel
theorem dX0_define_62 : decode cX0_define 62 = .ok (.imul, 1) := by decide +kernel
theorem dX0_define_63 : decode cX0_define 63 = .ok (.iload_n 2, 1) := by decide +kernel
theorem dX0_define_64 : decode cX0_define 64 = .ok (.iadd, 1) := by decide +kernel
theorem dX0_define_65 : decode cX0_define 65 = .ok (.iload_n 3, 1) := by decide +kernel
theorem dX0_define_66 : decode cX0_define 66 = .ok (.iastore, 1) := by decide +kernel
theorem dX0_define_67 : decode cX0_define 67 = .ok (.aload_n 0, 1) := by decide +kernel
theorem dX0_define_68 : decode cX0_define 68 = .ok (.invokevirtual 68, 3) := by decide +kernel
theorem dX0_define_71 : decode cX0_define 71 = .ok (.iload 4, 2) := by decide +kernel
theorem dX0_define_73 : decode cX0_define 73 = .ok (.ireturn, 1) := by decide +kernel
abbrev cX0_undefine : ByteArray := prog_1_method_22_code
def yX0_undefine : MethodName := ⟨RX0, "undefine", "(II)I"⟩
theorem dX0_undefine_0 : decode cX0_undefine 0 = .ok (.aload_n 0, 1) := by decide +kernel
theorem dX0_undefine_1 : decode cX0_undefine 1 = .ok (.iload_n 1, 1) := by decide +kernel
theorem dX0_undefine_2 : decode cX0_undefine 2 = .ok (.invokevirtual 71, 3) := by decide +kernel
theorem dX0_undefine_5 : decode cX0_undefine 5 = .ok (.ifCond .ne 11, 3) := by decide +kernel
theorem dX0_undefine_8 : decode cX0_undefine 8 = .ok (.aload_n 0, 1) := by decide +kernel
theorem dX0_undefine_9 : decode cX0_undefine 9 = .ok (.iload_n 2, 1) := by decide +kernel
theorem dX0_undefine_10 : decode cX0_undefine 10 = .ok (.invokevirtual 79, 3) := by decide +kernel
theorem dX0_undefine_13 : decode cX0_undefine 13 = .ok (.ifCond .eq 5, 3) := by decide +kernel
theorem dX0_undefine_16 : decode cX0_undefine 16 = .ok (.iconst (-1), 1) := by decide +kernel
theorem dX0_undefine_17 : decode cX0_undefine 17 = .ok (.ireturn, 1) := by decide +kernel
theorem dX0_undefine_18 : decode cX0_undefine 18 = .ok (.aload_n 0, 1) := by decide +kernel
theorem dX0_undefine_19 : decode cX0_undefine 19 = .ok (.getfield 22, 3) := by decide +kernel
theorem dX0_undefine_22 : decode cX0_undefine 22 = .ok (.iload_n 1, 1) := by decide +kernel
theorem dX0_undefine_23 : decode cX0_undefine 23 = .ok (.bipush 10, 2) := by decide +kernel
theorem dX0_undefine_25 : decode cX0_undefine 25 = .ok (.imul, 1) := by decide +kernel
theorem dX0_undefine_26 : decode cX0_undefine 26 = .ok (.iload_n 2, 1) := by decide +kernel
theorem dX0_undefine_27 : decode cX0_undefine 27 = .ok (.iadd, 1) := by decide +kernel
theorem dX0_undefine_28 : decode cX0_undefine 28 = .ok (.iaload, 1) := by decide +kernel
theorem dX0_undefine_29 : decode cX0_undefine 29 = .ok (.istore_n 3, 1) := by decide +kernel
theorem dX0_undefine_30 : decode cX0_undefine 30 = .ok (.iload_n 3, 1) := by decide +kernel
theorem dX0_undefine_31 : decode cX0_undefine 31 = .ok (.ifCond .ge 6, 3) := by decide +kernel
theorem dX0_undefine_34 : decode cX0_undefine 34 = .ok (.bipush (-4), 2) := by decide +kernel
theorem dX0_undefine_36 : decode cX0_undefine 36 = .ok (.ireturn, 1) := by decide +kernel
theorem dX0_undefine_37 : decode cX0_undefine 37 = .ok (.aload_n 0, 1) := by decide +kernel
theorem dX0_undefine_38 : decode cX0_undefine 38 = .ok (.getfield 22, 3) := by decide +kernel
theorem dX0_undefine_41 : decode cX0_undefine 41 = .ok (.iload_n 1, 1) := by decide +kernel
theorem dX0_undefine_42 : decode cX0_undefine 42 = .ok (.bipush 10, 2) := by decide +kernel
theorem dX0_undefine_44 : decode cX0_undefine 44 = .ok (.imul, 1) := by decide +kernel
theorem dX0_undefine_45 : decode cX0_undefine 45 = .ok (.iload_n 2, 1) := by decide +kernel
theorem dX0_undefine_46 : decode cX0_undefine 46 = .ok (.iadd, 1) := by decide +kernel
theorem dX0_undefine_47 : decode cX0_undefine 47 = .ok (.bipush (-4), 2) := by decide +kernel
theorem dX0_undefine_49 : decode cX0_undefine 49 = .ok (.iastore, 1) := by decide +kernel
theorem dX0_undefine_50 : decode cX0_undefine 50 = .ok (.aload_n 0, 1) := by decide +kernel
theorem dX0_undefine_51 : decode cX0_undefine 51 = .ok (.invokevirtual 68, 3) := by decide +kernel
theorem dX0_undefine_54 : decode cX0_undefine 54 = .ok (.iload_n 3, 1) := by decide +kernel
theorem dX0_undefine_55 : decode cX0_undefine 55 = .ok (.ireturn, 1) := by decide +kernel
abbrev cX0_size : ByteArray := prog_1_method_23_code
def yX0_size : MethodName := ⟨RX0, "size", "()I"⟩
theorem dX0_size_0 : decode cX0_size 0 = .ok (.aload_n 0, 1) := by decide +kernel
theorem dX0_size_1 : decode cX0_size 1 = .ok (.getfield 7, 3) := by decide +kernel
theorem dX0_size_4 : decode cX0_size 4 = .ok (.bipush 6, 2) := by decide +kernel
theorem dX0_size_6 : decode cX0_size 6 = .ok (.iaload, 1) := by decide +kernel
theorem dX0_size_7 : decode cX0_size 7 = .ok (.ireturn, 1) := by decide +kernel
abbrev cX0_value : ByteArray := prog_1_method_24_code
def yX0_value : MethodName := ⟨RX0, "value", "(I)I"⟩
theorem dX0_value_0 : decode cX0_value 0 = .ok (.iload_n 1, 1) := by decide +kernel
theorem dX0_value_1 : decode cX0_value 1 = .ok (.ifCond .lt 14, 3) := by decide +kernel
theorem dX0_value_4 : decode cX0_value 4 = .ok (.iload_n 1, 1) := by decide +kernel
theorem dX0_value_5 : decode cX0_value 5 = .ok (.aload_n 0, 1) := by decide +kernel
theorem dX0_value_6 : decode cX0_value 6 = .ok (.getfield 7, 3) := by decide +kernel
theorem dX0_value_9 : decode cX0_value 9 = .ok (.bipush 6, 2) := by decide +kernel
theorem dX0_value_11 : decode cX0_value 11 = .ok (.iaload, 1) := by decide +kernel
theorem dX0_value_12 : decode cX0_value 12 = .ok (.if_icmp .lt 7, 3) := by decide +kernel
theorem dX0_value_15 : decode cX0_value 15 = .ok (.iconst 0, 1) := by decide +kernel
theorem dX0_value_16 : decode cX0_value 16 = .ok (.goto 9, 3) := by decide +kernel
theorem dX0_value_19 : decode cX0_value 19 = .ok (.aload_n 0, 1) := by decide +kernel
theorem dX0_value_20 : decode cX0_value 20 = .ok (.getfield 13, 3) := by decide +kernel
theorem dX0_value_23 : decode cX0_value 23 = .ok (.iload_n 1, 1) := by decide +kernel
theorem dX0_value_24 : decode cX0_value 24 = .ok (.iaload, 1) := by decide +kernel
theorem dX0_value_25 : decode cX0_value 25 = .ok (.ireturn, 1) := by decide +kernel
abbrev cX0_address : ByteArray := prog_1_method_25_code
def yX0_address : MethodName := ⟨RX0, "address", "(I)I"⟩
theorem dX0_address_0 : decode cX0_address 0 = .ok (.aload_n 0, 1) := by decide +kernel
theorem dX0_address_1 : decode cX0_address 1 = .ok (.iload_n 1, 1) := by decide +kernel
theorem dX0_address_2 : decode cX0_address 2 = .ok (.invokevirtual 71, 3) := by decide +kernel
theorem dX0_address_5 : decode cX0_address 5 = .ok (.ifCond .eq 7, 3) := by decide +kernel
theorem dX0_address_8 : decode cX0_address 8 = .ok (.iconst (-1), 1) := by decide +kernel
theorem dX0_address_9 : decode cX0_address 9 = .ok (.goto 9, 3) := by decide +kernel
theorem dX0_address_12 : decode cX0_address 12 = .ok (.aload_n 0, 1) := by decide +kernel
theorem dX0_address_13 : decode cX0_address 13 = .ok (.getfield 7, 3) := by decide +kernel
theorem dX0_address_16 : decode cX0_address 16 = .ok (.iload_n 1, 1) := by decide +kernel
theorem dX0_address_17 : decode cX0_address 17 = .ok (.iaload, 1) := by decide +kernel
theorem dX0_address_18 : decode cX0_address 18 = .ok (.ireturn, 1) := by decide +kernel
abbrev cX0_where : ByteArray := prog_1_method_26_code
def yX0_where : MethodName := ⟨RX0, "where", "(I)I"⟩
theorem dX0_where_0 : decode cX0_where 0 = .ok (.aload_n 0, 1) := by decide +kernel
theorem dX0_where_1 : decode cX0_where 1 = .ok (.iload_n 1, 1) := by decide +kernel
theorem dX0_where_2 : decode cX0_where 2 = .ok (.invokevirtual 79, 3) := by decide +kernel
theorem dX0_where_5 : decode cX0_where 5 = .ok (.ifCond .eq 8, 3) := by decide +kernel
theorem dX0_where_8 : decode cX0_where 8 = .ok (.bipush (-4), 2) := by decide +kernel
theorem dX0_where_10 : decode cX0_where 10 = .ok (.goto 9, 3) := by decide +kernel
theorem dX0_where_13 : decode cX0_where 13 = .ok (.aload_n 0, 1) := by decide +kernel
theorem dX0_where_14 : decode cX0_where 14 = .ok (.getfield 25, 3) := by decide +kernel
theorem dX0_where_17 : decode cX0_where 17 = .ok (.iload_n 1, 1) := by decide +kernel
theorem dX0_where_18 : decode cX0_where 18 = .ok (.iaload, 1) := by decide +kernel
theorem dX0_where_19 : decode cX0_where 19 = .ok (.ireturn, 1) := by decide +kernel
abbrev cX0_undefined : ByteArray := prog_1_method_28_code
def yX0_undefined : MethodName := ⟨RX0, "undefined", "()I"⟩
theorem dX0_undefined_0 : decode cX0_undefined 0 = .ok (.iconst 0, 1) := by decide +kernel
theorem dX0_undefined_1 : decode cX0_undefined 1 = .ok (.istore_n 1, 1) := by decide +kernel
theorem dX0_undefined_2 : decode cX0_undefined 2 = .ok (.iconst 0, 1) := by decide +kernel
theorem dX0_undefined_3 : decode cX0_undefined 3 = .ok (.istore_n 2, 1) := by decide +kernel
theorem dX0_undefined_4 : decode cX0_undefined 4 = .ok (.iload_n 2, 1) := by decide +kernel
theorem dX0_undefined_5 : decode cX0_undefined 5 = .ok (.bipush 10, 2) := by decide +kernel
theorem dX0_undefined_7 : decode cX0_undefined 7 = .ok (.if_icmp .ge 28, 3) := by decide +kernel
theorem dX0_undefined_10 : decode cX0_undefined 10 = .ok (.aload_n 0, 1) := by decide +kernel
theorem dX0_undefined_11 : decode cX0_undefined 11 = .ok (.getfield 25, 3) := by decide +kernel
theorem dX0_undefined_14 : decode cX0_undefined 14 = .ok (.iload_n 2, 1) := by decide +kernel
theorem dX0_undefined_15 : decode cX0_undefined 15 = .ok (.iaload, 1) := by decide +kernel
theorem dX0_undefined_16 : decode cX0_undefined 16 = .ok (.ifCond .ge 13, 3) := by decide +kernel
theorem dX0_undefined_19 : decode cX0_undefined 19 = .ok (.aload_n 0, 1) := by decide +kernel
theorem dX0_undefined_20 : decode cX0_undefined 20 = .ok (.iload_n 2, 1) := by decide +kernel
theorem dX0_undefined_21 : decode cX0_undefined 21 = .ok (.invokevirtual 85, 3) := by decide +kernel
theorem dX0_undefined_24 : decode cX0_undefined 24 = .ok (.istore_n 3, 1) := by decide +kernel
theorem dX0_undefined_25 : decode cX0_undefined 25 = .ok (.iload_n 1, 1) := by decide +kernel
theorem dX0_undefined_26 : decode cX0_undefined 26 = .ok (.iload_n 3, 1) := by decide +kernel
theorem dX0_undefined_27 : decode cX0_undefined 27 = .ok (.iadd, 1) := by decide +kernel
theorem dX0_undefined_28 : decode cX0_undefined 28 = .ok (.istore_n 1, 1) := by decide +kernel
theorem dX0_undefined_29 : decode cX0_undefined 29 = .ok (.iinc 2 1, 3) := by decide +kernel
theorem dX0_undefined_32 : decode cX0_undefined 32 = .ok (.goto (-28), 3) := by decide +kernel
theorem dX0_undefined_35 : decode cX0_undefined 35 = .ok (.iload_n 1, 1) := by decide +kernel
theorem dX0_undefined_36 : decode cX0_undefined 36 = .ok (.ireturn, 1) := by decide +kernel
abbrev cX0_chainLength : ByteArray := prog_1_method_27_code
def yX0_chainLength : MethodName := ⟨RX0, "chainLength", "(I)I"⟩
theorem dX0_chainLength_0 : decode cX0_chainLength 0 = .ok (.iconst 0, 1) := by decide +kernel
theorem dX0_chainLength_1 : decode cX0_chainLength 1 = .ok (.istore_n 2, 1) := by decide +kernel
theorem dX0_chainLength_2 : decode cX0_chainLength 2 = .ok (.aload_n 0, 1) := by decide +kernel
theorem dX0_chainLength_3 : decode cX0_chainLength 3 = .ok (.getfield 31, 3) := by decide +kernel
theorem dX0_chainLength_6 : decode cX0_chainLength 6 = .ok (.iload_n 1, 1) := by decide +kernel
theorem dX0_chainLength_7 : decode cX0_chainLength 7 = .ok (.iaload, 1) := by decide +kernel
theorem dX0_chainLength_8 : decode cX0_chainLength 8 = .ok (.istore_n 3, 1) := by decide +kernel
theorem dX0_chainLength_9 : decode cX0_chainLength 9 = .ok (.iconst 0, 1) := by decide +kernel
theorem dX0_chainLength_10 : decode cX0_chainLength 10 = .ok (.istore 4, 2) := by decide +kernel
theorem dX0_chainLength_12 : decode cX0_chainLength 12 = .ok (.iload 4, 2) := by decide +kernel
theorem dX0_chainLength_14 : decode cX0_chainLength 14 = .ok (.bipush 48, 2) := by decide +kernel
theorem dX0_chainLength_16 : decode cX0_chainLength 16 = .ok (.if_icmp .ge 23, 3) := by decide +kernel
theorem dX0_chainLength_19 : decode cX0_chainLength 19 = .ok (.iload_n 3, 1) := by decide +kernel
theorem dX0_chainLength_20 : decode cX0_chainLength 20 = .ok (.ifCond .lt 19, 3) := by decide +kernel
theorem dX0_chainLength_23 : decode cX0_chainLength 23 = .ok (.iinc 2 1, 3) := by decide +kernel
theorem dX0_chainLength_26 : decode cX0_chainLength 26 = .ok (.aload_n 0, 1) := by decide +kernel
theorem dX0_chainLength_27 : decode cX0_chainLength 27 = .ok (.getfield 34, 3) := by decide +kernel
theorem dX0_chainLength_30 : decode cX0_chainLength 30 = .ok (.iload_n 3, 1) := by decide +kernel
theorem dX0_chainLength_31 : decode cX0_chainLength 31 = .ok (.iaload, 1) := by decide +kernel
theorem dX0_chainLength_32 : decode cX0_chainLength 32 = .ok (.istore_n 3, 1) := by decide +kernel
theorem dX0_chainLength_33 : decode cX0_chainLength 33 = .ok (.iinc 4 1, 3) := by decide +kernel
theorem dX0_chainLength_36 : decode cX0_chainLength 36 = .ok (.goto (-24), 3) := by decide +kernel
theorem dX0_chainLength_39 : decode cX0_chainLength 39 = .ok (.iload_n 2, 1) := by decide +kernel
theorem dX0_chainLength_40 : decode cX0_chainLength 40 = .ok (.ireturn, 1) := by decide +kernel
abbrev cX0_idle : ByteArray := prog_1_method_29_code
def yX0_idle : MethodName := ⟨RX0, "idle", "()I"⟩
theorem dX0_idle_0 : decode cX0_idle 0 = .ok (.iconst 0, 1) := by decide +kernel
theorem dX0_idle_1 : decode cX0_idle 1 = .ok (.istore_n 1, 1) := by decide +kernel
theorem dX0_idle_2 : decode cX0_idle 2 = .ok (.iconst 0, 1) := by decide +kernel
theorem dX0_idle_3 : decode cX0_idle 3 = .ok (.istore_n 2, 1) := by decide +kernel
theorem dX0_idle_4 : decode cX0_idle 4 = .ok (.iload_n 2, 1) := by decide +kernel
theorem dX0_idle_5 : decode cX0_idle 5 = .ok (.bipush 10, 2) := by decide +kernel
theorem dX0_idle_7 : decode cX0_idle 7 = .ok (.if_icmp .ge 50, 3) := by decide +kernel
theorem dX0_idle_10 : decode cX0_idle 10 = .ok (.iconst 0, 1) := by decide +kernel
theorem dX0_idle_11 : decode cX0_idle 11 = .ok (.istore_n 3, 1) := by decide +kernel
theorem dX0_idle_12 : decode cX0_idle 12 = .ok (.iload_n 3, 1) := by decide +kernel
theorem dX0_idle_13 : decode cX0_idle 13 = .ok (.bipush 6, 2) := by decide +kernel
theorem dX0_idle_15 : decode cX0_idle 15 = .ok (.if_icmp .ge 36, 3) := by decide +kernel
theorem dX0_idle_18 : decode cX0_idle 18 = .ok (.aload_n 0, 1) := by decide +kernel
theorem dX0_idle_19 : decode cX0_idle 19 = .ok (.getfield 22, 3) := by decide +kernel
theorem dX0_idle_22 : decode cX0_idle 22 = .ok (.iload_n 3, 1) := by decide +kernel
theorem dX0_idle_23 : decode cX0_idle 23 = .ok (.bipush 10, 2) := by decide +kernel
theorem dX0_idle_25 : decode cX0_idle 25 = .ok (.imul, 1) := by decide +kernel
theorem dX0_idle_26 : decode cX0_idle 26 = .ok (.iload_n 2, 1) := by decide +kernel
theorem dX0_idle_27 : decode cX0_idle 27 = .ok (.iadd, 1) := by decide +kernel
theorem dX0_idle_28 : decode cX0_idle 28 = .ok (.iaload, 1) := by decide +kernel
theorem dX0_idle_29 : decode cX0_idle 29 = .ok (.ifCond .lt 16, 3) := by decide +kernel
theorem dX0_idle_32 : decode cX0_idle 32 = .ok (.iload_n 3, 1) := by decide +kernel
theorem dX0_idle_33 : decode cX0_idle 33 = .ok (.aload_n 0, 1) := by decide +kernel
theorem dX0_idle_34 : decode cX0_idle 34 = .ok (.getfield 28, 3) := by decide +kernel
theorem dX0_idle_37 : decode cX0_idle 37 = .ok (.iload_n 2, 1) := by decide +kernel
theorem dX0_idle_38 : decode cX0_idle 38 = .ok (.iaload, 1) := by decide +kernel
theorem dX0_idle_39 : decode cX0_idle 39 = .ok (.if_icmp .eq 6, 3) := by decide +kernel
theorem dX0_idle_42 : decode cX0_idle 42 = .ok (.iinc 1 1, 3) := by decide +kernel
theorem dX0_idle_45 : decode cX0_idle 45 = .ok (.iinc 3 1, 3) := by decide +kernel
theorem dX0_idle_48 : decode cX0_idle 48 = .ok (.goto (-36), 3) := by decide +kernel
theorem dX0_idle_51 : decode cX0_idle 51 = .ok (.iinc 2 1, 3) := by decide +kernel
theorem dX0_idle_54 : decode cX0_idle 54 = .ok (.goto (-50), 3) := by decide +kernel
theorem dX0_idle_57 : decode cX0_idle 57 = .ok (.iload_n 1, 1) := by decide +kernel
theorem dX0_idle_58 : decode cX0_idle 58 = .ok (.ireturn, 1) := by decide +kernel
abbrev cX0_uses : ByteArray := prog_1_method_30_code
def yX0_uses : MethodName := ⟨RX0, "uses", "(I)I"⟩
theorem dX0_uses_0 : decode cX0_uses 0 = .ok (.aload_n 0, 1) := by decide +kernel
theorem dX0_uses_1 : decode cX0_uses 1 = .ok (.iload_n 1, 1) := by decide +kernel
theorem dX0_uses_2 : decode cX0_uses 2 = .ok (.invokevirtual 79, 3) := by decide +kernel
theorem dX0_uses_5 : decode cX0_uses 5 = .ok (.ifCond .eq 7, 3) := by decide +kernel
theorem dX0_uses_8 : decode cX0_uses 8 = .ok (.iconst (-1), 1) := by decide +kernel
theorem dX0_uses_9 : decode cX0_uses 9 = .ok (.goto 8, 3) := by decide +kernel
theorem dX0_uses_12 : decode cX0_uses 12 = .ok (.aload_n 0, 1) := by decide +kernel
theorem dX0_uses_13 : decode cX0_uses 13 = .ok (.iload_n 1, 1) := by decide +kernel
theorem dX0_uses_14 : decode cX0_uses 14 = .ok (.invokevirtual 85, 3) := by decide +kernel
theorem dX0_uses_17 : decode cX0_uses 17 = .ok (.ireturn, 1) := by decide +kernel
abbrev cX0_users : ByteArray := prog_1_method_32_code
def yX0_users : MethodName := ⟨RX0, "users", "(I)I"⟩
theorem dX0_users_0 : decode cX0_users 0 = .ok (.aload_n 0, 1) := by decide +kernel
theorem dX0_users_1 : decode cX0_users 1 = .ok (.iload_n 1, 1) := by decide +kernel
theorem dX0_users_2 : decode cX0_users 2 = .ok (.invokevirtual 71, 3) := by decide +kernel
theorem dX0_users_5 : decode cX0_users 5 = .ok (.ifCond .eq 5, 3) := by decide +kernel
theorem dX0_users_8 : decode cX0_users 8 = .ok (.iconst (-1), 1) := by decide +kernel
theorem dX0_users_9 : decode cX0_users 9 = .ok (.ireturn, 1) := by decide +kernel
theorem dX0_users_10 : decode cX0_users 10 = .ok (.iconst 0, 1) := by decide +kernel
theorem dX0_users_11 : decode cX0_users 11 = .ok (.istore_n 2, 1) := by decide +kernel
theorem dX0_users_12 : decode cX0_users 12 = .ok (.iconst 0, 1) := by decide +kernel
theorem dX0_users_13 : decode cX0_users 13 = .ok (.istore_n 3, 1) := by decide +kernel
theorem dX0_users_14 : decode cX0_users 14 = .ok (.iload_n 3, 1) := by decide +kernel
theorem dX0_users_15 : decode cX0_users 15 = .ok (.bipush 10, 2) := by decide +kernel
theorem dX0_users_17 : decode cX0_users 17 = .ok (.if_icmp .ge 73, 3) := by decide +kernel
theorem dX0_users_20 : decode cX0_users 20 = .ok (.aload_n 0, 1) := by decide +kernel
theorem dX0_users_21 : decode cX0_users 21 = .ok (.getfield 28, 3) := by decide +kernel
theorem dX0_users_24 : decode cX0_users 24 = .ok (.iload_n 3, 1) := by decide +kernel
theorem dX0_users_25 : decode cX0_users 25 = .ok (.iaload, 1) := by decide +kernel
theorem dX0_users_26 : decode cX0_users 26 = .ok (.iload_n 1, 1) := by decide +kernel
theorem dX0_users_27 : decode cX0_users 27 = .ok (.if_icmp .ne 12, 3) := by decide +kernel
theorem dX0_users_30 : decode cX0_users 30 = .ok (.aload_n 0, 1) := by decide +kernel
theorem dX0_users_31 : decode cX0_users 31 = .ok (.getfield 31, 3) := by decide +kernel
theorem dX0_users_34 : decode cX0_users 34 = .ok (.iload_n 3, 1) := by decide +kernel
theorem dX0_users_35 : decode cX0_users 35 = .ok (.iaload, 1) := by decide +kernel
theorem dX0_users_36 : decode cX0_users 36 = .ok (.goto 5, 3) := by decide +kernel
theorem dX0_users_39 : decode cX0_users 39 = .ok (.bipush (-4), 2) := by decide +kernel
theorem dX0_users_41 : decode cX0_users 41 = .ok (.istore 4, 2) := by decide +kernel
theorem dX0_users_43 : decode cX0_users 43 = .ok (.iconst 0, 1) := by decide +kernel
theorem dX0_users_44 : decode cX0_users 44 = .ok (.istore 5, 2) := by decide +kernel
theorem dX0_users_46 : decode cX0_users 46 = .ok (.iload 5, 2) := by decide +kernel
theorem dX0_users_48 : decode cX0_users 48 = .ok (.bipush 48, 2) := by decide +kernel
theorem dX0_users_50 : decode cX0_users 50 = .ok (.if_icmp .ge 34, 3) := by decide +kernel
theorem dX0_users_53 : decode cX0_users 53 = .ok (.iload 4, 2) := by decide +kernel
theorem dX0_users_55 : decode cX0_users 55 = .ok (.ifCond .lt 29, 3) := by decide +kernel
theorem dX0_users_58 : decode cX0_users 58 = .ok (.iload_n 2, 1) := by decide +kernel
theorem dX0_users_59 : decode cX0_users 59 = .ok (.iconst 1, 1) := by decide +kernel
theorem dX0_users_60 : decode cX0_users 60 = .ok (.aload_n 0, 1) := by decide +kernel
theorem dX0_users_61 : decode cX0_users 61 = .ok (.iload 4, 2) := by decide +kernel
theorem dX0_users_63 : decode cX0_users 63 = .ok (.invokevirtual 88, 3) := by decide +kernel
theorem dX0_users_66 : decode cX0_users 66 = .ok (.ishl, 1) := by decide +kernel
theorem dX0_users_67 : decode cX0_users 67 = .ok (.ior, 1) := by decide +kernel
theorem dX0_users_68 : decode cX0_users 68 = .ok (.istore_n 2, 1) := by decide +kernel
theorem dX0_users_69 : decode cX0_users 69 = .ok (.aload_n 0, 1) := by decide +kernel
theorem dX0_users_70 : decode cX0_users 70 = .ok (.getfield 34, 3) := by decide +kernel
theorem dX0_users_73 : decode cX0_users 73 = .ok (.iload 4, 2) := by decide +kernel
theorem dX0_users_75 : decode cX0_users 75 = .ok (.iaload, 1) := by decide +kernel
theorem dX0_users_76 : decode cX0_users 76 = .ok (.istore 4, 2) := by decide +kernel
theorem dX0_users_78 : decode cX0_users 78 = .ok (.iinc 5 1, 3) := by decide +kernel
theorem dX0_users_81 : decode cX0_users 81 = .ok (.goto (-35), 3) := by decide +kernel
theorem dX0_users_84 : decode cX0_users 84 = .ok (.iinc 3 1, 3) := by decide +kernel
theorem dX0_users_87 : decode cX0_users 87 = .ok (.goto (-73), 3) := by decide +kernel
theorem dX0_users_90 : decode cX0_users 90 = .ok (.iload_n 2, 1) := by decide +kernel
theorem dX0_users_91 : decode cX0_users 91 = .ok (.ireturn, 1) := by decide +kernel
abbrev cX0_moduleAt : ByteArray := prog_1_method_31_code
def yX0_moduleAt : MethodName := ⟨RX0, "moduleAt", "(I)I"⟩
theorem dX0_moduleAt_0 : decode cX0_moduleAt 0 = .ok (.iconst 0, 1) := by decide +kernel
theorem dX0_moduleAt_1 : decode cX0_moduleAt 1 = .ok (.istore_n 2, 1) := by decide +kernel
theorem dX0_moduleAt_2 : decode cX0_moduleAt 2 = .ok (.iconst 1, 1) := by decide +kernel
theorem dX0_moduleAt_3 : decode cX0_moduleAt 3 = .ok (.istore_n 3, 1) := by decide +kernel
theorem dX0_moduleAt_4 : decode cX0_moduleAt 4 = .ok (.iload_n 3, 1) := by decide +kernel
theorem dX0_moduleAt_5 : decode cX0_moduleAt 5 = .ok (.bipush 6, 2) := by decide +kernel
theorem dX0_moduleAt_7 : decode cX0_moduleAt 7 = .ok (.if_icmp .ge 25, 3) := by decide +kernel
theorem dX0_moduleAt_10 : decode cX0_moduleAt 10 = .ok (.aload_n 0, 1) := by decide +kernel
theorem dX0_moduleAt_11 : decode cX0_moduleAt 11 = .ok (.getfield 7, 3) := by decide +kernel
theorem dX0_moduleAt_14 : decode cX0_moduleAt 14 = .ok (.iload_n 3, 1) := by decide +kernel
theorem dX0_moduleAt_15 : decode cX0_moduleAt 15 = .ok (.iaload, 1) := by decide +kernel
theorem dX0_moduleAt_16 : decode cX0_moduleAt 16 = .ok (.iload_n 1, 1) := by decide +kernel
theorem dX0_moduleAt_17 : decode cX0_moduleAt 17 = .ok (.if_icmp .gt 7, 3) := by decide +kernel
theorem dX0_moduleAt_20 : decode cX0_moduleAt 20 = .ok (.iload_n 3, 1) := by decide +kernel
theorem dX0_moduleAt_21 : decode cX0_moduleAt 21 = .ok (.goto 4, 3) := by decide +kernel
theorem dX0_moduleAt_24 : decode cX0_moduleAt 24 = .ok (.iload_n 2, 1) := by decide +kernel
theorem dX0_moduleAt_25 : decode cX0_moduleAt 25 = .ok (.istore_n 2, 1) := by decide +kernel
theorem dX0_moduleAt_26 : decode cX0_moduleAt 26 = .ok (.iinc 3 1, 3) := by decide +kernel
theorem dX0_moduleAt_29 : decode cX0_moduleAt 29 = .ok (.goto (-25), 3) := by decide +kernel
theorem dX0_moduleAt_32 : decode cX0_moduleAt 32 = .ok (.iload_n 2, 1) := by decide +kernel
theorem dX0_moduleAt_33 : decode cX0_moduleAt 33 = .ok (.ireturn, 1) := by decide +kernel
abbrev cX0_moduleOf : ByteArray := prog_1_method_33_code
def yX0_moduleOf : MethodName := ⟨RX0, "moduleOf", "(I)I"⟩
theorem dX0_moduleOf_0 : decode cX0_moduleOf 0 = .ok (.iload_n 1, 1) := by decide +kernel
theorem dX0_moduleOf_1 : decode cX0_moduleOf 1 = .ok (.ifCond .lt 14, 3) := by decide +kernel
theorem dX0_moduleOf_4 : decode cX0_moduleOf 4 = .ok (.iload_n 1, 1) := by decide +kernel
theorem dX0_moduleOf_5 : decode cX0_moduleOf 5 = .ok (.aload_n 0, 1) := by decide +kernel
theorem dX0_moduleOf_6 : decode cX0_moduleOf 6 = .ok (.getfield 7, 3) := by decide +kernel
theorem dX0_moduleOf_9 : decode cX0_moduleOf 9 = .ok (.bipush 6, 2) := by decide +kernel
theorem dX0_moduleOf_11 : decode cX0_moduleOf 11 = .ok (.iaload, 1) := by decide +kernel
theorem dX0_moduleOf_12 : decode cX0_moduleOf 12 = .ok (.if_icmp .lt 8, 3) := by decide +kernel
theorem dX0_moduleOf_15 : decode cX0_moduleOf 15 = .ok (.bipush (-4), 2) := by decide +kernel
theorem dX0_moduleOf_17 : decode cX0_moduleOf 17 = .ok (.goto 8, 3) := by decide +kernel
theorem dX0_moduleOf_20 : decode cX0_moduleOf 20 = .ok (.aload_n 0, 1) := by decide +kernel
theorem dX0_moduleOf_21 : decode cX0_moduleOf 21 = .ok (.iload_n 1, 1) := by decide +kernel
theorem dX0_moduleOf_22 : decode cX0_moduleOf 22 = .ok (.invokevirtual 88, 3) := by decide +kernel
theorem dX0_moduleOf_25 : decode cX0_moduleOf 25 = .ok (.ireturn, 1) := by decide +kernel
abbrev cX0_digest : ByteArray := prog_1_method_34_code
def yX0_digest : MethodName := ⟨RX0, "digest", "()I"⟩
theorem dX0_digest_0 : decode cX0_digest 0 = .ok (.iconst 0, 1) := by decide +kernel
theorem dX0_digest_1 : decode cX0_digest 1 = .ok (.istore_n 1, 1) := by decide +kernel
theorem dX0_digest_2 : decode cX0_digest 2 = .ok (.iconst 0, 1) := by decide +kernel
theorem dX0_digest_3 : decode cX0_digest 3 = .ok (.istore_n 2, 1) := by decide +kernel
theorem dX0_digest_4 : decode cX0_digest 4 = .ok (.iload_n 2, 1) := by decide +kernel
theorem dX0_digest_5 : decode cX0_digest 5 = .ok (.aload_n 0, 1) := by decide +kernel
theorem dX0_digest_6 : decode cX0_digest 6 = .ok (.getfield 7, 3) := by decide +kernel
theorem dX0_digest_9 : decode cX0_digest 9 = .ok (.bipush 6, 2) := by decide +kernel
theorem dX0_digest_11 : decode cX0_digest 11 = .ok (.iaload, 1) := by decide +kernel
theorem dX0_digest_12 : decode cX0_digest 12 = .ok (.if_icmp .ge 22, 3) := by decide +kernel
theorem dX0_digest_15 : decode cX0_digest 15 = .ok (.iload_n 1, 1) := by decide +kernel
theorem dX0_digest_16 : decode cX0_digest 16 = .ok (.iload_n 2, 1) := by decide +kernel
theorem dX0_digest_17 : decode cX0_digest 17 = .ok (.iconst 1, 1) := by decide +kernel
theorem dX0_digest_18 : decode cX0_digest 18 = .ok (.iadd, 1) := by decide +kernel
theorem dX0_digest_19 : decode cX0_digest 19 = .ok (.aload_n 0, 1) := by decide +kernel
theorem dX0_digest_20 : decode cX0_digest 20 = .ok (.getfield 13, 3) := by decide +kernel
theorem dX0_digest_23 : decode cX0_digest 23 = .ok (.iload_n 2, 1) := by decide +kernel
theorem dX0_digest_24 : decode cX0_digest 24 = .ok (.iaload, 1) := by decide +kernel
theorem dX0_digest_25 : decode cX0_digest 25 = .ok (.imul, 1) := by decide +kernel
theorem dX0_digest_26 : decode cX0_digest 26 = .ok (.iadd, 1) := by decide +kernel
theorem dX0_digest_27 : decode cX0_digest 27 = .ok (.istore_n 1, 1) := by decide +kernel
theorem dX0_digest_28 : decode cX0_digest 28 = .ok (.iinc 2 1, 3) := by decide +kernel
theorem dX0_digest_31 : decode cX0_digest 31 = .ok (.goto (-27), 3) := by decide +kernel
theorem dX0_digest_34 : decode cX0_digest 34 = .ok (.iload_n 1, 1) := by decide +kernel
theorem dX0_digest_35 : decode cX0_digest 35 = .ok (.ireturn, 1) := by decide +kernel
theorem q23 : (Jvm.Cond.initialized "IncrementalLinker") ∈ lw_all := lw_g (lw_at lw_m1 1 rfl) rfl
theorem q26 : (Jvm.Cond.instantiable "IncrementalLinker" (10 : Nat)) ∈ lw_all := lw_g (lw_at lw_m1 4 rfl) rfl
theorem q28 : (Jvm.Cond.instanceMethod ({ cls := "IncrementalLinker", name := "<init>", desc := "()V" } : Jvm.MethodName)) ∈ lw_all := lw_g (lw_at lw_m1 6 rfl) rfl
theorem q29 : (Jvm.Cond.code ({ cls := "IncrementalLinker", name := "<init>", desc := "()V" } : Jvm.MethodName) prog_1_method_1_code (2 : Nat) (Option.none : Option Jvm.ClassFile.FieldType)) ∈ lw_all := lw_g (lw_at lw_m1 7 rfl) rfl
theorem q30 : (Jvm.Cond.methodLink "IncrementalLinker" (1 : Nat) ({ cls := "java/lang/Object", name := "<init>", desc := "()V" } : Jvm.MethodName)) ∈ lw_all := lw_g (lw_at lw_m1 8 rfl) rfl
theorem q33 : (Jvm.Cond.fieldLink "IncrementalLinker" (7 : Nat) "IncrementalLinker" "start" "[I") ∈ lw_all := lw_g (lw_at lw_m1 11 rfl) rfl
theorem q34 : (Jvm.Cond.fieldLink "IncrementalLinker" (13 : Nat) "IncrementalLinker" "value" "[I") ∈ lw_all := lw_g (lw_at lw_m1 12 rfl) rfl
theorem q35 : (Jvm.Cond.fieldLink "IncrementalLinker" (16 : Nat) "IncrementalLinker" "name" "[I") ∈ lw_all := lw_g (lw_at lw_m1 13 rfl) rfl
theorem q36 : (Jvm.Cond.fieldLink "IncrementalLinker" (19 : Nat) "IncrementalLinker" "addend" "[I") ∈ lw_all := lw_g (lw_at lw_m1 14 rfl) rfl
theorem q37 : (Jvm.Cond.fieldLink "IncrementalLinker" (22 : Nat) "IncrementalLinker" "defined" "[I") ∈ lw_all := lw_g (lw_at lw_m1 15 rfl) rfl
theorem q38 : (Jvm.Cond.fieldLink "IncrementalLinker" (25 : Nat) "IncrementalLinker" "known" "[I") ∈ lw_all := lw_g (lw_at lw_m1 16 rfl) rfl
theorem q39 : (Jvm.Cond.fieldLink "IncrementalLinker" (28 : Nat) "IncrementalLinker" "counting" "[I") ∈ lw_all := lw_g (lw_at lw_m1 17 rfl) rfl
theorem q40 : (Jvm.Cond.fieldLink "IncrementalLinker" (31 : Nat) "IncrementalLinker" "chain" "[I") ∈ lw_all := lw_g (lw_at lw_m1 18 rfl) rfl
theorem q41 : (Jvm.Cond.fieldLink "IncrementalLinker" (34 : Nat) "IncrementalLinker" "next" "[I") ∈ lw_all := lw_g (lw_at lw_m1 19 rfl) rfl
theorem q42 : (Jvm.Cond.fieldLink "IncrementalLinker" (37 : Nat) "IncrementalLinker" "before" "[I") ∈ lw_all := lw_g (lw_at lw_m1 20 rfl) rfl
theorem q43 : (Jvm.Cond.laysFinal "IncrementalLinker" "IncrementalLinker" "start" "[I") ∈ lw_all := lw_g (lw_at lw_m1 21 rfl) rfl
theorem q44 : (Jvm.Cond.soleField "IncrementalLinker" "start") ∈ lw_all := lw_g (lw_at lw_m1 22 rfl) rfl
theorem q45 : (Jvm.Cond.laysFinal "IncrementalLinker" "IncrementalLinker" "value" "[I") ∈ lw_all := lw_g (lw_at lw_m1 23 rfl) rfl
theorem q46 : (Jvm.Cond.soleField "IncrementalLinker" "value") ∈ lw_all := lw_g (lw_at lw_m1 24 rfl) rfl
theorem q47 : (Jvm.Cond.laysFinal "IncrementalLinker" "IncrementalLinker" "name" "[I") ∈ lw_all := lw_g (lw_at lw_m1 25 rfl) rfl
theorem q48 : (Jvm.Cond.soleField "IncrementalLinker" "name") ∈ lw_all := lw_g (lw_at lw_m1 26 rfl) rfl
theorem q49 : (Jvm.Cond.laysFinal "IncrementalLinker" "IncrementalLinker" "addend" "[I") ∈ lw_all := lw_g (lw_at lw_m1 27 rfl) rfl
theorem q50 : (Jvm.Cond.soleField "IncrementalLinker" "addend") ∈ lw_all := lw_g (lw_at lw_m1 28 rfl) rfl
theorem q51 : (Jvm.Cond.laysFinal "IncrementalLinker" "IncrementalLinker" "defined" "[I") ∈ lw_all := lw_g (lw_at lw_m1 29 rfl) rfl
theorem q52 : (Jvm.Cond.soleField "IncrementalLinker" "defined") ∈ lw_all := lw_g (lw_at lw_m1 30 rfl) rfl
theorem q53 : (Jvm.Cond.laysFinal "IncrementalLinker" "IncrementalLinker" "known" "[I") ∈ lw_all := lw_g (lw_at lw_m1 31 rfl) rfl
theorem q54 : (Jvm.Cond.soleField "IncrementalLinker" "known") ∈ lw_all := lw_g (lw_at lw_m1 32 rfl) rfl
theorem q55 : (Jvm.Cond.laysFinal "IncrementalLinker" "IncrementalLinker" "counting" "[I") ∈ lw_all := lw_g (lw_at lw_m1 33 rfl) rfl
theorem q56 : (Jvm.Cond.soleField "IncrementalLinker" "counting") ∈ lw_all := lw_g (lw_at lw_m1 34 rfl) rfl
theorem q57 : (Jvm.Cond.laysFinal "IncrementalLinker" "IncrementalLinker" "chain" "[I") ∈ lw_all := lw_g (lw_at lw_m1 35 rfl) rfl
theorem q58 : (Jvm.Cond.soleField "IncrementalLinker" "chain") ∈ lw_all := lw_g (lw_at lw_m1 36 rfl) rfl
theorem q59 : (Jvm.Cond.laysFinal "IncrementalLinker" "IncrementalLinker" "next" "[I") ∈ lw_all := lw_g (lw_at lw_m1 37 rfl) rfl
theorem q60 : (Jvm.Cond.soleField "IncrementalLinker" "next") ∈ lw_all := lw_g (lw_at lw_m1 38 rfl) rfl
theorem q61 : (Jvm.Cond.laysFinal "IncrementalLinker" "IncrementalLinker" "before" "[I") ∈ lw_all := lw_g (lw_at lw_m1 39 rfl) rfl
theorem q62 : (Jvm.Cond.soleField "IncrementalLinker" "before") ∈ lw_all := lw_g (lw_at lw_m1 40 rfl) rfl
theorem q63 : (Jvm.Cond.superclass "IncrementalLinker" "java/lang/Object") ∈ lw_all := lw_g (lw_at lw_m1 41 rfl) rfl
theorem q66 : (Jvm.Cond.instanceMethod ({ cls := "IncrementalLinker", name := "constant", desc := "(II)I" } : Jvm.MethodName)) ∈ lw_all := lw_g (lw_at lw_m1 44 rfl) rfl
theorem q67 : (Jvm.Cond.selects "IncrementalLinker" ({ cls := "IncrementalLinker", name := "constant", desc := "(II)I" } : Jvm.MethodName) ({ cls := "IncrementalLinker", name := "constant", desc := "(II)I" } : Jvm.MethodName)) ∈ lw_all := lw_g (lw_at lw_m1 45 rfl) rfl
theorem q68 : (Jvm.Cond.code ({ cls := "IncrementalLinker", name := "constant", desc := "(II)I" } : Jvm.MethodName) prog_1_method_15_code (3 : Nat) (Option.some Jvm.ClassFile.FieldType.int)) ∈ lw_all := lw_g (lw_at lw_m1 46 rfl) rfl
theorem q69 : (Jvm.Cond.methodLink "IncrementalLinker" (71 : Nat) ({ cls := "IncrementalLinker", name := "bad", desc := "(I)Z" } : Jvm.MethodName)) ∈ lw_all := lw_g (lw_at lw_m1 47 rfl) rfl
theorem q70 : (Jvm.Cond.privateMethod ({ cls := "IncrementalLinker", name := "bad", desc := "(I)Z" } : Jvm.MethodName)) ∈ lw_tbl := lw_at lw_m1 48 rfl
theorem q71 : (Jvm.Cond.instanceMethod ({ cls := "IncrementalLinker", name := "bad", desc := "(I)Z" } : Jvm.MethodName)) ∈ lw_all := lw_g (lw_at lw_m1 49 rfl) rfl
theorem q72 : (Jvm.Cond.code ({ cls := "IncrementalLinker", name := "bad", desc := "(I)Z" } : Jvm.MethodName) prog_1_method_2_code (2 : Nat) (Option.some Jvm.ClassFile.FieldType.boolean)) ∈ lw_all := lw_g (lw_at lw_m1 50 rfl) rfl
theorem q73 : (Jvm.Cond.methodLink "IncrementalLinker" (75 : Nat) ({ cls := "IncrementalLinker", name := "append", desc := "(IIII)I" } : Jvm.MethodName)) ∈ lw_all := lw_g (lw_at lw_m1 51 rfl) rfl
theorem q74 : (Jvm.Cond.privateMethod ({ cls := "IncrementalLinker", name := "append", desc := "(IIII)I" } : Jvm.MethodName)) ∈ lw_tbl := lw_at lw_m1 52 rfl
theorem q75 : (Jvm.Cond.instanceMethod ({ cls := "IncrementalLinker", name := "append", desc := "(IIII)I" } : Jvm.MethodName)) ∈ lw_all := lw_g (lw_at lw_m1 53 rfl) rfl
theorem q76 : (Jvm.Cond.code ({ cls := "IncrementalLinker", name := "append", desc := "(IIII)I" } : Jvm.MethodName) prog_1_method_14_code (6 : Nat) (Option.some Jvm.ClassFile.FieldType.int)) ∈ lw_all := lw_g (lw_at lw_m1 54 rfl) rfl
theorem q77 : (Jvm.Cond.methodLink "IncrementalLinker" (61 : Nat) ({ cls := "IncrementalLinker", name := "words", desc := "(I)I" } : Jvm.MethodName)) ∈ lw_all := lw_g (lw_at lw_m1 55 rfl) rfl
theorem q78 : (Jvm.Cond.privateMethod ({ cls := "IncrementalLinker", name := "words", desc := "(I)I" } : Jvm.MethodName)) ∈ lw_tbl := lw_at lw_m1 56 rfl
theorem q79 : (Jvm.Cond.instanceMethod ({ cls := "IncrementalLinker", name := "words", desc := "(I)I" } : Jvm.MethodName)) ∈ lw_all := lw_g (lw_at lw_m1 57 rfl) rfl
theorem q80 : (Jvm.Cond.code ({ cls := "IncrementalLinker", name := "words", desc := "(I)I" } : Jvm.MethodName) prog_1_method_4_code (2 : Nat) (Option.some Jvm.ClassFile.FieldType.int)) ∈ lw_all := lw_g (lw_at lw_m1 58 rfl) rfl
theorem q81 : (Jvm.Cond.methodLink "IncrementalLinker" (65 : Nat) ({ cls := "IncrementalLinker", name := "open", desc := "(II)V" } : Jvm.MethodName)) ∈ lw_all := lw_g (lw_at lw_m1 59 rfl) rfl
theorem q82 : (Jvm.Cond.privateMethod ({ cls := "IncrementalLinker", name := "open", desc := "(II)V" } : Jvm.MethodName)) ∈ lw_tbl := lw_at lw_m1 60 rfl
theorem q83 : (Jvm.Cond.instanceMethod ({ cls := "IncrementalLinker", name := "open", desc := "(II)V" } : Jvm.MethodName)) ∈ lw_all := lw_g (lw_at lw_m1 61 rfl) rfl
theorem q84 : (Jvm.Cond.code ({ cls := "IncrementalLinker", name := "open", desc := "(II)V" } : Jvm.MethodName) prog_1_method_12_code (4 : Nat) (Option.none : Option Jvm.ClassFile.FieldType)) ∈ lw_all := lw_g (lw_at lw_m1 62 rfl) rfl
theorem q85 : (Jvm.Cond.methodLink "IncrementalLinker" (58 : Nat) ({ cls := "IncrementalLinker", name := "moveWord", desc := "(II)V" } : Jvm.MethodName)) ∈ lw_all := lw_g (lw_at lw_m1 63 rfl) rfl
theorem q86 : (Jvm.Cond.privateMethod ({ cls := "IncrementalLinker", name := "moveWord", desc := "(II)V" } : Jvm.MethodName)) ∈ lw_tbl := lw_at lw_m1 64 rfl
theorem q87 : (Jvm.Cond.instanceMethod ({ cls := "IncrementalLinker", name := "moveWord", desc := "(II)V" } : Jvm.MethodName)) ∈ lw_all := lw_g (lw_at lw_m1 65 rfl) rfl
theorem q88 : (Jvm.Cond.code ({ cls := "IncrementalLinker", name := "moveWord", desc := "(II)V" } : Jvm.MethodName) prog_1_method_11_code (4 : Nat) (Option.none : Option Jvm.ClassFile.FieldType)) ∈ lw_all := lw_g (lw_at lw_m1 66 rfl) rfl
theorem q89 : (Jvm.Cond.methodLink "IncrementalLinker" (51 : Nat) ({ cls := "IncrementalLinker", name := "unlink", desc := "(II)V" } : Jvm.MethodName)) ∈ lw_all := lw_g (lw_at lw_m1 67 rfl) rfl
theorem q90 : (Jvm.Cond.privateMethod ({ cls := "IncrementalLinker", name := "unlink", desc := "(II)V" } : Jvm.MethodName)) ∈ lw_tbl := lw_at lw_m1 68 rfl
theorem q91 : (Jvm.Cond.instanceMethod ({ cls := "IncrementalLinker", name := "unlink", desc := "(II)V" } : Jvm.MethodName)) ∈ lw_all := lw_g (lw_at lw_m1 69 rfl) rfl
theorem q92 : (Jvm.Cond.code ({ cls := "IncrementalLinker", name := "unlink", desc := "(II)V" } : Jvm.MethodName) prog_1_method_6_code (3 : Nat) (Option.none : Option Jvm.ClassFile.FieldType)) ∈ lw_all := lw_g (lw_at lw_m1 70 rfl) rfl
theorem q93 : (Jvm.Cond.methodLink "IncrementalLinker" (54 : Nat) ({ cls := "IncrementalLinker", name := "put", desc := "(IIII)V" } : Jvm.MethodName)) ∈ lw_all := lw_g (lw_at lw_m1 71 rfl) rfl
theorem q94 : (Jvm.Cond.privateMethod ({ cls := "IncrementalLinker", name := "put", desc := "(IIII)V" } : Jvm.MethodName)) ∈ lw_tbl := lw_at lw_m1 72 rfl
theorem q95 : (Jvm.Cond.instanceMethod ({ cls := "IncrementalLinker", name := "put", desc := "(IIII)V" } : Jvm.MethodName)) ∈ lw_all := lw_g (lw_at lw_m1 73 rfl) rfl
theorem q96 : (Jvm.Cond.code ({ cls := "IncrementalLinker", name := "put", desc := "(IIII)V" } : Jvm.MethodName) prog_1_method_10_code (5 : Nat) (Option.none : Option Jvm.ClassFile.FieldType)) ∈ lw_all := lw_g (lw_at lw_m1 74 rfl) rfl
theorem q97 : (Jvm.Cond.methodLink "IncrementalLinker" (47 : Nat) ({ cls := "IncrementalLinker", name := "link", desc := "(II)V" } : Jvm.MethodName)) ∈ lw_all := lw_g (lw_at lw_m1 75 rfl) rfl
theorem q98 : (Jvm.Cond.privateMethod ({ cls := "IncrementalLinker", name := "link", desc := "(II)V" } : Jvm.MethodName)) ∈ lw_tbl := lw_at lw_m1 76 rfl
theorem q99 : (Jvm.Cond.instanceMethod ({ cls := "IncrementalLinker", name := "link", desc := "(II)V" } : Jvm.MethodName)) ∈ lw_all := lw_g (lw_at lw_m1 77 rfl) rfl
theorem q100 : (Jvm.Cond.code ({ cls := "IncrementalLinker", name := "link", desc := "(II)V" } : Jvm.MethodName) prog_1_method_5_code (4 : Nat) (Option.none : Option Jvm.ClassFile.FieldType)) ∈ lw_all := lw_g (lw_at lw_m1 78 rfl) rfl
theorem q101 : (Jvm.Cond.methodLink "IncrementalLinker" (40 : Nat) ({ cls := "IncrementalLinker", name := "bind", desc := "(I)V" } : Jvm.MethodName)) ∈ lw_all := lw_g (lw_at lw_m1 79 rfl) rfl
theorem q102 : (Jvm.Cond.privateMethod ({ cls := "IncrementalLinker", name := "bind", desc := "(I)V" } : Jvm.MethodName)) ∈ lw_tbl := lw_at lw_m1 80 rfl
theorem q103 : (Jvm.Cond.instanceMethod ({ cls := "IncrementalLinker", name := "bind", desc := "(I)V" } : Jvm.MethodName)) ∈ lw_all := lw_g (lw_at lw_m1 81 rfl) rfl
theorem q104 : (Jvm.Cond.code ({ cls := "IncrementalLinker", name := "bind", desc := "(I)V" } : Jvm.MethodName) prog_1_method_7_code (3 : Nat) (Option.none : Option Jvm.ClassFile.FieldType)) ∈ lw_all := lw_g (lw_at lw_m1 82 rfl) rfl
theorem q105 : (Jvm.Cond.methodLink "IncrementalLinker" (68 : Nat) ({ cls := "IncrementalLinker", name := "refresh", desc := "()V" } : Jvm.MethodName)) ∈ lw_all := lw_g (lw_at lw_m1 83 rfl) rfl
theorem q106 : (Jvm.Cond.privateMethod ({ cls := "IncrementalLinker", name := "refresh", desc := "()V" } : Jvm.MethodName)) ∈ lw_tbl := lw_at lw_m1 84 rfl
theorem q107 : (Jvm.Cond.instanceMethod ({ cls := "IncrementalLinker", name := "refresh", desc := "()V" } : Jvm.MethodName)) ∈ lw_all := lw_g (lw_at lw_m1 85 rfl) rfl
theorem q108 : (Jvm.Cond.code ({ cls := "IncrementalLinker", name := "refresh", desc := "()V" } : Jvm.MethodName) prog_1_method_9_code (4 : Nat) (Option.none : Option Jvm.ClassFile.FieldType)) ∈ lw_all := lw_g (lw_at lw_m1 86 rfl) rfl
theorem q109 : (Jvm.Cond.methodLink "IncrementalLinker" (44 : Nat) ({ cls := "IncrementalLinker", name := "rebind", desc := "(I)V" } : Jvm.MethodName)) ∈ lw_all := lw_g (lw_at lw_m1 87 rfl) rfl
theorem q110 : (Jvm.Cond.privateMethod ({ cls := "IncrementalLinker", name := "rebind", desc := "(I)V" } : Jvm.MethodName)) ∈ lw_tbl := lw_at lw_m1 88 rfl
theorem q111 : (Jvm.Cond.instanceMethod ({ cls := "IncrementalLinker", name := "rebind", desc := "(I)V" } : Jvm.MethodName)) ∈ lw_all := lw_g (lw_at lw_m1 89 rfl) rfl
theorem q112 : (Jvm.Cond.code ({ cls := "IncrementalLinker", name := "rebind", desc := "(I)V" } : Jvm.MethodName) prog_1_method_8_code (4 : Nat) (Option.none : Option Jvm.ClassFile.FieldType)) ∈ lw_all := lw_g (lw_at lw_m1 90 rfl) rfl
end
section
set_option maxRecDepth 100000
theorem q114 : (Jvm.Cond.instanceMethod ({ cls := "IncrementalLinker", name := "reference", desc := "(III)I" } : Jvm.MethodName)) ∈ lw_all := lw_g (lw_at lw_m1 92 rfl) rfl
theorem q115 : (Jvm.Cond.selects "IncrementalLinker" ({ cls := "IncrementalLinker", name := "reference", desc := "(III)I" } : Jvm.MethodName) ({ cls := "IncrementalLinker", name := "reference", desc := "(III)I" } : Jvm.MethodName)) ∈ lw_all := lw_g (lw_at lw_m1 93 rfl) rfl
theorem q116 : (Jvm.Cond.code ({ cls := "IncrementalLinker", name := "reference", desc := "(III)I" } : Jvm.MethodName) prog_1_method_16_code (4 : Nat) (Option.some Jvm.ClassFile.FieldType.int)) ∈ lw_all := lw_g (lw_at lw_m1 94 rfl) rfl
theorem q117 : (Jvm.Cond.methodLink "IncrementalLinker" (79 : Nat) ({ cls := "IncrementalLinker", name := "badName", desc := "(I)Z" } : Jvm.MethodName)) ∈ lw_all := lw_g (lw_at lw_m1 95 rfl) rfl
theorem q118 : (Jvm.Cond.privateMethod ({ cls := "IncrementalLinker", name := "badName", desc := "(I)Z" } : Jvm.MethodName)) ∈ lw_tbl := lw_at lw_m1 96 rfl
theorem q119 : (Jvm.Cond.instanceMethod ({ cls := "IncrementalLinker", name := "badName", desc := "(I)Z" } : Jvm.MethodName)) ∈ lw_all := lw_g (lw_at lw_m1 97 rfl) rfl
theorem q120 : (Jvm.Cond.code ({ cls := "IncrementalLinker", name := "badName", desc := "(I)Z" } : Jvm.MethodName) prog_1_method_3_code (2 : Nat) (Option.some Jvm.ClassFile.FieldType.boolean)) ∈ lw_all := lw_g (lw_at lw_m1 98 rfl) rfl
theorem q122 : (Jvm.Cond.instanceMethod ({ cls := "IncrementalLinker", name := "patch", desc := "(III)I" } : Jvm.MethodName)) ∈ lw_all := lw_g (lw_at lw_m1 100 rfl) rfl
theorem q123 : (Jvm.Cond.selects "IncrementalLinker" ({ cls := "IncrementalLinker", name := "patch", desc := "(III)I" } : Jvm.MethodName) ({ cls := "IncrementalLinker", name := "patch", desc := "(III)I" } : Jvm.MethodName)) ∈ lw_all := lw_g (lw_at lw_m1 101 rfl) rfl
theorem q124 : (Jvm.Cond.code ({ cls := "IncrementalLinker", name := "patch", desc := "(III)I" } : Jvm.MethodName) prog_1_method_17_code (6 : Nat) (Option.some Jvm.ClassFile.FieldType.int)) ∈ lw_all := lw_g (lw_at lw_m1 102 rfl) rfl
theorem q126 : (Jvm.Cond.instanceMethod ({ cls := "IncrementalLinker", name := "insert", desc := "(III)I" } : Jvm.MethodName)) ∈ lw_all := lw_g (lw_at lw_m1 104 rfl) rfl
theorem q127 : (Jvm.Cond.selects "IncrementalLinker" ({ cls := "IncrementalLinker", name := "insert", desc := "(III)I" } : Jvm.MethodName) ({ cls := "IncrementalLinker", name := "insert", desc := "(III)I" } : Jvm.MethodName)) ∈ lw_all := lw_g (lw_at lw_m1 105 rfl) rfl
theorem q128 : (Jvm.Cond.code ({ cls := "IncrementalLinker", name := "insert", desc := "(III)I" } : Jvm.MethodName) prog_1_method_18_code (6 : Nat) (Option.some Jvm.ClassFile.FieldType.int)) ∈ lw_all := lw_g (lw_at lw_m1 106 rfl) rfl
theorem q130 : (Jvm.Cond.instanceMethod ({ cls := "IncrementalLinker", name := "delete", desc := "(II)I" } : Jvm.MethodName)) ∈ lw_all := lw_g (lw_at lw_m1 108 rfl) rfl
theorem q131 : (Jvm.Cond.selects "IncrementalLinker" ({ cls := "IncrementalLinker", name := "delete", desc := "(II)I" } : Jvm.MethodName) ({ cls := "IncrementalLinker", name := "delete", desc := "(II)I" } : Jvm.MethodName)) ∈ lw_all := lw_g (lw_at lw_m1 109 rfl) rfl
theorem q132 : (Jvm.Cond.code ({ cls := "IncrementalLinker", name := "delete", desc := "(II)I" } : Jvm.MethodName) prog_1_method_19_code (4 : Nat) (Option.some Jvm.ClassFile.FieldType.int)) ∈ lw_all := lw_g (lw_at lw_m1 110 rfl) rfl
theorem q133 : (Jvm.Cond.methodLink "IncrementalLinker" (82 : Nat) ({ cls := "IncrementalLinker", name := "close", desc := "(II)V" } : Jvm.MethodName)) ∈ lw_all := lw_g (lw_at lw_m1 111 rfl) rfl
theorem q134 : (Jvm.Cond.privateMethod ({ cls := "IncrementalLinker", name := "close", desc := "(II)V" } : Jvm.MethodName)) ∈ lw_tbl := lw_at lw_m1 112 rfl
theorem q135 : (Jvm.Cond.instanceMethod ({ cls := "IncrementalLinker", name := "close", desc := "(II)V" } : Jvm.MethodName)) ∈ lw_all := lw_g (lw_at lw_m1 113 rfl) rfl
theorem q136 : (Jvm.Cond.code ({ cls := "IncrementalLinker", name := "close", desc := "(II)V" } : Jvm.MethodName) prog_1_method_13_code (4 : Nat) (Option.none : Option Jvm.ClassFile.FieldType)) ∈ lw_all := lw_g (lw_at lw_m1 114 rfl) rfl
theorem q138 : (Jvm.Cond.instanceMethod ({ cls := "IncrementalLinker", name := "unload", desc := "(I)I" } : Jvm.MethodName)) ∈ lw_all := lw_g (lw_at lw_m1 116 rfl) rfl
theorem q139 : (Jvm.Cond.selects "IncrementalLinker" ({ cls := "IncrementalLinker", name := "unload", desc := "(I)I" } : Jvm.MethodName) ({ cls := "IncrementalLinker", name := "unload", desc := "(I)I" } : Jvm.MethodName)) ∈ lw_all := lw_g (lw_at lw_m1 117 rfl) rfl
theorem q140 : (Jvm.Cond.code ({ cls := "IncrementalLinker", name := "unload", desc := "(I)I" } : Jvm.MethodName) prog_1_method_20_code (4 : Nat) (Option.some Jvm.ClassFile.FieldType.int)) ∈ lw_all := lw_g (lw_at lw_m1 118 rfl) rfl
theorem q142 : (Jvm.Cond.instanceMethod ({ cls := "IncrementalLinker", name := "define", desc := "(III)I" } : Jvm.MethodName)) ∈ lw_all := lw_g (lw_at lw_m1 120 rfl) rfl
theorem q143 : (Jvm.Cond.selects "IncrementalLinker" ({ cls := "IncrementalLinker", name := "define", desc := "(III)I" } : Jvm.MethodName) ({ cls := "IncrementalLinker", name := "define", desc := "(III)I" } : Jvm.MethodName)) ∈ lw_all := lw_g (lw_at lw_m1 121 rfl) rfl
theorem q144 : (Jvm.Cond.code ({ cls := "IncrementalLinker", name := "define", desc := "(III)I" } : Jvm.MethodName) prog_1_method_21_code (5 : Nat) (Option.some Jvm.ClassFile.FieldType.int)) ∈ lw_all := lw_g (lw_at lw_m1 122 rfl) rfl
theorem q146 : (Jvm.Cond.instanceMethod ({ cls := "IncrementalLinker", name := "undefine", desc := "(II)I" } : Jvm.MethodName)) ∈ lw_all := lw_g (lw_at lw_m1 124 rfl) rfl
theorem q147 : (Jvm.Cond.selects "IncrementalLinker" ({ cls := "IncrementalLinker", name := "undefine", desc := "(II)I" } : Jvm.MethodName) ({ cls := "IncrementalLinker", name := "undefine", desc := "(II)I" } : Jvm.MethodName)) ∈ lw_all := lw_g (lw_at lw_m1 125 rfl) rfl
theorem q148 : (Jvm.Cond.code ({ cls := "IncrementalLinker", name := "undefine", desc := "(II)I" } : Jvm.MethodName) prog_1_method_22_code (4 : Nat) (Option.some Jvm.ClassFile.FieldType.int)) ∈ lw_all := lw_g (lw_at lw_m1 126 rfl) rfl
theorem q150 : (Jvm.Cond.instanceMethod ({ cls := "IncrementalLinker", name := "size", desc := "()I" } : Jvm.MethodName)) ∈ lw_all := lw_g (lw_at lw_m1 128 rfl) rfl
theorem q151 : (Jvm.Cond.selects "IncrementalLinker" ({ cls := "IncrementalLinker", name := "size", desc := "()I" } : Jvm.MethodName) ({ cls := "IncrementalLinker", name := "size", desc := "()I" } : Jvm.MethodName)) ∈ lw_all := lw_g (lw_at lw_m1 129 rfl) rfl
theorem q152 : (Jvm.Cond.code ({ cls := "IncrementalLinker", name := "size", desc := "()I" } : Jvm.MethodName) prog_1_method_23_code (1 : Nat) (Option.some Jvm.ClassFile.FieldType.int)) ∈ lw_all := lw_g (lw_at lw_m1 130 rfl) rfl
theorem q154 : (Jvm.Cond.instanceMethod ({ cls := "IncrementalLinker", name := "value", desc := "(I)I" } : Jvm.MethodName)) ∈ lw_all := lw_g (lw_at lw_m1 132 rfl) rfl
theorem q155 : (Jvm.Cond.selects "IncrementalLinker" ({ cls := "IncrementalLinker", name := "value", desc := "(I)I" } : Jvm.MethodName) ({ cls := "IncrementalLinker", name := "value", desc := "(I)I" } : Jvm.MethodName)) ∈ lw_all := lw_g (lw_at lw_m1 133 rfl) rfl
theorem q156 : (Jvm.Cond.code ({ cls := "IncrementalLinker", name := "value", desc := "(I)I" } : Jvm.MethodName) prog_1_method_24_code (2 : Nat) (Option.some Jvm.ClassFile.FieldType.int)) ∈ lw_all := lw_g (lw_at lw_m1 134 rfl) rfl
theorem q158 : (Jvm.Cond.instanceMethod ({ cls := "IncrementalLinker", name := "address", desc := "(I)I" } : Jvm.MethodName)) ∈ lw_all := lw_g (lw_at lw_m1 136 rfl) rfl
theorem q159 : (Jvm.Cond.selects "IncrementalLinker" ({ cls := "IncrementalLinker", name := "address", desc := "(I)I" } : Jvm.MethodName) ({ cls := "IncrementalLinker", name := "address", desc := "(I)I" } : Jvm.MethodName)) ∈ lw_all := lw_g (lw_at lw_m1 137 rfl) rfl
theorem q160 : (Jvm.Cond.code ({ cls := "IncrementalLinker", name := "address", desc := "(I)I" } : Jvm.MethodName) prog_1_method_25_code (2 : Nat) (Option.some Jvm.ClassFile.FieldType.int)) ∈ lw_all := lw_g (lw_at lw_m1 138 rfl) rfl
theorem q162 : (Jvm.Cond.instanceMethod ({ cls := "IncrementalLinker", name := "where", desc := "(I)I" } : Jvm.MethodName)) ∈ lw_all := lw_g (lw_at lw_m1 140 rfl) rfl
theorem q163 : (Jvm.Cond.selects "IncrementalLinker" ({ cls := "IncrementalLinker", name := "where", desc := "(I)I" } : Jvm.MethodName) ({ cls := "IncrementalLinker", name := "where", desc := "(I)I" } : Jvm.MethodName)) ∈ lw_all := lw_g (lw_at lw_m1 141 rfl) rfl
theorem q164 : (Jvm.Cond.code ({ cls := "IncrementalLinker", name := "where", desc := "(I)I" } : Jvm.MethodName) prog_1_method_26_code (2 : Nat) (Option.some Jvm.ClassFile.FieldType.int)) ∈ lw_all := lw_g (lw_at lw_m1 142 rfl) rfl
theorem q166 : (Jvm.Cond.instanceMethod ({ cls := "IncrementalLinker", name := "undefined", desc := "()I" } : Jvm.MethodName)) ∈ lw_all := lw_g (lw_at lw_m1 144 rfl) rfl
theorem q167 : (Jvm.Cond.selects "IncrementalLinker" ({ cls := "IncrementalLinker", name := "undefined", desc := "()I" } : Jvm.MethodName) ({ cls := "IncrementalLinker", name := "undefined", desc := "()I" } : Jvm.MethodName)) ∈ lw_all := lw_g (lw_at lw_m1 145 rfl) rfl
theorem q168 : (Jvm.Cond.code ({ cls := "IncrementalLinker", name := "undefined", desc := "()I" } : Jvm.MethodName) prog_1_method_28_code (4 : Nat) (Option.some Jvm.ClassFile.FieldType.int)) ∈ lw_all := lw_g (lw_at lw_m1 146 rfl) rfl
theorem q169 : (Jvm.Cond.methodLink "IncrementalLinker" (85 : Nat) ({ cls := "IncrementalLinker", name := "chainLength", desc := "(I)I" } : Jvm.MethodName)) ∈ lw_all := lw_g (lw_at lw_m1 147 rfl) rfl
theorem q170 : (Jvm.Cond.privateMethod ({ cls := "IncrementalLinker", name := "chainLength", desc := "(I)I" } : Jvm.MethodName)) ∈ lw_tbl := lw_at lw_m1 148 rfl
theorem q171 : (Jvm.Cond.instanceMethod ({ cls := "IncrementalLinker", name := "chainLength", desc := "(I)I" } : Jvm.MethodName)) ∈ lw_all := lw_g (lw_at lw_m1 149 rfl) rfl
theorem q172 : (Jvm.Cond.code ({ cls := "IncrementalLinker", name := "chainLength", desc := "(I)I" } : Jvm.MethodName) prog_1_method_27_code (5 : Nat) (Option.some Jvm.ClassFile.FieldType.int)) ∈ lw_all := lw_g (lw_at lw_m1 150 rfl) rfl
theorem q174 : (Jvm.Cond.instanceMethod ({ cls := "IncrementalLinker", name := "idle", desc := "()I" } : Jvm.MethodName)) ∈ lw_all := lw_g (lw_at lw_m1 152 rfl) rfl
theorem q175 : (Jvm.Cond.selects "IncrementalLinker" ({ cls := "IncrementalLinker", name := "idle", desc := "()I" } : Jvm.MethodName) ({ cls := "IncrementalLinker", name := "idle", desc := "()I" } : Jvm.MethodName)) ∈ lw_all := lw_g (lw_at lw_m1 153 rfl) rfl
theorem q176 : (Jvm.Cond.code ({ cls := "IncrementalLinker", name := "idle", desc := "()I" } : Jvm.MethodName) prog_1_method_29_code (4 : Nat) (Option.some Jvm.ClassFile.FieldType.int)) ∈ lw_all := lw_g (lw_at lw_m1 154 rfl) rfl
theorem q178 : (Jvm.Cond.instanceMethod ({ cls := "IncrementalLinker", name := "uses", desc := "(I)I" } : Jvm.MethodName)) ∈ lw_all := lw_g (lw_at lw_m1 156 rfl) rfl
theorem q179 : (Jvm.Cond.selects "IncrementalLinker" ({ cls := "IncrementalLinker", name := "uses", desc := "(I)I" } : Jvm.MethodName) ({ cls := "IncrementalLinker", name := "uses", desc := "(I)I" } : Jvm.MethodName)) ∈ lw_all := lw_g (lw_at lw_m1 157 rfl) rfl
theorem q180 : (Jvm.Cond.code ({ cls := "IncrementalLinker", name := "uses", desc := "(I)I" } : Jvm.MethodName) prog_1_method_30_code (2 : Nat) (Option.some Jvm.ClassFile.FieldType.int)) ∈ lw_all := lw_g (lw_at lw_m1 158 rfl) rfl
theorem q182 : (Jvm.Cond.instanceMethod ({ cls := "IncrementalLinker", name := "users", desc := "(I)I" } : Jvm.MethodName)) ∈ lw_all := lw_g (lw_at lw_m1 160 rfl) rfl
theorem q183 : (Jvm.Cond.selects "IncrementalLinker" ({ cls := "IncrementalLinker", name := "users", desc := "(I)I" } : Jvm.MethodName) ({ cls := "IncrementalLinker", name := "users", desc := "(I)I" } : Jvm.MethodName)) ∈ lw_all := lw_g (lw_at lw_m1 161 rfl) rfl
theorem q184 : (Jvm.Cond.code ({ cls := "IncrementalLinker", name := "users", desc := "(I)I" } : Jvm.MethodName) prog_1_method_32_code (6 : Nat) (Option.some Jvm.ClassFile.FieldType.int)) ∈ lw_all := lw_g (lw_at lw_m1 162 rfl) rfl
theorem q185 : (Jvm.Cond.methodLink "IncrementalLinker" (88 : Nat) ({ cls := "IncrementalLinker", name := "moduleAt", desc := "(I)I" } : Jvm.MethodName)) ∈ lw_all := lw_g (lw_at lw_m1 163 rfl) rfl
theorem q186 : (Jvm.Cond.privateMethod ({ cls := "IncrementalLinker", name := "moduleAt", desc := "(I)I" } : Jvm.MethodName)) ∈ lw_tbl := lw_at lw_m1 164 rfl
theorem q187 : (Jvm.Cond.instanceMethod ({ cls := "IncrementalLinker", name := "moduleAt", desc := "(I)I" } : Jvm.MethodName)) ∈ lw_all := lw_g (lw_at lw_m1 165 rfl) rfl
theorem q188 : (Jvm.Cond.code ({ cls := "IncrementalLinker", name := "moduleAt", desc := "(I)I" } : Jvm.MethodName) prog_1_method_31_code (4 : Nat) (Option.some Jvm.ClassFile.FieldType.int)) ∈ lw_all := lw_g (lw_at lw_m1 166 rfl) rfl
theorem q190 : (Jvm.Cond.instanceMethod ({ cls := "IncrementalLinker", name := "moduleOf", desc := "(I)I" } : Jvm.MethodName)) ∈ lw_all := lw_g (lw_at lw_m1 168 rfl) rfl
theorem q191 : (Jvm.Cond.selects "IncrementalLinker" ({ cls := "IncrementalLinker", name := "moduleOf", desc := "(I)I" } : Jvm.MethodName) ({ cls := "IncrementalLinker", name := "moduleOf", desc := "(I)I" } : Jvm.MethodName)) ∈ lw_all := lw_g (lw_at lw_m1 169 rfl) rfl
theorem q192 : (Jvm.Cond.code ({ cls := "IncrementalLinker", name := "moduleOf", desc := "(I)I" } : Jvm.MethodName) prog_1_method_33_code (2 : Nat) (Option.some Jvm.ClassFile.FieldType.int)) ∈ lw_all := lw_g (lw_at lw_m1 170 rfl) rfl
theorem q194 : (Jvm.Cond.instanceMethod ({ cls := "IncrementalLinker", name := "digest", desc := "()I" } : Jvm.MethodName)) ∈ lw_all := lw_g (lw_at lw_m1 172 rfl) rfl
theorem q195 : (Jvm.Cond.selects "IncrementalLinker" ({ cls := "IncrementalLinker", name := "digest", desc := "()I" } : Jvm.MethodName) ({ cls := "IncrementalLinker", name := "digest", desc := "()I" } : Jvm.MethodName)) ∈ lw_all := lw_g (lw_at lw_m1 173 rfl) rfl
theorem q196 : (Jvm.Cond.code ({ cls := "IncrementalLinker", name := "digest", desc := "()I" } : Jvm.MethodName) prog_1_method_34_code (3 : Nat) (Option.some Jvm.ClassFile.FieldType.int)) ∈ lw_all := lw_g (lw_at lw_m1 174 rfl) rfl
theorem in_X0 : ∀ w ∈ wsX00, w ∈ lw_all := lw_in wsX00 [43, 45, 47, 49, 51, 53, 55, 57, 59, 61] (by decide +kernel) (by decide +kernel)
end
section
set_option maxRecDepth 100000
/-! IncrementalLinkerModel -/
def RX1 : String := "IncrementalLinkerModel"
def TX1 : u_T := fun k => match k with
  | 0 => ("IncrementalLinkerModel", "names", "[I", true)
  | 1 => ("IncrementalLinkerModel", "numbers", "[I", true)
  | 2 => ("IncrementalLinkerModel", "sizes", "[I", true)
  | _ => ("IncrementalLinkerModel", "defined", "[I", true)
def tyX1 : Nat → FieldType := fun k => match k with
  | 0 => .array .int
  | 1 => .array .int
  | 2 => .array .int
  | _ => .array .int
abbrev wsX10 : List Cond := u_ws RX1 TX1 4
theorem nmX1 : ∀ a, a < 4 → ∀ b, b < 4 → a ≠ b → (TX1 a).2.1 ≠ (TX1 b).2.1 := by decide +kernel
theorem tyX1_ok : ∀ k, k < 4 → parseFieldDescriptor (TX1 k).2.2.1 = some (tyX1 k) := by decide +kernel
abbrev cX1_init : ByteArray := prog_3_method_1_code
def yX1_init : MethodName := ⟨RX1, "<init>", "()V"⟩
theorem dX1_init_0 : decode cX1_init 0 = .ok (.aload_n 0, 1) := by decide +kernel
theorem dX1_init_1 : decode cX1_init 1 = .ok (.invokespecial 1, 3) := by decide +kernel
theorem dX1_init_4 : decode cX1_init 4 = .ok (.aload_n 0, 1) := by decide +kernel
theorem dX1_init_5 : decode cX1_init 5 = .ok (.bipush 48, 2) := by decide +kernel
theorem dX1_init_7 : decode cX1_init 7 = .ok (.newarray .int, 2) := by decide +kernel
theorem dX1_init_9 : decode cX1_init 9 = .ok (.putfield 7, 3) := by decide +kernel
theorem dX1_init_12 : decode cX1_init 12 = .ok (.aload_n 0, 1) := by decide +kernel
theorem dX1_init_13 : decode cX1_init 13 = .ok (.bipush 48, 2) := by decide +kernel
theorem dX1_init_15 : decode cX1_init 15 = .ok (.newarray .int, 2) := by decide +kernel
theorem dX1_init_17 : decode cX1_init 17 = .ok (.putfield 13, 3) := by decide +kernel
theorem dX1_init_20 : decode cX1_init 20 = .ok (.aload_n 0, 1) := by decide +kernel
theorem dX1_init_21 : decode cX1_init 21 = .ok (.bipush 6, 2) := by decide +kernel
theorem dX1_init_23 : decode cX1_init 23 = .ok (.newarray .int, 2) := by decide +kernel
theorem dX1_init_25 : decode cX1_init 25 = .ok (.putfield 16, 3) := by decide +kernel
theorem dX1_init_28 : decode cX1_init 28 = .ok (.aload_n 0, 1) := by decide +kernel
theorem dX1_init_29 : decode cX1_init 29 = .ok (.bipush 60, 2) := by decide +kernel
theorem dX1_init_31 : decode cX1_init 31 = .ok (.newarray .int, 2) := by decide +kernel
theorem dX1_init_33 : decode cX1_init 33 = .ok (.putfield 19, 3) := by decide +kernel
theorem dX1_init_36 : decode cX1_init 36 = .ok (.iconst 0, 1) := by decide +kernel
theorem dX1_init_37 : decode cX1_init 37 = .ok (.istore_n 1, 1) := by decide +kernel
theorem dX1_init_38 : decode cX1_init 38 = .ok (.iload_n 1, 1) := by decide +kernel
theorem dX1_init_39 : decode cX1_init 39 = .ok (.bipush 60, 2) := by decide +kernel
theorem dX1_init_41 : decode cX1_init 41 = .ok (.if_icmp .ge 17, 3) := by decide +kernel
theorem dX1_init_44 : decode cX1_init 44 = .ok (.aload_n 0, 1) := by decide +kernel
theorem dX1_init_45 : decode cX1_init 45 = .ok (.getfield 19, 3) := by decide +kernel
theorem dX1_init_48 : decode cX1_init 48 = .ok (.iload_n 1, 1) := by decide +kernel
theorem dX1_init_49 : decode cX1_init 49 = .ok (.bipush (-4), 2) := by decide +kernel
theorem dX1_init_51 : decode cX1_init 51 = .ok (.iastore, 1) := by decide +kernel
theorem dX1_init_52 : decode cX1_init 52 = .ok (.iinc 1 1, 3) := by decide +kernel
theorem dX1_init_55 : decode cX1_init 55 = .ok (.goto (-17), 3) := by decide +kernel
theorem dX1_init_58 : decode cX1_init 58 = .ok (.return_, 1) := by decide +kernel
abbrev cX1_constant : ByteArray := prog_3_method_5_code
def yX1_constant : MethodName := ⟨RX1, "constant", "(II)I"⟩
theorem dX1_constant_0 : decode cX1_constant 0 = .ok (.aload_n 0, 1) := by decide +kernel
theorem dX1_constant_1 : decode cX1_constant 1 = .ok (.iload_n 1, 1) := by decide +kernel
theorem dX1_constant_2 : decode cX1_constant 2 = .ok (.invokevirtual 22, 3) := by decide +kernel
theorem dX1_constant_5 : decode cX1_constant 5 = .ok (.ifCond .eq 14, 3) := by decide +kernel
theorem dX1_constant_8 : decode cX1_constant 8 = .ok (.aload_n 0, 1) := by decide +kernel
theorem dX1_constant_9 : decode cX1_constant 9 = .ok (.iload_n 1, 1) := by decide +kernel
theorem dX1_constant_10 : decode cX1_constant 10 = .ok (.bipush (-4), 2) := by decide +kernel
theorem dX1_constant_12 : decode cX1_constant 12 = .ok (.iload_n 2, 1) := by decide +kernel
theorem dX1_constant_13 : decode cX1_constant 13 = .ok (.invokevirtual 26, 3) := by decide +kernel
theorem dX1_constant_16 : decode cX1_constant 16 = .ok (.goto 4, 3) := by decide +kernel
theorem dX1_constant_19 : decode cX1_constant 19 = .ok (.iconst (-1), 1) := by decide +kernel
theorem dX1_constant_20 : decode cX1_constant 20 = .ok (.ireturn, 1) := by decide +kernel
abbrev cX1_isModule : ByteArray := prog_3_method_2_code
def yX1_isModule : MethodName := ⟨RX1, "isModule", "(I)Z"⟩
theorem dX1_isModule_0 : decode cX1_isModule 0 = .ok (.iload_n 1, 1) := by decide +kernel
theorem dX1_isModule_1 : decode cX1_isModule 1 = .ok (.ifCond .lt 12, 3) := by decide +kernel
theorem dX1_isModule_4 : decode cX1_isModule 4 = .ok (.iload_n 1, 1) := by decide +kernel
theorem dX1_isModule_5 : decode cX1_isModule 5 = .ok (.iconst 5, 1) := by decide +kernel
theorem dX1_isModule_6 : decode cX1_isModule 6 = .ok (.if_icmp .gt 7, 3) := by decide +kernel
theorem dX1_isModule_9 : decode cX1_isModule 9 = .ok (.iconst 1, 1) := by decide +kernel
theorem dX1_isModule_10 : decode cX1_isModule 10 = .ok (.goto 4, 3) := by decide +kernel
theorem dX1_isModule_13 : decode cX1_isModule 13 = .ok (.iconst 0, 1) := by decide +kernel
theorem dX1_isModule_14 : decode cX1_isModule 14 = .ok (.ireturn, 1) := by decide +kernel
abbrev cX1_append : ByteArray := prog_3_method_4_code
def yX1_append : MethodName := ⟨RX1, "append", "(III)I"⟩
theorem dX1_append_0 : decode cX1_append 0 = .ok (.aload_n 0, 1) := by decide +kernel
theorem dX1_append_1 : decode cX1_append 1 = .ok (.getfield 16, 3) := by decide +kernel
theorem dX1_append_4 : decode cX1_append 4 = .ok (.iload_n 1, 1) := by decide +kernel
theorem dX1_append_5 : decode cX1_append 5 = .ok (.iaload, 1) := by decide +kernel
theorem dX1_append_6 : decode cX1_append 6 = .ok (.bipush 8, 2) := by decide +kernel
theorem dX1_append_8 : decode cX1_append 8 = .ok (.if_icmp .ne 6, 3) := by decide +kernel
theorem dX1_append_11 : decode cX1_append 11 = .ok (.bipush (-2), 2) := by decide +kernel
theorem dX1_append_13 : decode cX1_append 13 = .ok (.ireturn, 1) := by decide +kernel
theorem dX1_append_14 : decode cX1_append 14 = .ok (.aload_n 0, 1) := by decide +kernel
theorem dX1_append_15 : decode cX1_append 15 = .ok (.getfield 7, 3) := by decide +kernel
theorem dX1_append_18 : decode cX1_append 18 = .ok (.bipush 8, 2) := by decide +kernel
theorem dX1_append_20 : decode cX1_append 20 = .ok (.iload_n 1, 1) := by decide +kernel
theorem dX1_append_21 : decode cX1_append 21 = .ok (.imul, 1) := by decide +kernel
theorem dX1_append_22 : decode cX1_append 22 = .ok (.aload_n 0, 1) := by decide +kernel
theorem dX1_append_23 : decode cX1_append 23 = .ok (.getfield 16, 3) := by decide +kernel
theorem dX1_append_26 : decode cX1_append 26 = .ok (.iload_n 1, 1) := by decide +kernel
theorem dX1_append_27 : decode cX1_append 27 = .ok (.iaload, 1) := by decide +kernel
theorem dX1_append_28 : decode cX1_append 28 = .ok (.iadd, 1) := by decide +kernel
theorem dX1_append_29 : decode cX1_append 29 = .ok (.iload_n 2, 1) := by decide +kernel
theorem dX1_append_30 : decode cX1_append 30 = .ok (.iastore, 1) := by decide +kernel
theorem dX1_append_31 : decode cX1_append 31 = .ok (.aload_n 0, 1) := by decide +kernel
theorem dX1_append_32 : decode cX1_append 32 = .ok (.getfield 13, 3) := by decide +kernel
theorem dX1_append_35 : decode cX1_append 35 = .ok (.bipush 8, 2) := by decide +kernel
theorem dX1_append_37 : decode cX1_append 37 = .ok (.iload_n 1, 1) := by decide +kernel
theorem dX1_append_38 : decode cX1_append 38 = .ok (.imul, 1) := by decide +kernel
theorem dX1_append_39 : decode cX1_append 39 = .ok (.aload_n 0, 1) := by decide +kernel
theorem dX1_append_40 : decode cX1_append 40 = .ok (.getfield 16, 3) := by decide +kernel
theorem dX1_append_43 : decode cX1_append 43 = .ok (.iload_n 1, 1) := by decide +kernel
theorem dX1_append_44 : decode cX1_append 44 = .ok (.iaload, 1) := by decide +kernel
theorem dX1_append_45 : decode cX1_append 45 = .ok (.iadd, 1) := by decide +kernel
theorem dX1_append_46 : decode cX1_append 46 = .ok (.iload_n 3, 1) := by decide +kernel
theorem dX1_append_47 : decode cX1_append 47 = .ok (.iastore, 1) := by decide +kernel
theorem dX1_append_48 : decode cX1_append 48 = .ok (.aload_n 0, 1) := by decide +kernel
theorem dX1_append_49 : decode cX1_append 49 = .ok (.getfield 16, 3) := by decide +kernel
theorem dX1_append_52 : decode cX1_append 52 = .ok (.iload_n 1, 1) := by decide +kernel
theorem dX1_append_53 : decode cX1_append 53 = .ok (.dup2, 1) := by decide +kernel
theorem dX1_append_54 : decode cX1_append 54 = .ok (.iaload, 1) := by decide +kernel
theorem dX1_append_55 : decode cX1_append 55 = .ok (.iconst 1, 1) := by decide +kernel
theorem dX1_append_56 : decode cX1_append 56 = .ok (.iadd, 1) := by decide +kernel
theorem dX1_append_57 : decode cX1_append 57 = .ok (.iastore, 1) := by decide +kernel
theorem dX1_append_58 : decode cX1_append 58 = .ok (.aload_n 0, 1) := by decide +kernel
theorem dX1_append_59 : decode cX1_append 59 = .ok (.getfield 16, 3) := by decide +kernel
theorem dX1_append_62 : decode cX1_append 62 = .ok (.iload_n 1, 1) := by decide +kernel
theorem dX1_append_63 : decode cX1_append 63 = .ok (.iaload, 1) := by decide +kernel
theorem dX1_append_64 : decode cX1_append 64 = .ok (.ireturn, 1) := by decide +kernel
abbrev cX1_reference : ByteArray := prog_3_method_6_code
def yX1_reference : MethodName := ⟨RX1, "reference", "(III)I"⟩
theorem dX1_reference_0 : decode cX1_reference 0 = .ok (.aload_n 0, 1) := by decide +kernel
theorem dX1_reference_1 : decode cX1_reference 1 = .ok (.iload_n 1, 1) := by decide +kernel
theorem dX1_reference_2 : decode cX1_reference 2 = .ok (.invokevirtual 22, 3) := by decide +kernel
theorem dX1_reference_5 : decode cX1_reference 5 = .ok (.ifCond .eq 27, 3) := by decide +kernel
theorem dX1_reference_8 : decode cX1_reference 8 = .ok (.aload_n 0, 1) := by decide +kernel
theorem dX1_reference_9 : decode cX1_reference 9 = .ok (.iload_n 2, 1) := by decide +kernel
theorem dX1_reference_10 : decode cX1_reference 10 = .ok (.invokevirtual 30, 3) := by decide +kernel
theorem dX1_reference_13 : decode cX1_reference 13 = .ok (.ifCond .eq 19, 3) := by decide +kernel
theorem dX1_reference_16 : decode cX1_reference 16 = .ok (.iload_n 3, 1) := by decide +kernel
theorem dX1_reference_17 : decode cX1_reference 17 = .ok (.bipush (-100), 2) := by decide +kernel
theorem dX1_reference_19 : decode cX1_reference 19 = .ok (.if_icmp .lt 13, 3) := by decide +kernel
theorem dX1_reference_22 : decode cX1_reference 22 = .ok (.iload_n 3, 1) := by decide +kernel
theorem dX1_reference_23 : decode cX1_reference 23 = .ok (.bipush 100, 2) := by decide +kernel
theorem dX1_reference_25 : decode cX1_reference 25 = .ok (.if_icmp .gt 7, 3) := by decide +kernel
theorem dX1_reference_28 : decode cX1_reference 28 = .ok (.iconst 1, 1) := by decide +kernel
theorem dX1_reference_29 : decode cX1_reference 29 = .ok (.goto 4, 3) := by decide +kernel
theorem dX1_reference_32 : decode cX1_reference 32 = .ok (.iconst 0, 1) := by decide +kernel
theorem dX1_reference_33 : decode cX1_reference 33 = .ok (.istore 4, 2) := by decide +kernel
theorem dX1_reference_35 : decode cX1_reference 35 = .ok (.iload 4, 2) := by decide +kernel
theorem dX1_reference_37 : decode cX1_reference 37 = .ok (.ifCond .eq 13, 3) := by decide +kernel
theorem dX1_reference_40 : decode cX1_reference 40 = .ok (.aload_n 0, 1) := by decide +kernel
theorem dX1_reference_41 : decode cX1_reference 41 = .ok (.iload_n 1, 1) := by decide +kernel
theorem dX1_reference_42 : decode cX1_reference 42 = .ok (.iload_n 2, 1) := by decide +kernel
theorem dX1_reference_43 : decode cX1_reference 43 = .ok (.iload_n 3, 1) := by decide +kernel
theorem dX1_reference_44 : decode cX1_reference 44 = .ok (.invokevirtual 26, 3) := by decide +kernel
theorem dX1_reference_47 : decode cX1_reference 47 = .ok (.goto 4, 3) := by decide +kernel
theorem dX1_reference_50 : decode cX1_reference 50 = .ok (.iconst (-1), 1) := by decide +kernel
theorem dX1_reference_51 : decode cX1_reference 51 = .ok (.ireturn, 1) := by decide +kernel
abbrev cX1_isName : ByteArray := prog_3_method_3_code
def yX1_isName : MethodName := ⟨RX1, "isName", "(I)Z"⟩
theorem dX1_isName_0 : decode cX1_isName 0 = .ok (.iload_n 1, 1) := by decide +kernel
theorem dX1_isName_1 : decode cX1_isName 1 = .ok (.ifCond .lt 13, 3) := by decide +kernel
theorem dX1_isName_4 : decode cX1_isName 4 = .ok (.iload_n 1, 1) := by decide +kernel
theorem dX1_isName_5 : decode cX1_isName 5 = .ok (.bipush 9, 2) := by decide +kernel
theorem dX1_isName_7 : decode cX1_isName 7 = .ok (.if_icmp .gt 7, 3) := by decide +kernel
theorem dX1_isName_10 : decode cX1_isName 10 = .ok (.iconst 1, 1) := by decide +kernel
theorem dX1_isName_11 : decode cX1_isName 11 = .ok (.goto 4, 3) := by decide +kernel
theorem dX1_isName_14 : decode cX1_isName 14 = .ok (.iconst 0, 1) := by decide +kernel
theorem dX1_isName_15 : decode cX1_isName 15 = .ok (.ireturn, 1) := by decide +kernel
abbrev cX1_patch : ByteArray := prog_3_method_8_code
def yX1_patch : MethodName := ⟨RX1, "patch", "(III)I"⟩
theorem dX1_patch_0 : decode cX1_patch 0 = .ok (.aload_n 0, 1) := by decide +kernel
theorem dX1_patch_1 : decode cX1_patch 1 = .ok (.iload_n 1, 1) := by decide +kernel
theorem dX1_patch_2 : decode cX1_patch 2 = .ok (.invokevirtual 22, 3) := by decide +kernel
theorem dX1_patch_5 : decode cX1_patch 5 = .ok (.ifCond .ne 5, 3) := by decide +kernel
theorem dX1_patch_8 : decode cX1_patch 8 = .ok (.iconst (-1), 1) := by decide +kernel
theorem dX1_patch_9 : decode cX1_patch 9 = .ok (.ireturn, 1) := by decide +kernel
theorem dX1_patch_10 : decode cX1_patch 10 = .ok (.aload_n 0, 1) := by decide +kernel
theorem dX1_patch_11 : decode cX1_patch 11 = .ok (.iload_n 1, 1) := by decide +kernel
theorem dX1_patch_12 : decode cX1_patch 12 = .ok (.iload_n 2, 1) := by decide +kernel
theorem dX1_patch_13 : decode cX1_patch 13 = .ok (.invokevirtual 33, 3) := by decide +kernel
theorem dX1_patch_16 : decode cX1_patch 16 = .ok (.ifCond .ne 6, 3) := by decide +kernel
theorem dX1_patch_19 : decode cX1_patch 19 = .ok (.bipush (-4), 2) := by decide +kernel
theorem dX1_patch_21 : decode cX1_patch 21 = .ok (.ireturn, 1) := by decide +kernel
theorem dX1_patch_22 : decode cX1_patch 22 = .ok (.aload_n 0, 1) := by decide +kernel
theorem dX1_patch_23 : decode cX1_patch 23 = .ok (.getfield 7, 3) := by decide +kernel
theorem dX1_patch_26 : decode cX1_patch 26 = .ok (.bipush 8, 2) := by decide +kernel
theorem dX1_patch_28 : decode cX1_patch 28 = .ok (.iload_n 1, 1) := by decide +kernel
theorem dX1_patch_29 : decode cX1_patch 29 = .ok (.imul, 1) := by decide +kernel
theorem dX1_patch_30 : decode cX1_patch 30 = .ok (.iload_n 2, 1) := by decide +kernel
theorem dX1_patch_31 : decode cX1_patch 31 = .ok (.iadd, 1) := by decide +kernel
theorem dX1_patch_32 : decode cX1_patch 32 = .ok (.iaload, 1) := by decide +kernel
theorem dX1_patch_33 : decode cX1_patch 33 = .ok (.bipush (-4), 2) := by decide +kernel
theorem dX1_patch_35 : decode cX1_patch 35 = .ok (.if_icmp .ne 7, 3) := by decide +kernel
theorem dX1_patch_38 : decode cX1_patch 38 = .ok (.iconst 0, 1) := by decide +kernel
theorem dX1_patch_39 : decode cX1_patch 39 = .ok (.goto 4, 3) := by decide +kernel
theorem dX1_patch_42 : decode cX1_patch 42 = .ok (.iconst 1, 1) := by decide +kernel
theorem dX1_patch_43 : decode cX1_patch 43 = .ok (.istore 4, 2) := by decide +kernel
theorem dX1_patch_45 : decode cX1_patch 45 = .ok (.aload_n 0, 1) := by decide +kernel
theorem dX1_patch_46 : decode cX1_patch 46 = .ok (.getfield 7, 3) := by decide +kernel
theorem dX1_patch_49 : decode cX1_patch 49 = .ok (.bipush 8, 2) := by decide +kernel
theorem dX1_patch_51 : decode cX1_patch 51 = .ok (.iload_n 1, 1) := by decide +kernel
theorem dX1_patch_52 : decode cX1_patch 52 = .ok (.imul, 1) := by decide +kernel
theorem dX1_patch_53 : decode cX1_patch 53 = .ok (.iload_n 2, 1) := by decide +kernel
theorem dX1_patch_54 : decode cX1_patch 54 = .ok (.iadd, 1) := by decide +kernel
theorem dX1_patch_55 : decode cX1_patch 55 = .ok (.bipush (-4), 2) := by decide +kernel
theorem dX1_patch_57 : decode cX1_patch 57 = .ok (.iastore, 1) := by decide +kernel
theorem dX1_patch_58 : decode cX1_patch 58 = .ok (.aload_n 0, 1) := by decide +kernel
theorem dX1_patch_59 : decode cX1_patch 59 = .ok (.getfield 13, 3) := by decide +kernel
theorem dX1_patch_62 : decode cX1_patch 62 = .ok (.bipush 8, 2) := by decide +kernel
theorem dX1_patch_64 : decode cX1_patch 64 = .ok (.iload_n 1, 1) := by decide +kernel
theorem dX1_patch_65 : decode cX1_patch 65 = .ok (.imul, 1) := by decide +kernel
theorem dX1_patch_66 : decode cX1_patch 66 = .ok (.iload_n 2, 1) := by decide +kernel
theorem dX1_patch_67 : decode cX1_patch 67 = .ok (.iadd, 1) := by decide +kernel
theorem dX1_patch_68 : decode cX1_patch 68 = .ok (.iload_n 3, 1) := by decide +kernel
theorem dX1_patch_69 : decode cX1_patch 69 = .ok (.iastore, 1) := by decide +kernel
theorem dX1_patch_70 : decode cX1_patch 70 = .ok (.iload 4, 2) := by decide +kernel
theorem dX1_patch_72 : decode cX1_patch 72 = .ok (.ireturn, 1) := by decide +kernel
abbrev cX1_isWord : ByteArray := prog_3_method_7_code
def yX1_isWord : MethodName := ⟨RX1, "isWord", "(II)Z"⟩
theorem dX1_isWord_0 : decode cX1_isWord 0 = .ok (.iload_n 2, 1) := by decide +kernel
theorem dX1_isWord_1 : decode cX1_isWord 1 = .ok (.ifCond .lt 17, 3) := by decide +kernel
theorem dX1_isWord_4 : decode cX1_isWord 4 = .ok (.iload_n 2, 1) := by decide +kernel
theorem dX1_isWord_5 : decode cX1_isWord 5 = .ok (.aload_n 0, 1) := by decide +kernel
theorem dX1_isWord_6 : decode cX1_isWord 6 = .ok (.getfield 16, 3) := by decide +kernel
theorem dX1_isWord_9 : decode cX1_isWord 9 = .ok (.iload_n 1, 1) := by decide +kernel
theorem dX1_isWord_10 : decode cX1_isWord 10 = .ok (.iaload, 1) := by decide +kernel
theorem dX1_isWord_11 : decode cX1_isWord 11 = .ok (.if_icmp .ge 7, 3) := by decide +kernel
theorem dX1_isWord_14 : decode cX1_isWord 14 = .ok (.iconst 1, 1) := by decide +kernel
theorem dX1_isWord_15 : decode cX1_isWord 15 = .ok (.goto 4, 3) := by decide +kernel
theorem dX1_isWord_18 : decode cX1_isWord 18 = .ok (.iconst 0, 1) := by decide +kernel
theorem dX1_isWord_19 : decode cX1_isWord 19 = .ok (.ireturn, 1) := by decide +kernel
abbrev cX1_insert : ByteArray := prog_3_method_9_code
def yX1_insert : MethodName := ⟨RX1, "insert", "(III)I"⟩
theorem dX1_insert_0 : decode cX1_insert 0 = .ok (.aload_n 0, 1) := by decide +kernel
theorem dX1_insert_1 : decode cX1_insert 1 = .ok (.iload_n 1, 1) := by decide +kernel
theorem dX1_insert_2 : decode cX1_insert 2 = .ok (.invokevirtual 22, 3) := by decide +kernel
theorem dX1_insert_5 : decode cX1_insert 5 = .ok (.ifCond .ne 5, 3) := by decide +kernel
theorem dX1_insert_8 : decode cX1_insert 8 = .ok (.iconst (-1), 1) := by decide +kernel
theorem dX1_insert_9 : decode cX1_insert 9 = .ok (.ireturn, 1) := by decide +kernel
theorem dX1_insert_10 : decode cX1_insert 10 = .ok (.iload_n 2, 1) := by decide +kernel
theorem dX1_insert_11 : decode cX1_insert 11 = .ok (.ifCond .lt 13, 3) := by decide +kernel
theorem dX1_insert_14 : decode cX1_insert 14 = .ok (.iload_n 2, 1) := by decide +kernel
theorem dX1_insert_15 : decode cX1_insert 15 = .ok (.aload_n 0, 1) := by decide +kernel
theorem dX1_insert_16 : decode cX1_insert 16 = .ok (.getfield 16, 3) := by decide +kernel
theorem dX1_insert_19 : decode cX1_insert 19 = .ok (.iload_n 1, 1) := by decide +kernel
theorem dX1_insert_20 : decode cX1_insert 20 = .ok (.iaload, 1) := by decide +kernel
theorem dX1_insert_21 : decode cX1_insert 21 = .ok (.if_icmp .le 6, 3) := by decide +kernel
theorem dX1_insert_24 : decode cX1_insert 24 = .ok (.bipush (-4), 2) := by decide +kernel
theorem dX1_insert_26 : decode cX1_insert 26 = .ok (.ireturn, 1) := by decide +kernel
theorem dX1_insert_27 : decode cX1_insert 27 = .ok (.aload_n 0, 1) := by decide +kernel
theorem dX1_insert_28 : decode cX1_insert 28 = .ok (.getfield 16, 3) := by decide +kernel
theorem dX1_insert_31 : decode cX1_insert 31 = .ok (.iload_n 1, 1) := by decide +kernel
theorem dX1_insert_32 : decode cX1_insert 32 = .ok (.iaload, 1) := by decide +kernel
theorem dX1_insert_33 : decode cX1_insert 33 = .ok (.bipush 8, 2) := by decide +kernel
theorem dX1_insert_35 : decode cX1_insert 35 = .ok (.if_icmp .ne 6, 3) := by decide +kernel
theorem dX1_insert_38 : decode cX1_insert 38 = .ok (.bipush (-2), 2) := by decide +kernel
theorem dX1_insert_40 : decode cX1_insert 40 = .ok (.ireturn, 1) := by decide +kernel
theorem dX1_insert_41 : decode cX1_insert 41 = .ok (.bipush 8, 2) := by decide +kernel
theorem dX1_insert_43 : decode cX1_insert 43 = .ok (.iload_n 1, 1) := by decide +kernel
theorem dX1_insert_44 : decode cX1_insert 44 = .ok (.imul, 1) := by decide +kernel
theorem dX1_insert_45 : decode cX1_insert 45 = .ok (.aload_n 0, 1) := by decide +kernel
theorem dX1_insert_46 : decode cX1_insert 46 = .ok (.getfield 16, 3) := by decide +kernel
theorem dX1_insert_49 : decode cX1_insert 49 = .ok (.iload_n 1, 1) := by decide +kernel
theorem dX1_insert_50 : decode cX1_insert 50 = .ok (.iaload, 1) := by decide +kernel
theorem dX1_insert_51 : decode cX1_insert 51 = .ok (.iadd, 1) := by decide +kernel
theorem dX1_insert_52 : decode cX1_insert 52 = .ok (.istore 4, 2) := by decide +kernel
theorem dX1_insert_54 : decode cX1_insert 54 = .ok (.iload 4, 2) := by decide +kernel
theorem dX1_insert_56 : decode cX1_insert 56 = .ok (.bipush 8, 2) := by decide +kernel
theorem dX1_insert_58 : decode cX1_insert 58 = .ok (.iload_n 1, 1) := by decide +kernel
theorem dX1_insert_59 : decode cX1_insert 59 = .ok (.imul, 1) := by decide +kernel
theorem dX1_insert_60 : decode cX1_insert 60 = .ok (.iload_n 2, 1) := by decide +kernel
theorem dX1_insert_61 : decode cX1_insert 61 = .ok (.iadd, 1) := by decide +kernel
theorem dX1_insert_62 : decode cX1_insert 62 = .ok (.if_icmp .le 41, 3) := by decide +kernel
theorem dX1_insert_65 : decode cX1_insert 65 = .ok (.aload_n 0, 1) := by decide +kernel
theorem dX1_insert_66 : decode cX1_insert 66 = .ok (.getfield 7, 3) := by decide +kernel
theorem dX1_insert_69 : decode cX1_insert 69 = .ok (.iload 4, 2) := by decide +kernel
theorem dX1_insert_71 : decode cX1_insert 71 = .ok (.aload_n 0, 1) := by decide +kernel
theorem dX1_insert_72 : decode cX1_insert 72 = .ok (.getfield 7, 3) := by decide +kernel
theorem dX1_insert_75 : decode cX1_insert 75 = .ok (.iload 4, 2) := by decide +kernel
theorem dX1_insert_77 : decode cX1_insert 77 = .ok (.iconst 1, 1) := by decide +kernel
theorem dX1_insert_78 : decode cX1_insert 78 = .ok (.isub, 1) := by decide +kernel
theorem dX1_insert_79 : decode cX1_insert 79 = .ok (.iaload, 1) := by decide +kernel
theorem dX1_insert_80 : decode cX1_insert 80 = .ok (.iastore, 1) := by decide +kernel
theorem dX1_insert_81 : decode cX1_insert 81 = .ok (.aload_n 0, 1) := by decide +kernel
theorem dX1_insert_82 : decode cX1_insert 82 = .ok (.getfield 13, 3) := by decide +kernel
theorem dX1_insert_85 : decode cX1_insert 85 = .ok (.iload 4, 2) := by decide +kernel
theorem dX1_insert_87 : decode cX1_insert 87 = .ok (.aload_n 0, 1) := by decide +kernel
theorem dX1_insert_88 : decode cX1_insert 88 = .ok (.getfield 13, 3) := by decide +kernel
theorem dX1_insert_91 : decode cX1_insert 91 = .ok (.iload 4, 2) := by decide +kernel
theorem dX1_insert_93 : decode cX1_insert 93 = .ok (.iconst 1, 1) := by decide +kernel
theorem dX1_insert_94 : decode cX1_insert 94 = .ok (.isub, 1) := by decide +kernel
theorem dX1_insert_95 : decode cX1_insert 95 = .ok (.iaload, 1) := by decide +kernel
theorem dX1_insert_96 : decode cX1_insert 96 = .ok (.iastore, 1) := by decide +kernel
theorem dX1_insert_97 : decode cX1_insert 97 = .ok (.iinc 4 (-1), 3) := by decide +kernel
theorem dX1_insert_100 : decode cX1_insert 100 = .ok (.goto (-46), 3) := by decide +kernel
theorem dX1_insert_103 : decode cX1_insert 103 = .ok (.aload_n 0, 1) := by decide +kernel
theorem dX1_insert_104 : decode cX1_insert 104 = .ok (.getfield 7, 3) := by decide +kernel
theorem dX1_insert_107 : decode cX1_insert 107 = .ok (.bipush 8, 2) := by decide +kernel
theorem dX1_insert_109 : decode cX1_insert 109 = .ok (.iload_n 1, 1) := by decide +kernel
theorem dX1_insert_110 : decode cX1_insert 110 = .ok (.imul, 1) := by decide +kernel
theorem dX1_insert_111 : decode cX1_insert 111 = .ok (.iload_n 2, 1) := by decide +kernel
theorem dX1_insert_112 : decode cX1_insert 112 = .ok (.iadd, 1) := by decide +kernel
theorem dX1_insert_113 : decode cX1_insert 113 = .ok (.bipush (-4), 2) := by decide +kernel
theorem dX1_insert_115 : decode cX1_insert 115 = .ok (.iastore, 1) := by decide +kernel
theorem dX1_insert_116 : decode cX1_insert 116 = .ok (.aload_n 0, 1) := by decide +kernel
theorem dX1_insert_117 : decode cX1_insert 117 = .ok (.getfield 13, 3) := by decide +kernel
theorem dX1_insert_120 : decode cX1_insert 120 = .ok (.bipush 8, 2) := by decide +kernel
theorem dX1_insert_122 : decode cX1_insert 122 = .ok (.iload_n 1, 1) := by decide +kernel
theorem dX1_insert_123 : decode cX1_insert 123 = .ok (.imul, 1) := by decide +kernel
theorem dX1_insert_124 : decode cX1_insert 124 = .ok (.iload_n 2, 1) := by decide +kernel
theorem dX1_insert_125 : decode cX1_insert 125 = .ok (.iadd, 1) := by decide +kernel
theorem dX1_insert_126 : decode cX1_insert 126 = .ok (.iload_n 3, 1) := by decide +kernel
theorem dX1_insert_127 : decode cX1_insert 127 = .ok (.iastore, 1) := by decide +kernel
theorem dX1_insert_128 : decode cX1_insert 128 = .ok (.bipush 10, 2) := by decide +kernel
theorem dX1_insert_130 : decode cX1_insert 130 = .ok (.iload_n 1, 1) := by decide +kernel
theorem dX1_insert_131 : decode cX1_insert 131 = .ok (.imul, 1) := by decide +kernel
theorem dX1_insert_132 : decode cX1_insert 132 = .ok (.istore 4, 2) := by decide +kernel
theorem dX1_insert_134 : decode cX1_insert 134 = .ok (.iload 4, 2) := by decide +kernel
theorem dX1_insert_136 : decode cX1_insert 136 = .ok (.bipush 10, 2) := by decide +kernel
theorem dX1_insert_138 : decode cX1_insert 138 = .ok (.iload_n 1, 1) := by decide +kernel
theorem dX1_insert_139 : decode cX1_insert 139 = .ok (.imul, 1) := by decide +kernel
theorem dX1_insert_140 : decode cX1_insert 140 = .ok (.bipush 10, 2) := by decide +kernel
theorem dX1_insert_142 : decode cX1_insert 142 = .ok (.iadd, 1) := by decide +kernel
theorem dX1_insert_143 : decode cX1_insert 143 = .ok (.if_icmp .ge 46, 3) := by decide +kernel
theorem dX1_insert_146 : decode cX1_insert 146 = .ok (.aload_n 0, 1) := by decide +kernel
theorem dX1_insert_147 : decode cX1_insert 147 = .ok (.getfield 19, 3) := by decide +kernel
theorem dX1_insert_150 : decode cX1_insert 150 = .ok (.iload 4, 2) := by decide +kernel
theorem dX1_insert_152 : decode cX1_insert 152 = .ok (.aload_n 0, 1) := by decide +kernel
theorem dX1_insert_153 : decode cX1_insert 153 = .ok (.getfield 19, 3) := by decide +kernel
theorem dX1_insert_156 : decode cX1_insert 156 = .ok (.iload 4, 2) := by decide +kernel
theorem dX1_insert_158 : decode cX1_insert 158 = .ok (.iaload, 1) := by decide +kernel
theorem dX1_insert_159 : decode cX1_insert 159 = .ok (.iload_n 2, 1) := by decide +kernel
theorem dX1_insert_160 : decode cX1_insert 160 = .ok (.if_icmp .lt 15, 3) := by decide +kernel
theorem dX1_insert_163 : decode cX1_insert 163 = .ok (.aload_n 0, 1) := by decide +kernel
theorem dX1_insert_164 : decode cX1_insert 164 = .ok (.getfield 19, 3) := by decide +kernel
theorem dX1_insert_167 : decode cX1_insert 167 = .ok (.iload 4, 2) := by decide +kernel
theorem dX1_insert_169 : decode cX1_insert 169 = .ok (.iaload, 1) := by decide +kernel
theorem dX1_insert_170 : decode cX1_insert 170 = .ok (.iconst 1, 1) := by decide +kernel
theorem dX1_insert_171 : decode cX1_insert 171 = .ok (.iadd, 1) := by decide +kernel
theorem dX1_insert_172 : decode cX1_insert 172 = .ok (.goto 10, 3) := by decide +kernel
theorem dX1_insert_175 : decode cX1_insert 175 = .ok (.aload_n 0, 1) := by decide +kernel
theorem dX1_insert_176 : decode cX1_insert 176 = .ok (.getfield 19, 3) := by decide +kernel
theorem dX1_insert_179 : decode cX1_insert 179 = .ok (.iload 4, 2) := by decide +kernel
theorem dX1_insert_181 : decode cX1_insert 181 = .ok (.iaload, 1) := by decide +kernel
theorem dX1_insert_182 : decode cX1_insert 182 = .ok (.iastore, 1) := by decide +kernel
theorem dX1_insert_183 : decode cX1_insert 183 = .ok (.iinc 4 1, 3) := by decide +kernel
theorem dX1_insert_186 : decode cX1_insert 186 = .ok (.goto (-52), 3) := by decide +kernel
theorem dX1_insert_189 : decode cX1_insert 189 = .ok (.aload_n 0, 1) := by decide +kernel
theorem dX1_insert_190 : decode cX1_insert 190 = .ok (.getfield 16, 3) := by decide +kernel
theorem dX1_insert_193 : decode cX1_insert 193 = .ok (.iload_n 1, 1) := by decide +kernel
theorem dX1_insert_194 : decode cX1_insert 194 = .ok (.dup2, 1) := by decide +kernel
theorem dX1_insert_195 : decode cX1_insert 195 = .ok (.iaload, 1) := by decide +kernel
theorem dX1_insert_196 : decode cX1_insert 196 = .ok (.iconst 1, 1) := by decide +kernel
theorem dX1_insert_197 : decode cX1_insert 197 = .ok (.iadd, 1) := by decide +kernel
theorem dX1_insert_198 : decode cX1_insert 198 = .ok (.iastore, 1) := by decide +kernel
theorem dX1_insert_199 : decode cX1_insert 199 = .ok (.aload_n 0, 1) := by decide +kernel
theorem dX1_insert_200 : decode cX1_insert 200 = .ok (.getfield 16, 3) := by decide +kernel
theorem dX1_insert_203 : decode cX1_insert 203 = .ok (.iload_n 1, 1) := by decide +kernel
theorem dX1_insert_204 : decode cX1_insert 204 = .ok (.iaload, 1) := by decide +kernel
theorem dX1_insert_205 : decode cX1_insert 205 = .ok (.ireturn, 1) := by decide +kernel
abbrev cX1_delete : ByteArray := prog_3_method_10_code
def yX1_delete : MethodName := ⟨RX1, "delete", "(II)I"⟩
theorem dX1_delete_0 : decode cX1_delete 0 = .ok (.aload_n 0, 1) := by decide +kernel
theorem dX1_delete_1 : decode cX1_delete 1 = .ok (.iload_n 1, 1) := by decide +kernel
theorem dX1_delete_2 : decode cX1_delete 2 = .ok (.invokevirtual 22, 3) := by decide +kernel
theorem dX1_delete_5 : decode cX1_delete 5 = .ok (.ifCond .ne 5, 3) := by decide +kernel
theorem dX1_delete_8 : decode cX1_delete 8 = .ok (.iconst (-1), 1) := by decide +kernel
theorem dX1_delete_9 : decode cX1_delete 9 = .ok (.ireturn, 1) := by decide +kernel
theorem dX1_delete_10 : decode cX1_delete 10 = .ok (.aload_n 0, 1) := by decide +kernel
theorem dX1_delete_11 : decode cX1_delete 11 = .ok (.iload_n 1, 1) := by decide +kernel
theorem dX1_delete_12 : decode cX1_delete 12 = .ok (.iload_n 2, 1) := by decide +kernel
theorem dX1_delete_13 : decode cX1_delete 13 = .ok (.invokevirtual 33, 3) := by decide +kernel
theorem dX1_delete_16 : decode cX1_delete 16 = .ok (.ifCond .ne 6, 3) := by decide +kernel
theorem dX1_delete_19 : decode cX1_delete 19 = .ok (.bipush (-4), 2) := by decide +kernel
theorem dX1_delete_21 : decode cX1_delete 21 = .ok (.ireturn, 1) := by decide +kernel
theorem dX1_delete_22 : decode cX1_delete 22 = .ok (.aload_n 0, 1) := by decide +kernel
theorem dX1_delete_23 : decode cX1_delete 23 = .ok (.getfield 16, 3) := by decide +kernel
theorem dX1_delete_26 : decode cX1_delete 26 = .ok (.iload_n 1, 1) := by decide +kernel
theorem dX1_delete_27 : decode cX1_delete 27 = .ok (.dup2, 1) := by decide +kernel
theorem dX1_delete_28 : decode cX1_delete 28 = .ok (.iaload, 1) := by decide +kernel
theorem dX1_delete_29 : decode cX1_delete 29 = .ok (.iconst 1, 1) := by decide +kernel
theorem dX1_delete_30 : decode cX1_delete 30 = .ok (.isub, 1) := by decide +kernel
theorem dX1_delete_31 : decode cX1_delete 31 = .ok (.iastore, 1) := by decide +kernel
theorem dX1_delete_32 : decode cX1_delete 32 = .ok (.bipush 8, 2) := by decide +kernel
theorem dX1_delete_34 : decode cX1_delete 34 = .ok (.iload_n 1, 1) := by decide +kernel
theorem dX1_delete_35 : decode cX1_delete 35 = .ok (.imul, 1) := by decide +kernel
theorem dX1_delete_36 : decode cX1_delete 36 = .ok (.iload_n 2, 1) := by decide +kernel
theorem dX1_delete_37 : decode cX1_delete 37 = .ok (.iadd, 1) := by decide +kernel
theorem dX1_delete_38 : decode cX1_delete 38 = .ok (.istore_n 3, 1) := by decide +kernel
theorem dX1_delete_39 : decode cX1_delete 39 = .ok (.iload_n 3, 1) := by decide +kernel
theorem dX1_delete_40 : decode cX1_delete 40 = .ok (.bipush 8, 2) := by decide +kernel
theorem dX1_delete_42 : decode cX1_delete 42 = .ok (.iload_n 1, 1) := by decide +kernel
theorem dX1_delete_43 : decode cX1_delete 43 = .ok (.imul, 1) := by decide +kernel
theorem dX1_delete_44 : decode cX1_delete 44 = .ok (.aload_n 0, 1) := by decide +kernel
theorem dX1_delete_45 : decode cX1_delete 45 = .ok (.getfield 16, 3) := by decide +kernel
theorem dX1_delete_48 : decode cX1_delete 48 = .ok (.iload_n 1, 1) := by decide +kernel
theorem dX1_delete_49 : decode cX1_delete 49 = .ok (.iaload, 1) := by decide +kernel
theorem dX1_delete_50 : decode cX1_delete 50 = .ok (.iadd, 1) := by decide +kernel
theorem dX1_delete_51 : decode cX1_delete 51 = .ok (.if_icmp .ge 37, 3) := by decide +kernel
theorem dX1_delete_54 : decode cX1_delete 54 = .ok (.aload_n 0, 1) := by decide +kernel
theorem dX1_delete_55 : decode cX1_delete 55 = .ok (.getfield 7, 3) := by decide +kernel
theorem dX1_delete_58 : decode cX1_delete 58 = .ok (.iload_n 3, 1) := by decide +kernel
theorem dX1_delete_59 : decode cX1_delete 59 = .ok (.aload_n 0, 1) := by decide +kernel
theorem dX1_delete_60 : decode cX1_delete 60 = .ok (.getfield 7, 3) := by decide +kernel
theorem dX1_delete_63 : decode cX1_delete 63 = .ok (.iload_n 3, 1) := by decide +kernel
theorem dX1_delete_64 : decode cX1_delete 64 = .ok (.iconst 1, 1) := by decide +kernel
theorem dX1_delete_65 : decode cX1_delete 65 = .ok (.iadd, 1) := by decide +kernel
theorem dX1_delete_66 : decode cX1_delete 66 = .ok (.iaload, 1) := by decide +kernel
theorem dX1_delete_67 : decode cX1_delete 67 = .ok (.iastore, 1) := by decide +kernel
theorem dX1_delete_68 : decode cX1_delete 68 = .ok (.aload_n 0, 1) := by decide +kernel
theorem dX1_delete_69 : decode cX1_delete 69 = .ok (.getfield 13, 3) := by decide +kernel
theorem dX1_delete_72 : decode cX1_delete 72 = .ok (.iload_n 3, 1) := by decide +kernel
theorem dX1_delete_73 : decode cX1_delete 73 = .ok (.aload_n 0, 1) := by decide +kernel
theorem dX1_delete_74 : decode cX1_delete 74 = .ok (.getfield 13, 3) := by decide +kernel
theorem dX1_delete_77 : decode cX1_delete 77 = .ok (.iload_n 3, 1) := by decide +kernel
theorem dX1_delete_78 : decode cX1_delete 78 = .ok (.iconst 1, 1) := by decide +kernel
theorem dX1_delete_79 : decode cX1_delete 79 = .ok (.iadd, 1) := by decide +kernel
theorem dX1_delete_80 : decode cX1_delete 80 = .ok (.iaload, 1) := by decide +kernel
theorem dX1_delete_81 : decode cX1_delete 81 = .ok (.iastore, 1) := by decide +kernel
theorem dX1_delete_82 : decode cX1_delete 82 = .ok (.iinc 3 1, 3) := by decide +kernel
theorem dX1_delete_85 : decode cX1_delete 85 = .ok (.goto (-46), 3) := by decide +kernel
theorem dX1_delete_88 : decode cX1_delete 88 = .ok (.bipush 10, 2) := by decide +kernel
theorem dX1_delete_90 : decode cX1_delete 90 = .ok (.iload_n 1, 1) := by decide +kernel
theorem dX1_delete_91 : decode cX1_delete 91 = .ok (.imul, 1) := by decide +kernel
theorem dX1_delete_92 : decode cX1_delete 92 = .ok (.istore_n 3, 1) := by decide +kernel
theorem dX1_delete_93 : decode cX1_delete 93 = .ok (.iload_n 3, 1) := by decide +kernel
theorem dX1_delete_94 : decode cX1_delete 94 = .ok (.bipush 10, 2) := by decide +kernel
end
section
set_option maxRecDepth 100000
theorem dX1_delete_96 : decode cX1_delete 96 = .ok (.iload_n 1, 1) := by decide +kernel
theorem dX1_delete_97 : decode cX1_delete 97 = .ok (.imul, 1) := by decide +kernel
theorem dX1_delete_98 : decode cX1_delete 98 = .ok (.bipush 10, 2) := by decide +kernel
theorem dX1_delete_100 : decode cX1_delete 100 = .ok (.iadd, 1) := by decide +kernel
theorem dX1_delete_101 : decode cX1_delete 101 = .ok (.if_icmp .ge 42, 3) := by decide +kernel
theorem dX1_delete_104 : decode cX1_delete 104 = .ok (.aload_n 0, 1) := by decide +kernel
theorem dX1_delete_105 : decode cX1_delete 105 = .ok (.getfield 19, 3) := by decide +kernel
theorem dX1_delete_108 : decode cX1_delete 108 = .ok (.iload_n 3, 1) := by decide +kernel
theorem dX1_delete_109 : decode cX1_delete 109 = .ok (.aload_n 0, 1) := by decide +kernel
theorem dX1_delete_110 : decode cX1_delete 110 = .ok (.getfield 19, 3) := by decide +kernel
theorem dX1_delete_113 : decode cX1_delete 113 = .ok (.iload_n 3, 1) := by decide +kernel
theorem dX1_delete_114 : decode cX1_delete 114 = .ok (.iaload, 1) := by decide +kernel
theorem dX1_delete_115 : decode cX1_delete 115 = .ok (.iload_n 2, 1) := by decide +kernel
theorem dX1_delete_116 : decode cX1_delete 116 = .ok (.if_icmp .le 14, 3) := by decide +kernel
theorem dX1_delete_119 : decode cX1_delete 119 = .ok (.aload_n 0, 1) := by decide +kernel
theorem dX1_delete_120 : decode cX1_delete 120 = .ok (.getfield 19, 3) := by decide +kernel
theorem dX1_delete_123 : decode cX1_delete 123 = .ok (.iload_n 3, 1) := by decide +kernel
theorem dX1_delete_124 : decode cX1_delete 124 = .ok (.iaload, 1) := by decide +kernel
theorem dX1_delete_125 : decode cX1_delete 125 = .ok (.iconst 1, 1) := by decide +kernel
theorem dX1_delete_126 : decode cX1_delete 126 = .ok (.isub, 1) := by decide +kernel
theorem dX1_delete_127 : decode cX1_delete 127 = .ok (.goto 9, 3) := by decide +kernel
theorem dX1_delete_130 : decode cX1_delete 130 = .ok (.aload_n 0, 1) := by decide +kernel
theorem dX1_delete_131 : decode cX1_delete 131 = .ok (.getfield 19, 3) := by decide +kernel
theorem dX1_delete_134 : decode cX1_delete 134 = .ok (.iload_n 3, 1) := by decide +kernel
theorem dX1_delete_135 : decode cX1_delete 135 = .ok (.iaload, 1) := by decide +kernel
theorem dX1_delete_136 : decode cX1_delete 136 = .ok (.iastore, 1) := by decide +kernel
theorem dX1_delete_137 : decode cX1_delete 137 = .ok (.iinc 3 1, 3) := by decide +kernel
theorem dX1_delete_140 : decode cX1_delete 140 = .ok (.goto (-47), 3) := by decide +kernel
theorem dX1_delete_143 : decode cX1_delete 143 = .ok (.aload_n 0, 1) := by decide +kernel
theorem dX1_delete_144 : decode cX1_delete 144 = .ok (.getfield 16, 3) := by decide +kernel
theorem dX1_delete_147 : decode cX1_delete 147 = .ok (.iload_n 1, 1) := by decide +kernel
theorem dX1_delete_148 : decode cX1_delete 148 = .ok (.iaload, 1) := by decide +kernel
theorem dX1_delete_149 : decode cX1_delete 149 = .ok (.ireturn, 1) := by decide +kernel
abbrev cX1_unload : ByteArray := prog_3_method_11_code
def yX1_unload : MethodName := ⟨RX1, "unload", "(I)I"⟩
theorem dX1_unload_0 : decode cX1_unload 0 = .ok (.aload_n 0, 1) := by decide +kernel
theorem dX1_unload_1 : decode cX1_unload 1 = .ok (.iload_n 1, 1) := by decide +kernel
theorem dX1_unload_2 : decode cX1_unload 2 = .ok (.invokevirtual 22, 3) := by decide +kernel
theorem dX1_unload_5 : decode cX1_unload 5 = .ok (.ifCond .ne 5, 3) := by decide +kernel
theorem dX1_unload_8 : decode cX1_unload 8 = .ok (.iconst (-1), 1) := by decide +kernel
theorem dX1_unload_9 : decode cX1_unload 9 = .ok (.ireturn, 1) := by decide +kernel
theorem dX1_unload_10 : decode cX1_unload 10 = .ok (.aload_n 0, 1) := by decide +kernel
theorem dX1_unload_11 : decode cX1_unload 11 = .ok (.getfield 16, 3) := by decide +kernel
theorem dX1_unload_14 : decode cX1_unload 14 = .ok (.iload_n 1, 1) := by decide +kernel
theorem dX1_unload_15 : decode cX1_unload 15 = .ok (.iaload, 1) := by decide +kernel
theorem dX1_unload_16 : decode cX1_unload 16 = .ok (.istore_n 2, 1) := by decide +kernel
theorem dX1_unload_17 : decode cX1_unload 17 = .ok (.aload_n 0, 1) := by decide +kernel
theorem dX1_unload_18 : decode cX1_unload 18 = .ok (.getfield 16, 3) := by decide +kernel
theorem dX1_unload_21 : decode cX1_unload 21 = .ok (.iload_n 1, 1) := by decide +kernel
theorem dX1_unload_22 : decode cX1_unload 22 = .ok (.iconst 0, 1) := by decide +kernel
theorem dX1_unload_23 : decode cX1_unload 23 = .ok (.iastore, 1) := by decide +kernel
theorem dX1_unload_24 : decode cX1_unload 24 = .ok (.bipush 10, 2) := by decide +kernel
theorem dX1_unload_26 : decode cX1_unload 26 = .ok (.iload_n 1, 1) := by decide +kernel
theorem dX1_unload_27 : decode cX1_unload 27 = .ok (.imul, 1) := by decide +kernel
theorem dX1_unload_28 : decode cX1_unload 28 = .ok (.istore_n 3, 1) := by decide +kernel
theorem dX1_unload_29 : decode cX1_unload 29 = .ok (.iload_n 3, 1) := by decide +kernel
theorem dX1_unload_30 : decode cX1_unload 30 = .ok (.bipush 10, 2) := by decide +kernel
theorem dX1_unload_32 : decode cX1_unload 32 = .ok (.iload_n 1, 1) := by decide +kernel
theorem dX1_unload_33 : decode cX1_unload 33 = .ok (.imul, 1) := by decide +kernel
theorem dX1_unload_34 : decode cX1_unload 34 = .ok (.bipush 10, 2) := by decide +kernel
theorem dX1_unload_36 : decode cX1_unload 36 = .ok (.iadd, 1) := by decide +kernel
theorem dX1_unload_37 : decode cX1_unload 37 = .ok (.if_icmp .ge 17, 3) := by decide +kernel
theorem dX1_unload_40 : decode cX1_unload 40 = .ok (.aload_n 0, 1) := by decide +kernel
theorem dX1_unload_41 : decode cX1_unload 41 = .ok (.getfield 19, 3) := by decide +kernel
theorem dX1_unload_44 : decode cX1_unload 44 = .ok (.iload_n 3, 1) := by decide +kernel
theorem dX1_unload_45 : decode cX1_unload 45 = .ok (.bipush (-4), 2) := by decide +kernel
theorem dX1_unload_47 : decode cX1_unload 47 = .ok (.iastore, 1) := by decide +kernel
theorem dX1_unload_48 : decode cX1_unload 48 = .ok (.iinc 3 1, 3) := by decide +kernel
theorem dX1_unload_51 : decode cX1_unload 51 = .ok (.goto (-22), 3) := by decide +kernel
theorem dX1_unload_54 : decode cX1_unload 54 = .ok (.iload_n 2, 1) := by decide +kernel
theorem dX1_unload_55 : decode cX1_unload 55 = .ok (.ireturn, 1) := by decide +kernel
abbrev cX1_define : ByteArray := prog_3_method_12_code
def yX1_define : MethodName := ⟨RX1, "define", "(III)I"⟩
theorem dX1_define_0 : decode cX1_define 0 = .ok (.aload_n 0, 1) := by decide +kernel
theorem dX1_define_1 : decode cX1_define 1 = .ok (.iload_n 1, 1) := by decide +kernel
theorem dX1_define_2 : decode cX1_define 2 = .ok (.invokevirtual 22, 3) := by decide +kernel
theorem dX1_define_5 : decode cX1_define 5 = .ok (.ifCond .eq 11, 3) := by decide +kernel
theorem dX1_define_8 : decode cX1_define 8 = .ok (.aload_n 0, 1) := by decide +kernel
theorem dX1_define_9 : decode cX1_define 9 = .ok (.iload_n 2, 1) := by decide +kernel
theorem dX1_define_10 : decode cX1_define 10 = .ok (.invokevirtual 30, 3) := by decide +kernel
theorem dX1_define_13 : decode cX1_define 13 = .ok (.ifCond .ne 5, 3) := by decide +kernel
theorem dX1_define_16 : decode cX1_define 16 = .ok (.iconst (-1), 1) := by decide +kernel
theorem dX1_define_17 : decode cX1_define 17 = .ok (.ireturn, 1) := by decide +kernel
theorem dX1_define_18 : decode cX1_define 18 = .ok (.iload_n 3, 1) := by decide +kernel
theorem dX1_define_19 : decode cX1_define 19 = .ok (.ifCond .lt 13, 3) := by decide +kernel
theorem dX1_define_22 : decode cX1_define 22 = .ok (.iload_n 3, 1) := by decide +kernel
theorem dX1_define_23 : decode cX1_define 23 = .ok (.aload_n 0, 1) := by decide +kernel
theorem dX1_define_24 : decode cX1_define 24 = .ok (.getfield 16, 3) := by decide +kernel
theorem dX1_define_27 : decode cX1_define 27 = .ok (.iload_n 1, 1) := by decide +kernel
theorem dX1_define_28 : decode cX1_define 28 = .ok (.iaload, 1) := by decide +kernel
theorem dX1_define_29 : decode cX1_define 29 = .ok (.if_icmp .le 6, 3) := by decide +kernel
theorem dX1_define_32 : decode cX1_define 32 = .ok (.bipush (-4), 2) := by decide +kernel
theorem dX1_define_34 : decode cX1_define 34 = .ok (.ireturn, 1) := by decide +kernel
theorem dX1_define_35 : decode cX1_define 35 = .ok (.aload_n 0, 1) := by decide +kernel
theorem dX1_define_36 : decode cX1_define 36 = .ok (.getfield 19, 3) := by decide +kernel
theorem dX1_define_39 : decode cX1_define 39 = .ok (.bipush 10, 2) := by decide +kernel
theorem dX1_define_41 : decode cX1_define 41 = .ok (.iload_n 1, 1) := by decide +kernel
theorem dX1_define_42 : decode cX1_define 42 = .ok (.imul, 1) := by decide +kernel
theorem dX1_define_43 : decode cX1_define 43 = .ok (.iload_n 2, 1) := by decide +kernel
theorem dX1_define_44 : decode cX1_define 44 = .ok (.iadd, 1) := by decide +kernel
theorem dX1_define_45 : decode cX1_define 45 = .ok (.iaload, 1) := by decide +kernel
theorem dX1_define_46 : decode cX1_define 46 = .ok (.bipush (-4), 2) := by decide +kernel
theorem dX1_define_48 : decode cX1_define 48 = .ok (.if_icmp .ne 7, 3) := by decide +kernel
theorem dX1_define_51 : decode cX1_define 51 = .ok (.iconst 0, 1) := by decide +kernel
theorem dX1_define_52 : decode cX1_define 52 = .ok (.goto 4, 3) := by decide +kernel
theorem dX1_define_55 : decode cX1_define 55 = .ok (.iconst 1, 1) := by decide +kernel
theorem dX1_define_56 : decode cX1_define 56 = .ok (.istore 4, 2) := by decide +kernel
theorem dX1_define_58 : decode cX1_define 58 = .ok (.aload_n 0, 1) := by decide +kernel
theorem dX1_define_59 : decode cX1_define 59 = .ok (.getfield 19, 3) := by decide +kernel
theorem dX1_define_62 : decode cX1_define 62 = .ok (.bipush 10, 2) := by decide +kernel
theorem dX1_define_64 : decode cX1_define 64 = .ok (.iload_n 1, 1) := by decide +kernel
theorem dX1_define_65 : decode cX1_define 65 = .ok (.imul, 1) := by decide +kernel
theorem dX1_define_66 : decode cX1_define 66 = .ok (.iload_n 2, 1) := by decide +kernel
theorem dX1_define_67 : decode cX1_define 67 = .ok (.iadd, 1) := by decide +kernel
theorem dX1_define_68 : decode cX1_define 68 = .ok (.iload_n 3, 1) := by decide +kernel
theorem dX1_define_69 : decode cX1_define 69 = .ok (.iastore, 1) := by decide +kernel
theorem dX1_define_70 : decode cX1_define 70 = .ok (.iload 4, 2) := by decide +kernel
theorem dX1_define_72 : decode cX1_define 72 = .ok (.ireturn, 1) := by decide +kernel
abbrev cX1_undefine : ByteArray := prog_3_method_13_code
def yX1_undefine : MethodName := ⟨RX1, "undefine", "(II)I"⟩
theorem dX1_undefine_0 : decode cX1_undefine 0 = .ok (.aload_n 0, 1) := by decide +kernel
theorem dX1_undefine_1 : decode cX1_undefine 1 = .ok (.iload_n 1, 1) := by decide +kernel
theorem dX1_undefine_2 : decode cX1_undefine 2 = .ok (.invokevirtual 22, 3) := by decide +kernel
theorem dX1_undefine_5 : decode cX1_undefine 5 = .ok (.ifCond .eq 11, 3) := by decide +kernel
theorem dX1_undefine_8 : decode cX1_undefine 8 = .ok (.aload_n 0, 1) := by decide +kernel
theorem dX1_undefine_9 : decode cX1_undefine 9 = .ok (.iload_n 2, 1) := by decide +kernel
theorem dX1_undefine_10 : decode cX1_undefine 10 = .ok (.invokevirtual 30, 3) := by decide +kernel
theorem dX1_undefine_13 : decode cX1_undefine 13 = .ok (.ifCond .ne 5, 3) := by decide +kernel
theorem dX1_undefine_16 : decode cX1_undefine 16 = .ok (.iconst (-1), 1) := by decide +kernel
theorem dX1_undefine_17 : decode cX1_undefine 17 = .ok (.ireturn, 1) := by decide +kernel
theorem dX1_undefine_18 : decode cX1_undefine 18 = .ok (.aload_n 0, 1) := by decide +kernel
theorem dX1_undefine_19 : decode cX1_undefine 19 = .ok (.getfield 19, 3) := by decide +kernel
theorem dX1_undefine_22 : decode cX1_undefine 22 = .ok (.bipush 10, 2) := by decide +kernel
theorem dX1_undefine_24 : decode cX1_undefine 24 = .ok (.iload_n 1, 1) := by decide +kernel
theorem dX1_undefine_25 : decode cX1_undefine 25 = .ok (.imul, 1) := by decide +kernel
theorem dX1_undefine_26 : decode cX1_undefine 26 = .ok (.iload_n 2, 1) := by decide +kernel
theorem dX1_undefine_27 : decode cX1_undefine 27 = .ok (.iadd, 1) := by decide +kernel
theorem dX1_undefine_28 : decode cX1_undefine 28 = .ok (.iaload, 1) := by decide +kernel
theorem dX1_undefine_29 : decode cX1_undefine 29 = .ok (.istore_n 3, 1) := by decide +kernel
theorem dX1_undefine_30 : decode cX1_undefine 30 = .ok (.aload_n 0, 1) := by decide +kernel
theorem dX1_undefine_31 : decode cX1_undefine 31 = .ok (.getfield 19, 3) := by decide +kernel
theorem dX1_undefine_34 : decode cX1_undefine 34 = .ok (.bipush 10, 2) := by decide +kernel
theorem dX1_undefine_36 : decode cX1_undefine 36 = .ok (.iload_n 1, 1) := by decide +kernel
theorem dX1_undefine_37 : decode cX1_undefine 37 = .ok (.imul, 1) := by decide +kernel
theorem dX1_undefine_38 : decode cX1_undefine 38 = .ok (.iload_n 2, 1) := by decide +kernel
theorem dX1_undefine_39 : decode cX1_undefine 39 = .ok (.iadd, 1) := by decide +kernel
theorem dX1_undefine_40 : decode cX1_undefine 40 = .ok (.bipush (-4), 2) := by decide +kernel
theorem dX1_undefine_42 : decode cX1_undefine 42 = .ok (.iastore, 1) := by decide +kernel
theorem dX1_undefine_43 : decode cX1_undefine 43 = .ok (.iload_n 3, 1) := by decide +kernel
theorem dX1_undefine_44 : decode cX1_undefine 44 = .ok (.ireturn, 1) := by decide +kernel
abbrev cX1_size : ByteArray := prog_3_method_14_code
def yX1_size : MethodName := ⟨RX1, "size", "()I"⟩
theorem dX1_size_0 : decode cX1_size 0 = .ok (.aload_n 0, 1) := by decide +kernel
theorem dX1_size_1 : decode cX1_size 1 = .ok (.bipush 6, 2) := by decide +kernel
theorem dX1_size_3 : decode cX1_size 3 = .ok (.invokevirtual 37, 3) := by decide +kernel
theorem dX1_size_6 : decode cX1_size 6 = .ok (.ireturn, 1) := by decide +kernel
abbrev cX1_begin : ByteArray := prog_3_method_15_code
def yX1_begin : MethodName := ⟨RX1, "begin", "(I)I"⟩
theorem dX1_begin_0 : decode cX1_begin 0 = .ok (.iconst 0, 1) := by decide +kernel
theorem dX1_begin_1 : decode cX1_begin 1 = .ok (.istore_n 2, 1) := by decide +kernel
theorem dX1_begin_2 : decode cX1_begin 2 = .ok (.iconst 0, 1) := by decide +kernel
theorem dX1_begin_3 : decode cX1_begin 3 = .ok (.istore_n 3, 1) := by decide +kernel
theorem dX1_begin_4 : decode cX1_begin 4 = .ok (.iload_n 3, 1) := by decide +kernel
theorem dX1_begin_5 : decode cX1_begin 5 = .ok (.iload_n 1, 1) := by decide +kernel
theorem dX1_begin_6 : decode cX1_begin 6 = .ok (.if_icmp .ge 18, 3) := by decide +kernel
theorem dX1_begin_9 : decode cX1_begin 9 = .ok (.iload_n 2, 1) := by decide +kernel
theorem dX1_begin_10 : decode cX1_begin 10 = .ok (.aload_n 0, 1) := by decide +kernel
theorem dX1_begin_11 : decode cX1_begin 11 = .ok (.getfield 16, 3) := by decide +kernel
theorem dX1_begin_14 : decode cX1_begin 14 = .ok (.iload_n 3, 1) := by decide +kernel
theorem dX1_begin_15 : decode cX1_begin 15 = .ok (.iaload, 1) := by decide +kernel
theorem dX1_begin_16 : decode cX1_begin 16 = .ok (.iadd, 1) := by decide +kernel
theorem dX1_begin_17 : decode cX1_begin 17 = .ok (.istore_n 2, 1) := by decide +kernel
theorem dX1_begin_18 : decode cX1_begin 18 = .ok (.iinc 3 1, 3) := by decide +kernel
theorem dX1_begin_21 : decode cX1_begin 21 = .ok (.goto (-17), 3) := by decide +kernel
theorem dX1_begin_24 : decode cX1_begin 24 = .ok (.iload_n 2, 1) := by decide +kernel
theorem dX1_begin_25 : decode cX1_begin 25 = .ok (.ireturn, 1) := by decide +kernel
abbrev cX1_value : ByteArray := prog_3_method_18_code
def yX1_value : MethodName := ⟨RX1, "value", "(I)I"⟩
theorem dX1_value_0 : decode cX1_value 0 = .ok (.aload_n 0, 1) := by decide +kernel
theorem dX1_value_1 : decode cX1_value 1 = .ok (.iload_n 1, 1) := by decide +kernel
theorem dX1_value_2 : decode cX1_value 2 = .ok (.invokevirtual 44, 3) := by decide +kernel
theorem dX1_value_5 : decode cX1_value 5 = .ok (.istore_n 2, 1) := by decide +kernel
theorem dX1_value_6 : decode cX1_value 6 = .ok (.iload_n 2, 1) := by decide +kernel
theorem dX1_value_7 : decode cX1_value 7 = .ok (.ifCond .ge 7, 3) := by decide +kernel
theorem dX1_value_10 : decode cX1_value 10 = .ok (.iconst 0, 1) := by decide +kernel
theorem dX1_value_11 : decode cX1_value 11 = .ok (.goto 19, 3) := by decide +kernel
theorem dX1_value_14 : decode cX1_value 14 = .ok (.aload_n 0, 1) := by decide +kernel
theorem dX1_value_15 : decode cX1_value 15 = .ok (.bipush 8, 2) := by decide +kernel
theorem dX1_value_17 : decode cX1_value 17 = .ok (.iload_n 2, 1) := by decide +kernel
theorem dX1_value_18 : decode cX1_value 18 = .ok (.imul, 1) := by decide +kernel
theorem dX1_value_19 : decode cX1_value 19 = .ok (.iload_n 1, 1) := by decide +kernel
theorem dX1_value_20 : decode cX1_value 20 = .ok (.iadd, 1) := by decide +kernel
theorem dX1_value_21 : decode cX1_value 21 = .ok (.aload_n 0, 1) := by decide +kernel
theorem dX1_value_22 : decode cX1_value 22 = .ok (.iload_n 2, 1) := by decide +kernel
theorem dX1_value_23 : decode cX1_value 23 = .ok (.invokevirtual 37, 3) := by decide +kernel
theorem dX1_value_26 : decode cX1_value 26 = .ok (.isub, 1) := by decide +kernel
theorem dX1_value_27 : decode cX1_value 27 = .ok (.invokevirtual 47, 3) := by decide +kernel
theorem dX1_value_30 : decode cX1_value 30 = .ok (.ireturn, 1) := by decide +kernel
abbrev cX1_moduleOf : ByteArray := prog_3_method_25_code
def yX1_moduleOf : MethodName := ⟨RX1, "moduleOf", "(I)I"⟩
theorem dX1_moduleOf_0 : decode cX1_moduleOf 0 = .ok (.iconst 0, 1) := by decide +kernel
theorem dX1_moduleOf_1 : decode cX1_moduleOf 1 = .ok (.istore_n 2, 1) := by decide +kernel
theorem dX1_moduleOf_2 : decode cX1_moduleOf 2 = .ok (.iload_n 2, 1) := by decide +kernel
theorem dX1_moduleOf_3 : decode cX1_moduleOf 3 = .ok (.bipush 6, 2) := by decide +kernel
theorem dX1_moduleOf_5 : decode cX1_moduleOf 5 = .ok (.if_icmp .ge 34, 3) := by decide +kernel
theorem dX1_moduleOf_8 : decode cX1_moduleOf 8 = .ok (.aload_n 0, 1) := by decide +kernel
theorem dX1_moduleOf_9 : decode cX1_moduleOf 9 = .ok (.iload_n 2, 1) := by decide +kernel
theorem dX1_moduleOf_10 : decode cX1_moduleOf 10 = .ok (.invokevirtual 37, 3) := by decide +kernel
theorem dX1_moduleOf_13 : decode cX1_moduleOf 13 = .ok (.istore_n 3, 1) := by decide +kernel
theorem dX1_moduleOf_14 : decode cX1_moduleOf 14 = .ok (.iload_n 1, 1) := by decide +kernel
theorem dX1_moduleOf_15 : decode cX1_moduleOf 15 = .ok (.iload_n 3, 1) := by decide +kernel
theorem dX1_moduleOf_16 : decode cX1_moduleOf 16 = .ok (.if_icmp .lt 17, 3) := by decide +kernel
theorem dX1_moduleOf_19 : decode cX1_moduleOf 19 = .ok (.iload_n 1, 1) := by decide +kernel
theorem dX1_moduleOf_20 : decode cX1_moduleOf 20 = .ok (.iload_n 3, 1) := by decide +kernel
theorem dX1_moduleOf_21 : decode cX1_moduleOf 21 = .ok (.aload_n 0, 1) := by decide +kernel
theorem dX1_moduleOf_22 : decode cX1_moduleOf 22 = .ok (.getfield 16, 3) := by decide +kernel
theorem dX1_moduleOf_25 : decode cX1_moduleOf 25 = .ok (.iload_n 2, 1) := by decide +kernel
theorem dX1_moduleOf_26 : decode cX1_moduleOf 26 = .ok (.iaload, 1) := by decide +kernel
theorem dX1_moduleOf_27 : decode cX1_moduleOf 27 = .ok (.iadd, 1) := by decide +kernel
theorem dX1_moduleOf_28 : decode cX1_moduleOf 28 = .ok (.if_icmp .ge 5, 3) := by decide +kernel
theorem dX1_moduleOf_31 : decode cX1_moduleOf 31 = .ok (.iload_n 2, 1) := by decide +kernel
theorem dX1_moduleOf_32 : decode cX1_moduleOf 32 = .ok (.ireturn, 1) := by decide +kernel
theorem dX1_moduleOf_33 : decode cX1_moduleOf 33 = .ok (.iinc 2 1, 3) := by decide +kernel
theorem dX1_moduleOf_36 : decode cX1_moduleOf 36 = .ok (.goto (-34), 3) := by decide +kernel
theorem dX1_moduleOf_39 : decode cX1_moduleOf 39 = .ok (.bipush (-4), 2) := by decide +kernel
theorem dX1_moduleOf_41 : decode cX1_moduleOf 41 = .ok (.ireturn, 1) := by decide +kernel
abbrev cX1_valueOf : ByteArray := prog_3_method_17_code
def yX1_valueOf : MethodName := ⟨RX1, "valueOf", "(I)I"⟩
theorem dX1_valueOf_0 : decode cX1_valueOf 0 = .ok (.aload_n 0, 1) := by decide +kernel
theorem dX1_valueOf_1 : decode cX1_valueOf 1 = .ok (.getfield 7, 3) := by decide +kernel
theorem dX1_valueOf_4 : decode cX1_valueOf 4 = .ok (.iload_n 1, 1) := by decide +kernel
theorem dX1_valueOf_5 : decode cX1_valueOf 5 = .ok (.iaload, 1) := by decide +kernel
theorem dX1_valueOf_6 : decode cX1_valueOf 6 = .ok (.bipush (-4), 2) := by decide +kernel
theorem dX1_valueOf_8 : decode cX1_valueOf 8 = .ok (.if_icmp .ne 10, 3) := by decide +kernel
theorem dX1_valueOf_11 : decode cX1_valueOf 11 = .ok (.aload_n 0, 1) := by decide +kernel
theorem dX1_valueOf_12 : decode cX1_valueOf 12 = .ok (.getfield 13, 3) := by decide +kernel
theorem dX1_valueOf_15 : decode cX1_valueOf 15 = .ok (.iload_n 1, 1) := by decide +kernel
theorem dX1_valueOf_16 : decode cX1_valueOf 16 = .ok (.iaload, 1) := by decide +kernel
theorem dX1_valueOf_17 : decode cX1_valueOf 17 = .ok (.ireturn, 1) := by decide +kernel
theorem dX1_valueOf_18 : decode cX1_valueOf 18 = .ok (.aload_n 0, 1) := by decide +kernel
theorem dX1_valueOf_19 : decode cX1_valueOf 19 = .ok (.aload_n 0, 1) := by decide +kernel
theorem dX1_valueOf_20 : decode cX1_valueOf 20 = .ok (.getfield 7, 3) := by decide +kernel
theorem dX1_valueOf_23 : decode cX1_valueOf 23 = .ok (.iload_n 1, 1) := by decide +kernel
theorem dX1_valueOf_24 : decode cX1_valueOf 24 = .ok (.iaload, 1) := by decide +kernel
theorem dX1_valueOf_25 : decode cX1_valueOf 25 = .ok (.invokevirtual 41, 3) := by decide +kernel
theorem dX1_valueOf_28 : decode cX1_valueOf 28 = .ok (.istore_n 2, 1) := by decide +kernel
theorem dX1_valueOf_29 : decode cX1_valueOf 29 = .ok (.iload_n 2, 1) := by decide +kernel
theorem dX1_valueOf_30 : decode cX1_valueOf 30 = .ok (.ifCond .ge 7, 3) := by decide +kernel
theorem dX1_valueOf_33 : decode cX1_valueOf 33 = .ok (.iconst (-1), 1) := by decide +kernel
theorem dX1_valueOf_34 : decode cX1_valueOf 34 = .ok (.goto 11, 3) := by decide +kernel
theorem dX1_valueOf_37 : decode cX1_valueOf 37 = .ok (.iload_n 2, 1) := by decide +kernel
theorem dX1_valueOf_38 : decode cX1_valueOf 38 = .ok (.aload_n 0, 1) := by decide +kernel
theorem dX1_valueOf_39 : decode cX1_valueOf 39 = .ok (.getfield 13, 3) := by decide +kernel
theorem dX1_valueOf_42 : decode cX1_valueOf 42 = .ok (.iload_n 1, 1) := by decide +kernel
theorem dX1_valueOf_43 : decode cX1_valueOf 43 = .ok (.iaload, 1) := by decide +kernel
theorem dX1_valueOf_44 : decode cX1_valueOf 44 = .ok (.iadd, 1) := by decide +kernel
theorem dX1_valueOf_45 : decode cX1_valueOf 45 = .ok (.ireturn, 1) := by decide +kernel
abbrev cX1_where : ByteArray := prog_3_method_20_code
def yX1_where : MethodName := ⟨RX1, "where", "(I)I"⟩
theorem dX1_where_0 : decode cX1_where 0 = .ok (.aload_n 0, 1) := by decide +kernel
theorem dX1_where_1 : decode cX1_where 1 = .ok (.iload_n 1, 1) := by decide +kernel
theorem dX1_where_2 : decode cX1_where 2 = .ok (.invokevirtual 30, 3) := by decide +kernel
theorem dX1_where_5 : decode cX1_where 5 = .ok (.ifCond .ne 6, 3) := by decide +kernel
theorem dX1_where_8 : decode cX1_where 8 = .ok (.bipush (-4), 2) := by decide +kernel
theorem dX1_where_10 : decode cX1_where 10 = .ok (.ireturn, 1) := by decide +kernel
theorem dX1_where_11 : decode cX1_where 11 = .ok (.aload_n 0, 1) := by decide +kernel
theorem dX1_where_12 : decode cX1_where 12 = .ok (.iload_n 1, 1) := by decide +kernel
theorem dX1_where_13 : decode cX1_where 13 = .ok (.invokevirtual 50, 3) := by decide +kernel
theorem dX1_where_16 : decode cX1_where 16 = .ok (.istore_n 2, 1) := by decide +kernel
theorem dX1_where_17 : decode cX1_where 17 = .ok (.iload_n 2, 1) := by decide +kernel
theorem dX1_where_18 : decode cX1_where 18 = .ok (.ifCond .ge 8, 3) := by decide +kernel
theorem dX1_where_21 : decode cX1_where 21 = .ok (.bipush (-4), 2) := by decide +kernel
theorem dX1_where_23 : decode cX1_where 23 = .ok (.goto 20, 3) := by decide +kernel
theorem dX1_where_26 : decode cX1_where 26 = .ok (.aload_n 0, 1) := by decide +kernel
theorem dX1_where_27 : decode cX1_where 27 = .ok (.iload_n 2, 1) := by decide +kernel
theorem dX1_where_28 : decode cX1_where 28 = .ok (.invokevirtual 37, 3) := by decide +kernel
theorem dX1_where_31 : decode cX1_where 31 = .ok (.aload_n 0, 1) := by decide +kernel
theorem dX1_where_32 : decode cX1_where 32 = .ok (.getfield 19, 3) := by decide +kernel
theorem dX1_where_35 : decode cX1_where 35 = .ok (.bipush 10, 2) := by decide +kernel
theorem dX1_where_37 : decode cX1_where 37 = .ok (.iload_n 2, 1) := by decide +kernel
theorem dX1_where_38 : decode cX1_where 38 = .ok (.imul, 1) := by decide +kernel
theorem dX1_where_39 : decode cX1_where 39 = .ok (.iload_n 1, 1) := by decide +kernel
theorem dX1_where_40 : decode cX1_where 40 = .ok (.iadd, 1) := by decide +kernel
theorem dX1_where_41 : decode cX1_where 41 = .ok (.iaload, 1) := by decide +kernel
theorem dX1_where_42 : decode cX1_where 42 = .ok (.iadd, 1) := by decide +kernel
theorem dX1_where_43 : decode cX1_where 43 = .ok (.ireturn, 1) := by decide +kernel
abbrev cX1_moduleFor : ByteArray := prog_3_method_16_code
def yX1_moduleFor : MethodName := ⟨RX1, "moduleFor", "(I)I"⟩
theorem dX1_moduleFor_0 : decode cX1_moduleFor 0 = .ok (.iconst 0, 1) := by decide +kernel
theorem dX1_moduleFor_1 : decode cX1_moduleFor 1 = .ok (.istore_n 2, 1) := by decide +kernel
theorem dX1_moduleFor_2 : decode cX1_moduleFor 2 = .ok (.iload_n 2, 1) := by decide +kernel
theorem dX1_moduleFor_3 : decode cX1_moduleFor 3 = .ok (.bipush 6, 2) := by decide +kernel
theorem dX1_moduleFor_5 : decode cX1_moduleFor 5 = .ok (.if_icmp .ge 27, 3) := by decide +kernel
theorem dX1_moduleFor_8 : decode cX1_moduleFor 8 = .ok (.aload_n 0, 1) := by decide +kernel
theorem dX1_moduleFor_9 : decode cX1_moduleFor 9 = .ok (.getfield 19, 3) := by decide +kernel
theorem dX1_moduleFor_12 : decode cX1_moduleFor 12 = .ok (.bipush 10, 2) := by decide +kernel
theorem dX1_moduleFor_14 : decode cX1_moduleFor 14 = .ok (.iload_n 2, 1) := by decide +kernel
theorem dX1_moduleFor_15 : decode cX1_moduleFor 15 = .ok (.imul, 1) := by decide +kernel
theorem dX1_moduleFor_16 : decode cX1_moduleFor 16 = .ok (.iload_n 1, 1) := by decide +kernel
theorem dX1_moduleFor_17 : decode cX1_moduleFor 17 = .ok (.iadd, 1) := by decide +kernel
theorem dX1_moduleFor_18 : decode cX1_moduleFor 18 = .ok (.iaload, 1) := by decide +kernel
theorem dX1_moduleFor_19 : decode cX1_moduleFor 19 = .ok (.bipush (-4), 2) := by decide +kernel
theorem dX1_moduleFor_21 : decode cX1_moduleFor 21 = .ok (.if_icmp .eq 5, 3) := by decide +kernel
theorem dX1_moduleFor_24 : decode cX1_moduleFor 24 = .ok (.iload_n 2, 1) := by decide +kernel
theorem dX1_moduleFor_25 : decode cX1_moduleFor 25 = .ok (.ireturn, 1) := by decide +kernel
theorem dX1_moduleFor_26 : decode cX1_moduleFor 26 = .ok (.iinc 2 1, 3) := by decide +kernel
theorem dX1_moduleFor_29 : decode cX1_moduleFor 29 = .ok (.goto (-27), 3) := by decide +kernel
theorem dX1_moduleFor_32 : decode cX1_moduleFor 32 = .ok (.bipush (-4), 2) := by decide +kernel
theorem dX1_moduleFor_34 : decode cX1_moduleFor 34 = .ok (.ireturn, 1) := by decide +kernel
abbrev cX1_address : ByteArray := prog_3_method_19_code
def yX1_address : MethodName := ⟨RX1, "address", "(I)I"⟩
theorem dX1_address_0 : decode cX1_address 0 = .ok (.aload_n 0, 1) := by decide +kernel
theorem dX1_address_1 : decode cX1_address 1 = .ok (.iload_n 1, 1) := by decide +kernel
theorem dX1_address_2 : decode cX1_address 2 = .ok (.invokevirtual 22, 3) := by decide +kernel
theorem dX1_address_5 : decode cX1_address 5 = .ok (.ifCond .eq 11, 3) := by decide +kernel
theorem dX1_address_8 : decode cX1_address 8 = .ok (.aload_n 0, 1) := by decide +kernel
theorem dX1_address_9 : decode cX1_address 9 = .ok (.iload_n 1, 1) := by decide +kernel
theorem dX1_address_10 : decode cX1_address 10 = .ok (.invokevirtual 37, 3) := by decide +kernel
theorem dX1_address_13 : decode cX1_address 13 = .ok (.goto 4, 3) := by decide +kernel
theorem dX1_address_16 : decode cX1_address 16 = .ok (.iconst (-1), 1) := by decide +kernel
theorem dX1_address_17 : decode cX1_address 17 = .ok (.ireturn, 1) := by decide +kernel
abbrev cX1_undefined : ByteArray := prog_3_method_21_code
def yX1_undefined : MethodName := ⟨RX1, "undefined", "()I"⟩
theorem dX1_undefined_0 : decode cX1_undefined 0 = .ok (.iconst 0, 1) := by decide +kernel
theorem dX1_undefined_1 : decode cX1_undefined 1 = .ok (.istore_n 1, 1) := by decide +kernel
theorem dX1_undefined_2 : decode cX1_undefined 2 = .ok (.iconst 0, 1) := by decide +kernel
theorem dX1_undefined_3 : decode cX1_undefined 3 = .ok (.istore_n 2, 1) := by decide +kernel
theorem dX1_undefined_4 : decode cX1_undefined 4 = .ok (.iload_n 2, 1) := by decide +kernel
theorem dX1_undefined_5 : decode cX1_undefined 5 = .ok (.bipush 48, 2) := by decide +kernel
theorem dX1_undefined_7 : decode cX1_undefined 7 = .ok (.if_icmp .ge 52, 3) := by decide +kernel
theorem dX1_undefined_10 : decode cX1_undefined 10 = .ok (.iload_n 2, 1) := by decide +kernel
theorem dX1_undefined_11 : decode cX1_undefined 11 = .ok (.bipush 8, 2) := by decide +kernel
theorem dX1_undefined_13 : decode cX1_undefined 13 = .ok (.irem, 1) := by decide +kernel
theorem dX1_undefined_14 : decode cX1_undefined 14 = .ok (.aload_n 0, 1) := by decide +kernel
theorem dX1_undefined_15 : decode cX1_undefined 15 = .ok (.getfield 16, 3) := by decide +kernel
theorem dX1_undefined_18 : decode cX1_undefined 18 = .ok (.iload_n 2, 1) := by decide +kernel
theorem dX1_undefined_19 : decode cX1_undefined 19 = .ok (.bipush 8, 2) := by decide +kernel
theorem dX1_undefined_21 : decode cX1_undefined 21 = .ok (.idiv, 1) := by decide +kernel
theorem dX1_undefined_22 : decode cX1_undefined 22 = .ok (.iaload, 1) := by decide +kernel
theorem dX1_undefined_23 : decode cX1_undefined 23 = .ok (.if_icmp .ge 30, 3) := by decide +kernel
theorem dX1_undefined_26 : decode cX1_undefined 26 = .ok (.aload_n 0, 1) := by decide +kernel
theorem dX1_undefined_27 : decode cX1_undefined 27 = .ok (.getfield 7, 3) := by decide +kernel
theorem dX1_undefined_30 : decode cX1_undefined 30 = .ok (.iload_n 2, 1) := by decide +kernel
theorem dX1_undefined_31 : decode cX1_undefined 31 = .ok (.iaload, 1) := by decide +kernel
theorem dX1_undefined_32 : decode cX1_undefined 32 = .ok (.bipush (-4), 2) := by decide +kernel
theorem dX1_undefined_34 : decode cX1_undefined 34 = .ok (.if_icmp .eq 19, 3) := by decide +kernel
theorem dX1_undefined_37 : decode cX1_undefined 37 = .ok (.aload_n 0, 1) := by decide +kernel
theorem dX1_undefined_38 : decode cX1_undefined 38 = .ok (.aload_n 0, 1) := by decide +kernel
theorem dX1_undefined_39 : decode cX1_undefined 39 = .ok (.getfield 7, 3) := by decide +kernel
theorem dX1_undefined_42 : decode cX1_undefined 42 = .ok (.iload_n 2, 1) := by decide +kernel
theorem dX1_undefined_43 : decode cX1_undefined 43 = .ok (.iaload, 1) := by decide +kernel
theorem dX1_undefined_44 : decode cX1_undefined 44 = .ok (.invokevirtual 50, 3) := by decide +kernel
theorem dX1_undefined_47 : decode cX1_undefined 47 = .ok (.ifCond .ge 6, 3) := by decide +kernel
theorem dX1_undefined_50 : decode cX1_undefined 50 = .ok (.iinc 1 1, 3) := by decide +kernel
theorem dX1_undefined_53 : decode cX1_undefined 53 = .ok (.iinc 2 1, 3) := by decide +kernel
theorem dX1_undefined_56 : decode cX1_undefined 56 = .ok (.goto (-52), 3) := by decide +kernel
theorem dX1_undefined_59 : decode cX1_undefined 59 = .ok (.iload_n 1, 1) := by decide +kernel
theorem dX1_undefined_60 : decode cX1_undefined 60 = .ok (.ireturn, 1) := by decide +kernel
abbrev cX1_idle : ByteArray := prog_3_method_22_code
def yX1_idle : MethodName := ⟨RX1, "idle", "()I"⟩
theorem dX1_idle_0 : decode cX1_idle 0 = .ok (.iconst 0, 1) := by decide +kernel
theorem dX1_idle_1 : decode cX1_idle 1 = .ok (.istore_n 1, 1) := by decide +kernel
theorem dX1_idle_2 : decode cX1_idle 2 = .ok (.iconst 0, 1) := by decide +kernel
theorem dX1_idle_3 : decode cX1_idle 3 = .ok (.istore_n 2, 1) := by decide +kernel
theorem dX1_idle_4 : decode cX1_idle 4 = .ok (.iload_n 2, 1) := by decide +kernel
theorem dX1_idle_5 : decode cX1_idle 5 = .ok (.bipush 60, 2) := by decide +kernel
theorem dX1_idle_7 : decode cX1_idle 7 = .ok (.if_icmp .ge 38, 3) := by decide +kernel
theorem dX1_idle_10 : decode cX1_idle 10 = .ok (.aload_n 0, 1) := by decide +kernel
theorem dX1_idle_11 : decode cX1_idle 11 = .ok (.getfield 19, 3) := by decide +kernel
theorem dX1_idle_14 : decode cX1_idle 14 = .ok (.iload_n 2, 1) := by decide +kernel
theorem dX1_idle_15 : decode cX1_idle 15 = .ok (.iaload, 1) := by decide +kernel
theorem dX1_idle_16 : decode cX1_idle 16 = .ok (.bipush (-4), 2) := by decide +kernel
theorem dX1_idle_18 : decode cX1_idle 18 = .ok (.if_icmp .eq 21, 3) := by decide +kernel
theorem dX1_idle_21 : decode cX1_idle 21 = .ok (.aload_n 0, 1) := by decide +kernel
theorem dX1_idle_22 : decode cX1_idle 22 = .ok (.iload_n 2, 1) := by decide +kernel
theorem dX1_idle_23 : decode cX1_idle 23 = .ok (.bipush 10, 2) := by decide +kernel
theorem dX1_idle_25 : decode cX1_idle 25 = .ok (.irem, 1) := by decide +kernel
theorem dX1_idle_26 : decode cX1_idle 26 = .ok (.invokevirtual 50, 3) := by decide +kernel
theorem dX1_idle_29 : decode cX1_idle 29 = .ok (.iload_n 2, 1) := by decide +kernel
theorem dX1_idle_30 : decode cX1_idle 30 = .ok (.bipush 10, 2) := by decide +kernel
theorem dX1_idle_32 : decode cX1_idle 32 = .ok (.idiv, 1) := by decide +kernel
theorem dX1_idle_33 : decode cX1_idle 33 = .ok (.if_icmp .eq 6, 3) := by decide +kernel
theorem dX1_idle_36 : decode cX1_idle 36 = .ok (.iinc 1 1, 3) := by decide +kernel
theorem dX1_idle_39 : decode cX1_idle 39 = .ok (.iinc 2 1, 3) := by decide +kernel
theorem dX1_idle_42 : decode cX1_idle 42 = .ok (.goto (-38), 3) := by decide +kernel
theorem dX1_idle_45 : decode cX1_idle 45 = .ok (.iload_n 1, 1) := by decide +kernel
theorem dX1_idle_46 : decode cX1_idle 46 = .ok (.ireturn, 1) := by decide +kernel
abbrev cX1_uses : ByteArray := prog_3_method_23_code
def yX1_uses : MethodName := ⟨RX1, "uses", "(I)I"⟩
theorem dX1_uses_0 : decode cX1_uses 0 = .ok (.aload_n 0, 1) := by decide +kernel
theorem dX1_uses_1 : decode cX1_uses 1 = .ok (.iload_n 1, 1) := by decide +kernel
theorem dX1_uses_2 : decode cX1_uses 2 = .ok (.invokevirtual 30, 3) := by decide +kernel
theorem dX1_uses_5 : decode cX1_uses 5 = .ok (.ifCond .ne 5, 3) := by decide +kernel
theorem dX1_uses_8 : decode cX1_uses 8 = .ok (.iconst (-1), 1) := by decide +kernel
theorem dX1_uses_9 : decode cX1_uses 9 = .ok (.ireturn, 1) := by decide +kernel
theorem dX1_uses_10 : decode cX1_uses 10 = .ok (.iconst 0, 1) := by decide +kernel
theorem dX1_uses_11 : decode cX1_uses 11 = .ok (.istore_n 2, 1) := by decide +kernel
theorem dX1_uses_12 : decode cX1_uses 12 = .ok (.iconst 0, 1) := by decide +kernel
theorem dX1_uses_13 : decode cX1_uses 13 = .ok (.istore_n 3, 1) := by decide +kernel
theorem dX1_uses_14 : decode cX1_uses 14 = .ok (.iload_n 3, 1) := by decide +kernel
theorem dX1_uses_15 : decode cX1_uses 15 = .ok (.bipush 48, 2) := by decide +kernel
theorem dX1_uses_17 : decode cX1_uses 17 = .ok (.if_icmp .ge 43, 3) := by decide +kernel
theorem dX1_uses_20 : decode cX1_uses 20 = .ok (.iload_n 3, 1) := by decide +kernel
theorem dX1_uses_21 : decode cX1_uses 21 = .ok (.bipush 8, 2) := by decide +kernel
theorem dX1_uses_23 : decode cX1_uses 23 = .ok (.irem, 1) := by decide +kernel
theorem dX1_uses_24 : decode cX1_uses 24 = .ok (.aload_n 0, 1) := by decide +kernel
theorem dX1_uses_25 : decode cX1_uses 25 = .ok (.getfield 16, 3) := by decide +kernel
theorem dX1_uses_28 : decode cX1_uses 28 = .ok (.iload_n 3, 1) := by decide +kernel
theorem dX1_uses_29 : decode cX1_uses 29 = .ok (.bipush 8, 2) := by decide +kernel
theorem dX1_uses_31 : decode cX1_uses 31 = .ok (.idiv, 1) := by decide +kernel
theorem dX1_uses_32 : decode cX1_uses 32 = .ok (.iaload, 1) := by decide +kernel
theorem dX1_uses_33 : decode cX1_uses 33 = .ok (.if_icmp .ge 19, 3) := by decide +kernel
theorem dX1_uses_36 : decode cX1_uses 36 = .ok (.aload_n 0, 1) := by decide +kernel
theorem dX1_uses_37 : decode cX1_uses 37 = .ok (.getfield 7, 3) := by decide +kernel
theorem dX1_uses_40 : decode cX1_uses 40 = .ok (.iload_n 3, 1) := by decide +kernel
theorem dX1_uses_41 : decode cX1_uses 41 = .ok (.iaload, 1) := by decide +kernel
theorem dX1_uses_42 : decode cX1_uses 42 = .ok (.iload_n 1, 1) := by decide +kernel
theorem dX1_uses_43 : decode cX1_uses 43 = .ok (.if_icmp .ne 9, 3) := by decide +kernel
theorem dX1_uses_46 : decode cX1_uses 46 = .ok (.iload_n 2, 1) := by decide +kernel
theorem dX1_uses_47 : decode cX1_uses 47 = .ok (.iconst 1, 1) := by decide +kernel
end
section
set_option maxRecDepth 100000
theorem dX1_uses_48 : decode cX1_uses 48 = .ok (.iadd, 1) := by decide +kernel
theorem dX1_uses_49 : decode cX1_uses 49 = .ok (.goto 4, 3) := by decide +kernel
theorem dX1_uses_52 : decode cX1_uses 52 = .ok (.iload_n 2, 1) := by decide +kernel
theorem dX1_uses_53 : decode cX1_uses 53 = .ok (.istore_n 2, 1) := by decide +kernel
theorem dX1_uses_54 : decode cX1_uses 54 = .ok (.iinc 3 1, 3) := by decide +kernel
theorem dX1_uses_57 : decode cX1_uses 57 = .ok (.goto (-43), 3) := by decide +kernel
theorem dX1_uses_60 : decode cX1_uses 60 = .ok (.iload_n 2, 1) := by decide +kernel
theorem dX1_uses_61 : decode cX1_uses 61 = .ok (.ireturn, 1) := by decide +kernel
abbrev cX1_users : ByteArray := prog_3_method_24_code
def yX1_users : MethodName := ⟨RX1, "users", "(I)I"⟩
theorem dX1_users_0 : decode cX1_users 0 = .ok (.aload_n 0, 1) := by decide +kernel
theorem dX1_users_1 : decode cX1_users 1 = .ok (.iload_n 1, 1) := by decide +kernel
theorem dX1_users_2 : decode cX1_users 2 = .ok (.invokevirtual 22, 3) := by decide +kernel
theorem dX1_users_5 : decode cX1_users 5 = .ok (.ifCond .ne 5, 3) := by decide +kernel
theorem dX1_users_8 : decode cX1_users 8 = .ok (.iconst (-1), 1) := by decide +kernel
theorem dX1_users_9 : decode cX1_users 9 = .ok (.ireturn, 1) := by decide +kernel
theorem dX1_users_10 : decode cX1_users 10 = .ok (.iconst 0, 1) := by decide +kernel
theorem dX1_users_11 : decode cX1_users 11 = .ok (.istore_n 2, 1) := by decide +kernel
theorem dX1_users_12 : decode cX1_users 12 = .ok (.iconst 0, 1) := by decide +kernel
theorem dX1_users_13 : decode cX1_users 13 = .ok (.istore_n 3, 1) := by decide +kernel
theorem dX1_users_14 : decode cX1_users 14 = .ok (.iload_n 3, 1) := by decide +kernel
theorem dX1_users_15 : decode cX1_users 15 = .ok (.bipush 48, 2) := by decide +kernel
theorem dX1_users_17 : decode cX1_users 17 = .ok (.if_icmp .ge 59, 3) := by decide +kernel
theorem dX1_users_20 : decode cX1_users 20 = .ok (.iload_n 3, 1) := by decide +kernel
theorem dX1_users_21 : decode cX1_users 21 = .ok (.bipush 8, 2) := by decide +kernel
theorem dX1_users_23 : decode cX1_users 23 = .ok (.irem, 1) := by decide +kernel
theorem dX1_users_24 : decode cX1_users 24 = .ok (.aload_n 0, 1) := by decide +kernel
theorem dX1_users_25 : decode cX1_users 25 = .ok (.getfield 16, 3) := by decide +kernel
theorem dX1_users_28 : decode cX1_users 28 = .ok (.iload_n 3, 1) := by decide +kernel
theorem dX1_users_29 : decode cX1_users 29 = .ok (.bipush 8, 2) := by decide +kernel
theorem dX1_users_31 : decode cX1_users 31 = .ok (.idiv, 1) := by decide +kernel
theorem dX1_users_32 : decode cX1_users 32 = .ok (.iaload, 1) := by decide +kernel
theorem dX1_users_33 : decode cX1_users 33 = .ok (.if_icmp .ge 37, 3) := by decide +kernel
theorem dX1_users_36 : decode cX1_users 36 = .ok (.aload_n 0, 1) := by decide +kernel
theorem dX1_users_37 : decode cX1_users 37 = .ok (.getfield 7, 3) := by decide +kernel
theorem dX1_users_40 : decode cX1_users 40 = .ok (.iload_n 3, 1) := by decide +kernel
theorem dX1_users_41 : decode cX1_users 41 = .ok (.iaload, 1) := by decide +kernel
theorem dX1_users_42 : decode cX1_users 42 = .ok (.bipush (-4), 2) := by decide +kernel
theorem dX1_users_44 : decode cX1_users 44 = .ok (.if_icmp .eq 26, 3) := by decide +kernel
theorem dX1_users_47 : decode cX1_users 47 = .ok (.aload_n 0, 1) := by decide +kernel
theorem dX1_users_48 : decode cX1_users 48 = .ok (.aload_n 0, 1) := by decide +kernel
theorem dX1_users_49 : decode cX1_users 49 = .ok (.getfield 7, 3) := by decide +kernel
theorem dX1_users_52 : decode cX1_users 52 = .ok (.iload_n 3, 1) := by decide +kernel
theorem dX1_users_53 : decode cX1_users 53 = .ok (.iaload, 1) := by decide +kernel
theorem dX1_users_54 : decode cX1_users 54 = .ok (.invokevirtual 50, 3) := by decide +kernel
theorem dX1_users_57 : decode cX1_users 57 = .ok (.iload_n 1, 1) := by decide +kernel
theorem dX1_users_58 : decode cX1_users 58 = .ok (.if_icmp .ne 12, 3) := by decide +kernel
theorem dX1_users_61 : decode cX1_users 61 = .ok (.iload_n 2, 1) := by decide +kernel
theorem dX1_users_62 : decode cX1_users 62 = .ok (.iconst 1, 1) := by decide +kernel
theorem dX1_users_63 : decode cX1_users 63 = .ok (.iload_n 3, 1) := by decide +kernel
theorem dX1_users_64 : decode cX1_users 64 = .ok (.bipush 8, 2) := by decide +kernel
theorem dX1_users_66 : decode cX1_users 66 = .ok (.idiv, 1) := by decide +kernel
theorem dX1_users_67 : decode cX1_users 67 = .ok (.ishl, 1) := by decide +kernel
theorem dX1_users_68 : decode cX1_users 68 = .ok (.ior, 1) := by decide +kernel
theorem dX1_users_69 : decode cX1_users 69 = .ok (.istore_n 2, 1) := by decide +kernel
theorem dX1_users_70 : decode cX1_users 70 = .ok (.iinc 3 1, 3) := by decide +kernel
theorem dX1_users_73 : decode cX1_users 73 = .ok (.goto (-59), 3) := by decide +kernel
theorem dX1_users_76 : decode cX1_users 76 = .ok (.iload_n 2, 1) := by decide +kernel
theorem dX1_users_77 : decode cX1_users 77 = .ok (.ireturn, 1) := by decide +kernel
abbrev cX1_digest : ByteArray := prog_3_method_26_code
def yX1_digest : MethodName := ⟨RX1, "digest", "()I"⟩
theorem dX1_digest_0 : decode cX1_digest 0 = .ok (.iconst 0, 1) := by decide +kernel
theorem dX1_digest_1 : decode cX1_digest 1 = .ok (.istore_n 1, 1) := by decide +kernel
theorem dX1_digest_2 : decode cX1_digest 2 = .ok (.iconst 0, 1) := by decide +kernel
theorem dX1_digest_3 : decode cX1_digest 3 = .ok (.istore_n 2, 1) := by decide +kernel
theorem dX1_digest_4 : decode cX1_digest 4 = .ok (.iload_n 2, 1) := by decide +kernel
theorem dX1_digest_5 : decode cX1_digest 5 = .ok (.bipush 48, 2) := by decide +kernel
theorem dX1_digest_7 : decode cX1_digest 7 = .ok (.if_icmp .ge 21, 3) := by decide +kernel
theorem dX1_digest_10 : decode cX1_digest 10 = .ok (.iload_n 1, 1) := by decide +kernel
theorem dX1_digest_11 : decode cX1_digest 11 = .ok (.iload_n 2, 1) := by decide +kernel
theorem dX1_digest_12 : decode cX1_digest 12 = .ok (.iconst 1, 1) := by decide +kernel
theorem dX1_digest_13 : decode cX1_digest 13 = .ok (.iadd, 1) := by decide +kernel
theorem dX1_digest_14 : decode cX1_digest 14 = .ok (.aload_n 0, 1) := by decide +kernel
theorem dX1_digest_15 : decode cX1_digest 15 = .ok (.iload_n 2, 1) := by decide +kernel
theorem dX1_digest_16 : decode cX1_digest 16 = .ok (.invokevirtual 53, 3) := by decide +kernel
theorem dX1_digest_19 : decode cX1_digest 19 = .ok (.imul, 1) := by decide +kernel
theorem dX1_digest_20 : decode cX1_digest 20 = .ok (.iadd, 1) := by decide +kernel
theorem dX1_digest_21 : decode cX1_digest 21 = .ok (.istore_n 1, 1) := by decide +kernel
theorem dX1_digest_22 : decode cX1_digest 22 = .ok (.iinc 2 1, 3) := by decide +kernel
theorem dX1_digest_25 : decode cX1_digest 25 = .ok (.goto (-21), 3) := by decide +kernel
theorem dX1_digest_28 : decode cX1_digest 28 = .ok (.iload_n 1, 1) := by decide +kernel
theorem dX1_digest_29 : decode cX1_digest 29 = .ok (.ireturn, 1) := by decide +kernel
theorem q24 : (Jvm.Cond.initialized "IncrementalLinkerModel") ∈ lw_all := lw_g (lw_at lw_m1 2 rfl) rfl
theorem q198 : (Jvm.Cond.instantiable "IncrementalLinkerModel" (4 : Nat)) ∈ lw_all := lw_g (lw_at lw_m1 176 rfl) rfl
theorem q200 : (Jvm.Cond.instanceMethod ({ cls := "IncrementalLinkerModel", name := "<init>", desc := "()V" } : Jvm.MethodName)) ∈ lw_all := lw_g (lw_at lw_m1 178 rfl) rfl
theorem q201 : (Jvm.Cond.code ({ cls := "IncrementalLinkerModel", name := "<init>", desc := "()V" } : Jvm.MethodName) prog_3_method_1_code (2 : Nat) (Option.none : Option Jvm.ClassFile.FieldType)) ∈ lw_all := lw_g (lw_at lw_m1 179 rfl) rfl
theorem q202 : (Jvm.Cond.methodLink "IncrementalLinkerModel" (1 : Nat) ({ cls := "java/lang/Object", name := "<init>", desc := "()V" } : Jvm.MethodName)) ∈ lw_all := lw_g (lw_at lw_m1 180 rfl) rfl
theorem q203 : (Jvm.Cond.fieldLink "IncrementalLinkerModel" (7 : Nat) "IncrementalLinkerModel" "names" "[I") ∈ lw_all := lw_g (lw_at lw_m1 181 rfl) rfl
theorem q204 : (Jvm.Cond.fieldLink "IncrementalLinkerModel" (13 : Nat) "IncrementalLinkerModel" "numbers" "[I") ∈ lw_all := lw_g (lw_at lw_m1 182 rfl) rfl
theorem q205 : (Jvm.Cond.fieldLink "IncrementalLinkerModel" (16 : Nat) "IncrementalLinkerModel" "sizes" "[I") ∈ lw_all := lw_g (lw_at lw_m1 183 rfl) rfl
theorem q206 : (Jvm.Cond.fieldLink "IncrementalLinkerModel" (19 : Nat) "IncrementalLinkerModel" "defined" "[I") ∈ lw_all := lw_g (lw_at lw_m1 184 rfl) rfl
theorem q207 : (Jvm.Cond.laysFinal "IncrementalLinkerModel" "IncrementalLinkerModel" "names" "[I") ∈ lw_all := lw_g (lw_at lw_m1 185 rfl) rfl
theorem q208 : (Jvm.Cond.soleField "IncrementalLinkerModel" "names") ∈ lw_all := lw_g (lw_at lw_m1 186 rfl) rfl
theorem q209 : (Jvm.Cond.laysFinal "IncrementalLinkerModel" "IncrementalLinkerModel" "numbers" "[I") ∈ lw_all := lw_g (lw_at lw_m1 187 rfl) rfl
theorem q210 : (Jvm.Cond.soleField "IncrementalLinkerModel" "numbers") ∈ lw_all := lw_g (lw_at lw_m1 188 rfl) rfl
theorem q211 : (Jvm.Cond.laysFinal "IncrementalLinkerModel" "IncrementalLinkerModel" "sizes" "[I") ∈ lw_all := lw_g (lw_at lw_m1 189 rfl) rfl
theorem q212 : (Jvm.Cond.soleField "IncrementalLinkerModel" "sizes") ∈ lw_all := lw_g (lw_at lw_m1 190 rfl) rfl
theorem q213 : (Jvm.Cond.laysFinal "IncrementalLinkerModel" "IncrementalLinkerModel" "defined" "[I") ∈ lw_all := lw_g (lw_at lw_m1 191 rfl) rfl
theorem q214 : (Jvm.Cond.soleField "IncrementalLinkerModel" "defined") ∈ lw_all := lw_g (lw_at lw_m1 192 rfl) rfl
theorem q215 : (Jvm.Cond.superclass "IncrementalLinkerModel" "java/lang/Object") ∈ lw_all := lw_g (lw_at lw_m1 193 rfl) rfl
theorem q217 : (Jvm.Cond.instanceMethod ({ cls := "IncrementalLinkerModel", name := "constant", desc := "(II)I" } : Jvm.MethodName)) ∈ lw_all := lw_g (lw_at lw_m1 195 rfl) rfl
theorem q218 : (Jvm.Cond.selects "IncrementalLinkerModel" ({ cls := "IncrementalLinkerModel", name := "constant", desc := "(II)I" } : Jvm.MethodName) ({ cls := "IncrementalLinkerModel", name := "constant", desc := "(II)I" } : Jvm.MethodName)) ∈ lw_all := lw_g (lw_at lw_m1 196 rfl) rfl
theorem q219 : (Jvm.Cond.code ({ cls := "IncrementalLinkerModel", name := "constant", desc := "(II)I" } : Jvm.MethodName) prog_3_method_5_code (3 : Nat) (Option.some Jvm.ClassFile.FieldType.int)) ∈ lw_all := lw_g (lw_at lw_m1 197 rfl) rfl
theorem q220 : (Jvm.Cond.methodLink "IncrementalLinkerModel" (22 : Nat) ({ cls := "IncrementalLinkerModel", name := "isModule", desc := "(I)Z" } : Jvm.MethodName)) ∈ lw_all := lw_g (lw_at lw_m1 198 rfl) rfl
theorem q221 : (Jvm.Cond.privateMethod ({ cls := "IncrementalLinkerModel", name := "isModule", desc := "(I)Z" } : Jvm.MethodName)) ∈ lw_tbl := lw_at lw_m1 199 rfl
theorem q222 : (Jvm.Cond.instanceMethod ({ cls := "IncrementalLinkerModel", name := "isModule", desc := "(I)Z" } : Jvm.MethodName)) ∈ lw_all := lw_g (lw_at lw_m1 200 rfl) rfl
theorem q223 : (Jvm.Cond.code ({ cls := "IncrementalLinkerModel", name := "isModule", desc := "(I)Z" } : Jvm.MethodName) prog_3_method_2_code (2 : Nat) (Option.some Jvm.ClassFile.FieldType.boolean)) ∈ lw_all := lw_g (lw_at lw_m1 201 rfl) rfl
theorem q224 : (Jvm.Cond.methodLink "IncrementalLinkerModel" (26 : Nat) ({ cls := "IncrementalLinkerModel", name := "append", desc := "(III)I" } : Jvm.MethodName)) ∈ lw_all := lw_g (lw_at lw_m1 202 rfl) rfl
theorem q225 : (Jvm.Cond.privateMethod ({ cls := "IncrementalLinkerModel", name := "append", desc := "(III)I" } : Jvm.MethodName)) ∈ lw_tbl := lw_at lw_m1 203 rfl
theorem q226 : (Jvm.Cond.instanceMethod ({ cls := "IncrementalLinkerModel", name := "append", desc := "(III)I" } : Jvm.MethodName)) ∈ lw_all := lw_g (lw_at lw_m1 204 rfl) rfl
theorem q227 : (Jvm.Cond.code ({ cls := "IncrementalLinkerModel", name := "append", desc := "(III)I" } : Jvm.MethodName) prog_3_method_4_code (4 : Nat) (Option.some Jvm.ClassFile.FieldType.int)) ∈ lw_all := lw_g (lw_at lw_m1 205 rfl) rfl
theorem q229 : (Jvm.Cond.instanceMethod ({ cls := "IncrementalLinkerModel", name := "reference", desc := "(III)I" } : Jvm.MethodName)) ∈ lw_all := lw_g (lw_at lw_m1 207 rfl) rfl
theorem q230 : (Jvm.Cond.selects "IncrementalLinkerModel" ({ cls := "IncrementalLinkerModel", name := "reference", desc := "(III)I" } : Jvm.MethodName) ({ cls := "IncrementalLinkerModel", name := "reference", desc := "(III)I" } : Jvm.MethodName)) ∈ lw_all := lw_g (lw_at lw_m1 208 rfl) rfl
theorem q231 : (Jvm.Cond.code ({ cls := "IncrementalLinkerModel", name := "reference", desc := "(III)I" } : Jvm.MethodName) prog_3_method_6_code (5 : Nat) (Option.some Jvm.ClassFile.FieldType.int)) ∈ lw_all := lw_g (lw_at lw_m1 209 rfl) rfl
theorem q232 : (Jvm.Cond.methodLink "IncrementalLinkerModel" (30 : Nat) ({ cls := "IncrementalLinkerModel", name := "isName", desc := "(I)Z" } : Jvm.MethodName)) ∈ lw_all := lw_g (lw_at lw_m1 210 rfl) rfl
theorem q233 : (Jvm.Cond.privateMethod ({ cls := "IncrementalLinkerModel", name := "isName", desc := "(I)Z" } : Jvm.MethodName)) ∈ lw_tbl := lw_at lw_m1 211 rfl
theorem q234 : (Jvm.Cond.instanceMethod ({ cls := "IncrementalLinkerModel", name := "isName", desc := "(I)Z" } : Jvm.MethodName)) ∈ lw_all := lw_g (lw_at lw_m1 212 rfl) rfl
theorem q235 : (Jvm.Cond.code ({ cls := "IncrementalLinkerModel", name := "isName", desc := "(I)Z" } : Jvm.MethodName) prog_3_method_3_code (2 : Nat) (Option.some Jvm.ClassFile.FieldType.boolean)) ∈ lw_all := lw_g (lw_at lw_m1 213 rfl) rfl
theorem q237 : (Jvm.Cond.instanceMethod ({ cls := "IncrementalLinkerModel", name := "patch", desc := "(III)I" } : Jvm.MethodName)) ∈ lw_all := lw_g (lw_at lw_m1 215 rfl) rfl
theorem q238 : (Jvm.Cond.selects "IncrementalLinkerModel" ({ cls := "IncrementalLinkerModel", name := "patch", desc := "(III)I" } : Jvm.MethodName) ({ cls := "IncrementalLinkerModel", name := "patch", desc := "(III)I" } : Jvm.MethodName)) ∈ lw_all := lw_g (lw_at lw_m1 216 rfl) rfl
theorem q239 : (Jvm.Cond.code ({ cls := "IncrementalLinkerModel", name := "patch", desc := "(III)I" } : Jvm.MethodName) prog_3_method_8_code (5 : Nat) (Option.some Jvm.ClassFile.FieldType.int)) ∈ lw_all := lw_g (lw_at lw_m1 217 rfl) rfl
theorem q240 : (Jvm.Cond.methodLink "IncrementalLinkerModel" (33 : Nat) ({ cls := "IncrementalLinkerModel", name := "isWord", desc := "(II)Z" } : Jvm.MethodName)) ∈ lw_all := lw_g (lw_at lw_m1 218 rfl) rfl
theorem q241 : (Jvm.Cond.privateMethod ({ cls := "IncrementalLinkerModel", name := "isWord", desc := "(II)Z" } : Jvm.MethodName)) ∈ lw_tbl := lw_at lw_m1 219 rfl
theorem q242 : (Jvm.Cond.instanceMethod ({ cls := "IncrementalLinkerModel", name := "isWord", desc := "(II)Z" } : Jvm.MethodName)) ∈ lw_all := lw_g (lw_at lw_m1 220 rfl) rfl
theorem q243 : (Jvm.Cond.code ({ cls := "IncrementalLinkerModel", name := "isWord", desc := "(II)Z" } : Jvm.MethodName) prog_3_method_7_code (3 : Nat) (Option.some Jvm.ClassFile.FieldType.boolean)) ∈ lw_all := lw_g (lw_at lw_m1 221 rfl) rfl
theorem q245 : (Jvm.Cond.instanceMethod ({ cls := "IncrementalLinkerModel", name := "insert", desc := "(III)I" } : Jvm.MethodName)) ∈ lw_all := lw_g (lw_at lw_m1 223 rfl) rfl
theorem q246 : (Jvm.Cond.selects "IncrementalLinkerModel" ({ cls := "IncrementalLinkerModel", name := "insert", desc := "(III)I" } : Jvm.MethodName) ({ cls := "IncrementalLinkerModel", name := "insert", desc := "(III)I" } : Jvm.MethodName)) ∈ lw_all := lw_g (lw_at lw_m1 224 rfl) rfl
theorem q247 : (Jvm.Cond.code ({ cls := "IncrementalLinkerModel", name := "insert", desc := "(III)I" } : Jvm.MethodName) prog_3_method_9_code (5 : Nat) (Option.some Jvm.ClassFile.FieldType.int)) ∈ lw_all := lw_g (lw_at lw_m1 225 rfl) rfl
theorem q249 : (Jvm.Cond.instanceMethod ({ cls := "IncrementalLinkerModel", name := "delete", desc := "(II)I" } : Jvm.MethodName)) ∈ lw_all := lw_g (lw_at lw_m1 227 rfl) rfl
theorem q250 : (Jvm.Cond.selects "IncrementalLinkerModel" ({ cls := "IncrementalLinkerModel", name := "delete", desc := "(II)I" } : Jvm.MethodName) ({ cls := "IncrementalLinkerModel", name := "delete", desc := "(II)I" } : Jvm.MethodName)) ∈ lw_all := lw_g (lw_at lw_m1 228 rfl) rfl
theorem q251 : (Jvm.Cond.code ({ cls := "IncrementalLinkerModel", name := "delete", desc := "(II)I" } : Jvm.MethodName) prog_3_method_10_code (4 : Nat) (Option.some Jvm.ClassFile.FieldType.int)) ∈ lw_all := lw_g (lw_at lw_m1 229 rfl) rfl
theorem q253 : (Jvm.Cond.instanceMethod ({ cls := "IncrementalLinkerModel", name := "unload", desc := "(I)I" } : Jvm.MethodName)) ∈ lw_all := lw_g (lw_at lw_m1 231 rfl) rfl
theorem q254 : (Jvm.Cond.selects "IncrementalLinkerModel" ({ cls := "IncrementalLinkerModel", name := "unload", desc := "(I)I" } : Jvm.MethodName) ({ cls := "IncrementalLinkerModel", name := "unload", desc := "(I)I" } : Jvm.MethodName)) ∈ lw_all := lw_g (lw_at lw_m1 232 rfl) rfl
theorem q255 : (Jvm.Cond.code ({ cls := "IncrementalLinkerModel", name := "unload", desc := "(I)I" } : Jvm.MethodName) prog_3_method_11_code (4 : Nat) (Option.some Jvm.ClassFile.FieldType.int)) ∈ lw_all := lw_g (lw_at lw_m1 233 rfl) rfl
theorem q257 : (Jvm.Cond.instanceMethod ({ cls := "IncrementalLinkerModel", name := "define", desc := "(III)I" } : Jvm.MethodName)) ∈ lw_all := lw_g (lw_at lw_m1 235 rfl) rfl
theorem q258 : (Jvm.Cond.selects "IncrementalLinkerModel" ({ cls := "IncrementalLinkerModel", name := "define", desc := "(III)I" } : Jvm.MethodName) ({ cls := "IncrementalLinkerModel", name := "define", desc := "(III)I" } : Jvm.MethodName)) ∈ lw_all := lw_g (lw_at lw_m1 236 rfl) rfl
theorem q259 : (Jvm.Cond.code ({ cls := "IncrementalLinkerModel", name := "define", desc := "(III)I" } : Jvm.MethodName) prog_3_method_12_code (5 : Nat) (Option.some Jvm.ClassFile.FieldType.int)) ∈ lw_all := lw_g (lw_at lw_m1 237 rfl) rfl
theorem q261 : (Jvm.Cond.instanceMethod ({ cls := "IncrementalLinkerModel", name := "undefine", desc := "(II)I" } : Jvm.MethodName)) ∈ lw_all := lw_g (lw_at lw_m1 239 rfl) rfl
theorem q262 : (Jvm.Cond.selects "IncrementalLinkerModel" ({ cls := "IncrementalLinkerModel", name := "undefine", desc := "(II)I" } : Jvm.MethodName) ({ cls := "IncrementalLinkerModel", name := "undefine", desc := "(II)I" } : Jvm.MethodName)) ∈ lw_all := lw_g (lw_at lw_m2 0 rfl) rfl
theorem q263 : (Jvm.Cond.code ({ cls := "IncrementalLinkerModel", name := "undefine", desc := "(II)I" } : Jvm.MethodName) prog_3_method_13_code (4 : Nat) (Option.some Jvm.ClassFile.FieldType.int)) ∈ lw_all := lw_g (lw_at lw_m2 1 rfl) rfl
theorem q265 : (Jvm.Cond.instanceMethod ({ cls := "IncrementalLinkerModel", name := "size", desc := "()I" } : Jvm.MethodName)) ∈ lw_all := lw_g (lw_at lw_m2 3 rfl) rfl
theorem q266 : (Jvm.Cond.selects "IncrementalLinkerModel" ({ cls := "IncrementalLinkerModel", name := "size", desc := "()I" } : Jvm.MethodName) ({ cls := "IncrementalLinkerModel", name := "size", desc := "()I" } : Jvm.MethodName)) ∈ lw_all := lw_g (lw_at lw_m2 4 rfl) rfl
theorem q267 : (Jvm.Cond.code ({ cls := "IncrementalLinkerModel", name := "size", desc := "()I" } : Jvm.MethodName) prog_3_method_14_code (1 : Nat) (Option.some Jvm.ClassFile.FieldType.int)) ∈ lw_all := lw_g (lw_at lw_m2 5 rfl) rfl
theorem q268 : (Jvm.Cond.methodLink "IncrementalLinkerModel" (37 : Nat) ({ cls := "IncrementalLinkerModel", name := "begin", desc := "(I)I" } : Jvm.MethodName)) ∈ lw_all := lw_g (lw_at lw_m2 6 rfl) rfl
theorem q269 : (Jvm.Cond.privateMethod ({ cls := "IncrementalLinkerModel", name := "begin", desc := "(I)I" } : Jvm.MethodName)) ∈ lw_tbl := lw_at lw_m2 7 rfl
theorem q270 : (Jvm.Cond.instanceMethod ({ cls := "IncrementalLinkerModel", name := "begin", desc := "(I)I" } : Jvm.MethodName)) ∈ lw_all := lw_g (lw_at lw_m2 8 rfl) rfl
theorem q271 : (Jvm.Cond.code ({ cls := "IncrementalLinkerModel", name := "begin", desc := "(I)I" } : Jvm.MethodName) prog_3_method_15_code (4 : Nat) (Option.some Jvm.ClassFile.FieldType.int)) ∈ lw_all := lw_g (lw_at lw_m2 9 rfl) rfl
theorem q273 : (Jvm.Cond.instanceMethod ({ cls := "IncrementalLinkerModel", name := "value", desc := "(I)I" } : Jvm.MethodName)) ∈ lw_all := lw_g (lw_at lw_m2 11 rfl) rfl
theorem q274 : (Jvm.Cond.selects "IncrementalLinkerModel" ({ cls := "IncrementalLinkerModel", name := "value", desc := "(I)I" } : Jvm.MethodName) ({ cls := "IncrementalLinkerModel", name := "value", desc := "(I)I" } : Jvm.MethodName)) ∈ lw_all := lw_g (lw_at lw_m2 12 rfl) rfl
theorem q275 : (Jvm.Cond.code ({ cls := "IncrementalLinkerModel", name := "value", desc := "(I)I" } : Jvm.MethodName) prog_3_method_18_code (3 : Nat) (Option.some Jvm.ClassFile.FieldType.int)) ∈ lw_all := lw_g (lw_at lw_m2 13 rfl) rfl
theorem q276 : (Jvm.Cond.methodLink "IncrementalLinkerModel" (44 : Nat) ({ cls := "IncrementalLinkerModel", name := "moduleOf", desc := "(I)I" } : Jvm.MethodName)) ∈ lw_all := lw_g (lw_at lw_m2 14 rfl) rfl
theorem q277 : (Jvm.Cond.instanceMethod ({ cls := "IncrementalLinkerModel", name := "moduleOf", desc := "(I)I" } : Jvm.MethodName)) ∈ lw_all := lw_g (lw_at lw_m2 15 rfl) rfl
theorem q278 : (Jvm.Cond.selects "IncrementalLinkerModel" ({ cls := "IncrementalLinkerModel", name := "moduleOf", desc := "(I)I" } : Jvm.MethodName) ({ cls := "IncrementalLinkerModel", name := "moduleOf", desc := "(I)I" } : Jvm.MethodName)) ∈ lw_all := lw_g (lw_at lw_m2 16 rfl) rfl
theorem q279 : (Jvm.Cond.code ({ cls := "IncrementalLinkerModel", name := "moduleOf", desc := "(I)I" } : Jvm.MethodName) prog_3_method_25_code (4 : Nat) (Option.some Jvm.ClassFile.FieldType.int)) ∈ lw_all := lw_g (lw_at lw_m2 17 rfl) rfl
theorem q280 : (Jvm.Cond.methodLink "IncrementalLinkerModel" (47 : Nat) ({ cls := "IncrementalLinkerModel", name := "valueOf", desc := "(I)I" } : Jvm.MethodName)) ∈ lw_all := lw_g (lw_at lw_m2 18 rfl) rfl
theorem q281 : (Jvm.Cond.privateMethod ({ cls := "IncrementalLinkerModel", name := "valueOf", desc := "(I)I" } : Jvm.MethodName)) ∈ lw_tbl := lw_at lw_m2 19 rfl
theorem q282 : (Jvm.Cond.instanceMethod ({ cls := "IncrementalLinkerModel", name := "valueOf", desc := "(I)I" } : Jvm.MethodName)) ∈ lw_all := lw_g (lw_at lw_m2 20 rfl) rfl
theorem q283 : (Jvm.Cond.code ({ cls := "IncrementalLinkerModel", name := "valueOf", desc := "(I)I" } : Jvm.MethodName) prog_3_method_17_code (3 : Nat) (Option.some Jvm.ClassFile.FieldType.int)) ∈ lw_all := lw_g (lw_at lw_m2 21 rfl) rfl
theorem q284 : (Jvm.Cond.methodLink "IncrementalLinkerModel" (41 : Nat) ({ cls := "IncrementalLinkerModel", name := "where", desc := "(I)I" } : Jvm.MethodName)) ∈ lw_all := lw_g (lw_at lw_m2 22 rfl) rfl
theorem q285 : (Jvm.Cond.instanceMethod ({ cls := "IncrementalLinkerModel", name := "where", desc := "(I)I" } : Jvm.MethodName)) ∈ lw_all := lw_g (lw_at lw_m2 23 rfl) rfl
theorem q286 : (Jvm.Cond.selects "IncrementalLinkerModel" ({ cls := "IncrementalLinkerModel", name := "where", desc := "(I)I" } : Jvm.MethodName) ({ cls := "IncrementalLinkerModel", name := "where", desc := "(I)I" } : Jvm.MethodName)) ∈ lw_all := lw_g (lw_at lw_m2 24 rfl) rfl
theorem q287 : (Jvm.Cond.code ({ cls := "IncrementalLinkerModel", name := "where", desc := "(I)I" } : Jvm.MethodName) prog_3_method_20_code (3 : Nat) (Option.some Jvm.ClassFile.FieldType.int)) ∈ lw_all := lw_g (lw_at lw_m2 25 rfl) rfl
theorem q288 : (Jvm.Cond.methodLink "IncrementalLinkerModel" (50 : Nat) ({ cls := "IncrementalLinkerModel", name := "moduleFor", desc := "(I)I" } : Jvm.MethodName)) ∈ lw_all := lw_g (lw_at lw_m2 26 rfl) rfl
theorem q289 : (Jvm.Cond.privateMethod ({ cls := "IncrementalLinkerModel", name := "moduleFor", desc := "(I)I" } : Jvm.MethodName)) ∈ lw_tbl := lw_at lw_m2 27 rfl
theorem q290 : (Jvm.Cond.instanceMethod ({ cls := "IncrementalLinkerModel", name := "moduleFor", desc := "(I)I" } : Jvm.MethodName)) ∈ lw_all := lw_g (lw_at lw_m2 28 rfl) rfl
theorem q291 : (Jvm.Cond.code ({ cls := "IncrementalLinkerModel", name := "moduleFor", desc := "(I)I" } : Jvm.MethodName) prog_3_method_16_code (3 : Nat) (Option.some Jvm.ClassFile.FieldType.int)) ∈ lw_all := lw_g (lw_at lw_m2 29 rfl) rfl
theorem q293 : (Jvm.Cond.instanceMethod ({ cls := "IncrementalLinkerModel", name := "address", desc := "(I)I" } : Jvm.MethodName)) ∈ lw_all := lw_g (lw_at lw_m2 31 rfl) rfl
theorem q294 : (Jvm.Cond.selects "IncrementalLinkerModel" ({ cls := "IncrementalLinkerModel", name := "address", desc := "(I)I" } : Jvm.MethodName) ({ cls := "IncrementalLinkerModel", name := "address", desc := "(I)I" } : Jvm.MethodName)) ∈ lw_all := lw_g (lw_at lw_m2 32 rfl) rfl
theorem q295 : (Jvm.Cond.code ({ cls := "IncrementalLinkerModel", name := "address", desc := "(I)I" } : Jvm.MethodName) prog_3_method_19_code (2 : Nat) (Option.some Jvm.ClassFile.FieldType.int)) ∈ lw_all := lw_g (lw_at lw_m2 33 rfl) rfl
theorem q298 : (Jvm.Cond.instanceMethod ({ cls := "IncrementalLinkerModel", name := "undefined", desc := "()I" } : Jvm.MethodName)) ∈ lw_all := lw_g (lw_at lw_m2 36 rfl) rfl
theorem q299 : (Jvm.Cond.selects "IncrementalLinkerModel" ({ cls := "IncrementalLinkerModel", name := "undefined", desc := "()I" } : Jvm.MethodName) ({ cls := "IncrementalLinkerModel", name := "undefined", desc := "()I" } : Jvm.MethodName)) ∈ lw_all := lw_g (lw_at lw_m2 37 rfl) rfl
theorem q300 : (Jvm.Cond.code ({ cls := "IncrementalLinkerModel", name := "undefined", desc := "()I" } : Jvm.MethodName) prog_3_method_21_code (3 : Nat) (Option.some Jvm.ClassFile.FieldType.int)) ∈ lw_all := lw_g (lw_at lw_m2 38 rfl) rfl
theorem q302 : (Jvm.Cond.instanceMethod ({ cls := "IncrementalLinkerModel", name := "idle", desc := "()I" } : Jvm.MethodName)) ∈ lw_all := lw_g (lw_at lw_m2 40 rfl) rfl
theorem q303 : (Jvm.Cond.selects "IncrementalLinkerModel" ({ cls := "IncrementalLinkerModel", name := "idle", desc := "()I" } : Jvm.MethodName) ({ cls := "IncrementalLinkerModel", name := "idle", desc := "()I" } : Jvm.MethodName)) ∈ lw_all := lw_g (lw_at lw_m2 41 rfl) rfl
theorem q304 : (Jvm.Cond.code ({ cls := "IncrementalLinkerModel", name := "idle", desc := "()I" } : Jvm.MethodName) prog_3_method_22_code (3 : Nat) (Option.some Jvm.ClassFile.FieldType.int)) ∈ lw_all := lw_g (lw_at lw_m2 42 rfl) rfl
theorem q306 : (Jvm.Cond.instanceMethod ({ cls := "IncrementalLinkerModel", name := "uses", desc := "(I)I" } : Jvm.MethodName)) ∈ lw_all := lw_g (lw_at lw_m2 44 rfl) rfl
theorem q307 : (Jvm.Cond.selects "IncrementalLinkerModel" ({ cls := "IncrementalLinkerModel", name := "uses", desc := "(I)I" } : Jvm.MethodName) ({ cls := "IncrementalLinkerModel", name := "uses", desc := "(I)I" } : Jvm.MethodName)) ∈ lw_all := lw_g (lw_at lw_m2 45 rfl) rfl
theorem q308 : (Jvm.Cond.code ({ cls := "IncrementalLinkerModel", name := "uses", desc := "(I)I" } : Jvm.MethodName) prog_3_method_23_code (4 : Nat) (Option.some Jvm.ClassFile.FieldType.int)) ∈ lw_all := lw_g (lw_at lw_m2 46 rfl) rfl
theorem q310 : (Jvm.Cond.instanceMethod ({ cls := "IncrementalLinkerModel", name := "users", desc := "(I)I" } : Jvm.MethodName)) ∈ lw_all := lw_g (lw_at lw_m2 48 rfl) rfl
theorem q311 : (Jvm.Cond.selects "IncrementalLinkerModel" ({ cls := "IncrementalLinkerModel", name := "users", desc := "(I)I" } : Jvm.MethodName) ({ cls := "IncrementalLinkerModel", name := "users", desc := "(I)I" } : Jvm.MethodName)) ∈ lw_all := lw_g (lw_at lw_m2 49 rfl) rfl
theorem q312 : (Jvm.Cond.code ({ cls := "IncrementalLinkerModel", name := "users", desc := "(I)I" } : Jvm.MethodName) prog_3_method_24_code (4 : Nat) (Option.some Jvm.ClassFile.FieldType.int)) ∈ lw_all := lw_g (lw_at lw_m2 50 rfl) rfl
theorem q315 : (Jvm.Cond.instanceMethod ({ cls := "IncrementalLinkerModel", name := "digest", desc := "()I" } : Jvm.MethodName)) ∈ lw_all := lw_g (lw_at lw_m2 53 rfl) rfl
theorem q316 : (Jvm.Cond.selects "IncrementalLinkerModel" ({ cls := "IncrementalLinkerModel", name := "digest", desc := "()I" } : Jvm.MethodName) ({ cls := "IncrementalLinkerModel", name := "digest", desc := "()I" } : Jvm.MethodName)) ∈ lw_all := lw_g (lw_at lw_m2 54 rfl) rfl
theorem q317 : (Jvm.Cond.code ({ cls := "IncrementalLinkerModel", name := "digest", desc := "()I" } : Jvm.MethodName) prog_3_method_26_code (3 : Nat) (Option.some Jvm.ClassFile.FieldType.int)) ∈ lw_all := lw_g (lw_at lw_m2 55 rfl) rfl
theorem q318 : (Jvm.Cond.methodLink "IncrementalLinkerModel" (53 : Nat) ({ cls := "IncrementalLinkerModel", name := "value", desc := "(I)I" } : Jvm.MethodName)) ∈ lw_all := lw_g (lw_at lw_m2 56 rfl) rfl
theorem in_X1 : ∀ w ∈ wsX10, w ∈ lw_all := lw_in wsX10 [207, 209, 211, 213] (by decide +kernel) (by decide +kernel)
end
section
set_option maxRecDepth 100000
/-! java/lang/Object -/
def RJ0 : String := "java/lang/Object"
abbrev cJ0_init : ByteArray := object_method_1_code
def yJ0_init : MethodName := ⟨RJ0, "<init>", "()V"⟩
theorem dJ0_init_0 : decode cJ0_init 0 = .ok (.return_, 1) := by decide +kernel
theorem q31 : (Jvm.Cond.instanceMethod ({ cls := "java/lang/Object", name := "<init>", desc := "()V" } : Jvm.MethodName)) ∈ lw_all := lw_g (lw_at lw_m1 9 rfl) rfl
theorem q32 : (Jvm.Cond.code ({ cls := "java/lang/Object", name := "<init>", desc := "()V" } : Jvm.MethodName) object_method_1_code (1 : Nat) (Option.none : Option Jvm.ClassFile.FieldType)) ∈ lw_all := lw_g (lw_at lw_m1 10 rfl) rfl
theorem q64 : (Jvm.Cond.arrayClass Jvm.ClassFile.FieldType.int) ∈ lw_all := lw_g (lw_at lw_m1 42 rfl) rfl
theorem q22 : (Jvm.Cond.initialized "IncrementalLinkerLaw") ∈ lw_all := lw_g (lw_at lw_m1 0 rfl) rfl
theorem q25 : (Jvm.Cond.classLink "IncrementalLinkerLaw" (7 : Nat) "IncrementalLinker") ∈ lw_all := lw_g (lw_at lw_m1 3 rfl) rfl
theorem q27 : (Jvm.Cond.methodLink "IncrementalLinkerLaw" (9 : Nat) ({ cls := "IncrementalLinker", name := "<init>", desc := "()V" } : Jvm.MethodName)) ∈ lw_all := lw_g (lw_at lw_m1 5 rfl) rfl
theorem q65 : (Jvm.Cond.methodLink "IncrementalLinkerLaw" (13 : Nat) ({ cls := "IncrementalLinker", name := "constant", desc := "(II)I" } : Jvm.MethodName)) ∈ lw_all := lw_g (lw_at lw_m1 43 rfl) rfl
theorem q113 : (Jvm.Cond.methodLink "IncrementalLinkerLaw" (18 : Nat) ({ cls := "IncrementalLinker", name := "reference", desc := "(III)I" } : Jvm.MethodName)) ∈ lw_all := lw_g (lw_at lw_m1 91 rfl) rfl
theorem q121 : (Jvm.Cond.methodLink "IncrementalLinkerLaw" (23 : Nat) ({ cls := "IncrementalLinker", name := "patch", desc := "(III)I" } : Jvm.MethodName)) ∈ lw_all := lw_g (lw_at lw_m1 99 rfl) rfl
theorem q125 : (Jvm.Cond.methodLink "IncrementalLinkerLaw" (27 : Nat) ({ cls := "IncrementalLinker", name := "insert", desc := "(III)I" } : Jvm.MethodName)) ∈ lw_all := lw_g (lw_at lw_m1 103 rfl) rfl
theorem q129 : (Jvm.Cond.methodLink "IncrementalLinkerLaw" (31 : Nat) ({ cls := "IncrementalLinker", name := "delete", desc := "(II)I" } : Jvm.MethodName)) ∈ lw_all := lw_g (lw_at lw_m1 107 rfl) rfl
theorem q137 : (Jvm.Cond.methodLink "IncrementalLinkerLaw" (35 : Nat) ({ cls := "IncrementalLinker", name := "unload", desc := "(I)I" } : Jvm.MethodName)) ∈ lw_all := lw_g (lw_at lw_m1 115 rfl) rfl
theorem q141 : (Jvm.Cond.methodLink "IncrementalLinkerLaw" (40 : Nat) ({ cls := "IncrementalLinker", name := "define", desc := "(III)I" } : Jvm.MethodName)) ∈ lw_all := lw_g (lw_at lw_m1 119 rfl) rfl
theorem q145 : (Jvm.Cond.methodLink "IncrementalLinkerLaw" (44 : Nat) ({ cls := "IncrementalLinker", name := "undefine", desc := "(II)I" } : Jvm.MethodName)) ∈ lw_all := lw_g (lw_at lw_m1 123 rfl) rfl
theorem q149 : (Jvm.Cond.methodLink "IncrementalLinkerLaw" (48 : Nat) ({ cls := "IncrementalLinker", name := "size", desc := "()I" } : Jvm.MethodName)) ∈ lw_all := lw_g (lw_at lw_m1 127 rfl) rfl
theorem q153 : (Jvm.Cond.methodLink "IncrementalLinkerLaw" (53 : Nat) ({ cls := "IncrementalLinker", name := "value", desc := "(I)I" } : Jvm.MethodName)) ∈ lw_all := lw_g (lw_at lw_m1 131 rfl) rfl
theorem q157 : (Jvm.Cond.methodLink "IncrementalLinkerLaw" (57 : Nat) ({ cls := "IncrementalLinker", name := "address", desc := "(I)I" } : Jvm.MethodName)) ∈ lw_all := lw_g (lw_at lw_m1 135 rfl) rfl
theorem q161 : (Jvm.Cond.methodLink "IncrementalLinkerLaw" (61 : Nat) ({ cls := "IncrementalLinker", name := "where", desc := "(I)I" } : Jvm.MethodName)) ∈ lw_all := lw_g (lw_at lw_m1 139 rfl) rfl
theorem q165 : (Jvm.Cond.methodLink "IncrementalLinkerLaw" (65 : Nat) ({ cls := "IncrementalLinker", name := "undefined", desc := "()I" } : Jvm.MethodName)) ∈ lw_all := lw_g (lw_at lw_m1 143 rfl) rfl
theorem q173 : (Jvm.Cond.methodLink "IncrementalLinkerLaw" (69 : Nat) ({ cls := "IncrementalLinker", name := "idle", desc := "()I" } : Jvm.MethodName)) ∈ lw_all := lw_g (lw_at lw_m1 151 rfl) rfl
theorem q177 : (Jvm.Cond.methodLink "IncrementalLinkerLaw" (73 : Nat) ({ cls := "IncrementalLinker", name := "uses", desc := "(I)I" } : Jvm.MethodName)) ∈ lw_all := lw_g (lw_at lw_m1 155 rfl) rfl
theorem q181 : (Jvm.Cond.methodLink "IncrementalLinkerLaw" (77 : Nat) ({ cls := "IncrementalLinker", name := "users", desc := "(I)I" } : Jvm.MethodName)) ∈ lw_all := lw_g (lw_at lw_m1 159 rfl) rfl
theorem q189 : (Jvm.Cond.methodLink "IncrementalLinkerLaw" (81 : Nat) ({ cls := "IncrementalLinker", name := "moduleOf", desc := "(I)I" } : Jvm.MethodName)) ∈ lw_all := lw_g (lw_at lw_m1 167 rfl) rfl
theorem q193 : (Jvm.Cond.methodLink "IncrementalLinkerLaw" (85 : Nat) ({ cls := "IncrementalLinker", name := "digest", desc := "()I" } : Jvm.MethodName)) ∈ lw_all := lw_g (lw_at lw_m1 171 rfl) rfl
theorem q197 : (Jvm.Cond.classLink "IncrementalLinkerLaw" (10 : Nat) "IncrementalLinkerModel") ∈ lw_all := lw_g (lw_at lw_m1 175 rfl) rfl
theorem q199 : (Jvm.Cond.methodLink "IncrementalLinkerLaw" (12 : Nat) ({ cls := "IncrementalLinkerModel", name := "<init>", desc := "()V" } : Jvm.MethodName)) ∈ lw_all := lw_g (lw_at lw_m1 177 rfl) rfl
theorem q216 : (Jvm.Cond.methodLink "IncrementalLinkerLaw" (17 : Nat) ({ cls := "IncrementalLinkerModel", name := "constant", desc := "(II)I" } : Jvm.MethodName)) ∈ lw_all := lw_g (lw_at lw_m1 194 rfl) rfl
theorem q228 : (Jvm.Cond.methodLink "IncrementalLinkerLaw" (22 : Nat) ({ cls := "IncrementalLinkerModel", name := "reference", desc := "(III)I" } : Jvm.MethodName)) ∈ lw_all := lw_g (lw_at lw_m1 206 rfl) rfl
theorem q236 : (Jvm.Cond.methodLink "IncrementalLinkerLaw" (26 : Nat) ({ cls := "IncrementalLinkerModel", name := "patch", desc := "(III)I" } : Jvm.MethodName)) ∈ lw_all := lw_g (lw_at lw_m1 214 rfl) rfl
theorem q244 : (Jvm.Cond.methodLink "IncrementalLinkerLaw" (30 : Nat) ({ cls := "IncrementalLinkerModel", name := "insert", desc := "(III)I" } : Jvm.MethodName)) ∈ lw_all := lw_g (lw_at lw_m1 222 rfl) rfl
theorem q248 : (Jvm.Cond.methodLink "IncrementalLinkerLaw" (34 : Nat) ({ cls := "IncrementalLinkerModel", name := "delete", desc := "(II)I" } : Jvm.MethodName)) ∈ lw_all := lw_g (lw_at lw_m1 226 rfl) rfl
theorem q252 : (Jvm.Cond.methodLink "IncrementalLinkerLaw" (39 : Nat) ({ cls := "IncrementalLinkerModel", name := "unload", desc := "(I)I" } : Jvm.MethodName)) ∈ lw_all := lw_g (lw_at lw_m1 230 rfl) rfl
theorem q256 : (Jvm.Cond.methodLink "IncrementalLinkerLaw" (43 : Nat) ({ cls := "IncrementalLinkerModel", name := "define", desc := "(III)I" } : Jvm.MethodName)) ∈ lw_all := lw_g (lw_at lw_m1 234 rfl) rfl
theorem q260 : (Jvm.Cond.methodLink "IncrementalLinkerLaw" (47 : Nat) ({ cls := "IncrementalLinkerModel", name := "undefine", desc := "(II)I" } : Jvm.MethodName)) ∈ lw_all := lw_g (lw_at lw_m1 238 rfl) rfl
theorem q264 : (Jvm.Cond.methodLink "IncrementalLinkerLaw" (52 : Nat) ({ cls := "IncrementalLinkerModel", name := "size", desc := "()I" } : Jvm.MethodName)) ∈ lw_all := lw_g (lw_at lw_m2 2 rfl) rfl
theorem q272 : (Jvm.Cond.methodLink "IncrementalLinkerLaw" (56 : Nat) ({ cls := "IncrementalLinkerModel", name := "value", desc := "(I)I" } : Jvm.MethodName)) ∈ lw_all := lw_g (lw_at lw_m2 10 rfl) rfl
theorem q292 : (Jvm.Cond.methodLink "IncrementalLinkerLaw" (60 : Nat) ({ cls := "IncrementalLinkerModel", name := "address", desc := "(I)I" } : Jvm.MethodName)) ∈ lw_all := lw_g (lw_at lw_m2 30 rfl) rfl
theorem q296 : (Jvm.Cond.methodLink "IncrementalLinkerLaw" (64 : Nat) ({ cls := "IncrementalLinkerModel", name := "where", desc := "(I)I" } : Jvm.MethodName)) ∈ lw_all := lw_g (lw_at lw_m2 34 rfl) rfl
theorem q297 : (Jvm.Cond.methodLink "IncrementalLinkerLaw" (68 : Nat) ({ cls := "IncrementalLinkerModel", name := "undefined", desc := "()I" } : Jvm.MethodName)) ∈ lw_all := lw_g (lw_at lw_m2 35 rfl) rfl
theorem q301 : (Jvm.Cond.methodLink "IncrementalLinkerLaw" (72 : Nat) ({ cls := "IncrementalLinkerModel", name := "idle", desc := "()I" } : Jvm.MethodName)) ∈ lw_all := lw_g (lw_at lw_m2 39 rfl) rfl
theorem q305 : (Jvm.Cond.methodLink "IncrementalLinkerLaw" (76 : Nat) ({ cls := "IncrementalLinkerModel", name := "uses", desc := "(I)I" } : Jvm.MethodName)) ∈ lw_all := lw_g (lw_at lw_m2 43 rfl) rfl
theorem q309 : (Jvm.Cond.methodLink "IncrementalLinkerLaw" (80 : Nat) ({ cls := "IncrementalLinkerModel", name := "users", desc := "(I)I" } : Jvm.MethodName)) ∈ lw_all := lw_g (lw_at lw_m2 47 rfl) rfl
theorem q313 : (Jvm.Cond.methodLink "IncrementalLinkerLaw" (84 : Nat) ({ cls := "IncrementalLinkerModel", name := "moduleOf", desc := "(I)I" } : Jvm.MethodName)) ∈ lw_all := lw_g (lw_at lw_m2 51 rfl) rfl
theorem q314 : (Jvm.Cond.methodLink "IncrementalLinkerLaw" (88 : Nat) ({ cls := "IncrementalLinkerModel", name := "digest", desc := "()I" } : Jvm.MethodName)) ∈ lw_all := lw_g (lw_at lw_m2 52 rfl) rfl
/-! the law's own entry -/
abbrev cL_law : ByteArray := code
theorem dL_law_0 : decode cL_law 0 = .ok (.new 7, 3) := by decide +kernel
theorem dL_law_3 : decode cL_law 3 = .ok (.dup, 1) := by decide +kernel
theorem dL_law_4 : decode cL_law 4 = .ok (.invokespecial 9, 3) := by decide +kernel
theorem dL_law_7 : decode cL_law 7 = .ok (.astore_n 1, 1) := by decide +kernel
theorem dL_law_8 : decode cL_law 8 = .ok (.new 10, 3) := by decide +kernel
theorem dL_law_11 : decode cL_law 11 = .ok (.dup, 1) := by decide +kernel
theorem dL_law_12 : decode cL_law 12 = .ok (.invokespecial 12, 3) := by decide +kernel
theorem dL_law_15 : decode cL_law 15 = .ok (.astore_n 2, 1) := by decide +kernel
theorem dL_law_16 : decode cL_law 16 = .ok (.iconst 0, 1) := by decide +kernel
theorem dL_law_17 : decode cL_law 17 = .ok (.istore_n 3, 1) := by decide +kernel
theorem dL_law_18 : decode cL_law 18 = .ok (.iload_n 3, 1) := by decide +kernel
theorem dL_law_19 : decode cL_law 19 = .ok (.aload_n 0, 1) := by decide +kernel
theorem dL_law_20 : decode cL_law 20 = .ok (.arraylength, 1) := by decide +kernel
theorem dL_law_21 : decode cL_law 21 = .ok (.iconst 4, 1) := by decide +kernel
theorem dL_law_22 : decode cL_law 22 = .ok (.isub, 1) := by decide +kernel
theorem dL_law_23 : decode cL_law 23 = .ok (.if_icmp .gt 587, 3) := by decide +kernel
theorem dL_law_26 : decode cL_law 26 = .ok (.aload_n 0, 1) := by decide +kernel
theorem dL_law_27 : decode cL_law 27 = .ok (.iload_n 3, 1) := by decide +kernel
theorem dL_law_28 : decode cL_law 28 = .ok (.iaload, 1) := by decide +kernel
theorem dL_law_29 : decode cL_law 29 = .ok (.bipush 31, 2) := by decide +kernel
theorem dL_law_31 : decode cL_law 31 = .ok (.iand, 1) := by decide +kernel
theorem dL_law_32 : decode cL_law 32 = .ok (.tableswitch 572 0 17 #[88, 121, 164, 207, 250, 283, 306, 349, 382, 395, 418, 441, 464, 477, 490, 513, 536, 559], 88) := by decide +kernel
theorem dL_law_120 : decode cL_law 120 = .ok (.aload_n 1, 1) := by decide +kernel
theorem dL_law_121 : decode cL_law 121 = .ok (.aload_n 0, 1) := by decide +kernel
theorem dL_law_122 : decode cL_law 122 = .ok (.iload_n 3, 1) := by decide +kernel
theorem dL_law_123 : decode cL_law 123 = .ok (.iconst 1, 1) := by decide +kernel
theorem dL_law_124 : decode cL_law 124 = .ok (.iadd, 1) := by decide +kernel
theorem dL_law_125 : decode cL_law 125 = .ok (.iaload, 1) := by decide +kernel
theorem dL_law_126 : decode cL_law 126 = .ok (.aload_n 0, 1) := by decide +kernel
theorem dL_law_127 : decode cL_law 127 = .ok (.iload_n 3, 1) := by decide +kernel
theorem dL_law_128 : decode cL_law 128 = .ok (.iconst 2, 1) := by decide +kernel
theorem dL_law_129 : decode cL_law 129 = .ok (.iadd, 1) := by decide +kernel
theorem dL_law_130 : decode cL_law 130 = .ok (.iaload, 1) := by decide +kernel
theorem dL_law_131 : decode cL_law 131 = .ok (.invokevirtual 13, 3) := by decide +kernel
theorem dL_law_134 : decode cL_law 134 = .ok (.aload_n 2, 1) := by decide +kernel
theorem dL_law_135 : decode cL_law 135 = .ok (.aload_n 0, 1) := by decide +kernel
theorem dL_law_136 : decode cL_law 136 = .ok (.iload_n 3, 1) := by decide +kernel
theorem dL_law_137 : decode cL_law 137 = .ok (.iconst 1, 1) := by decide +kernel
theorem dL_law_138 : decode cL_law 138 = .ok (.iadd, 1) := by decide +kernel
theorem dL_law_139 : decode cL_law 139 = .ok (.iaload, 1) := by decide +kernel
theorem dL_law_140 : decode cL_law 140 = .ok (.aload_n 0, 1) := by decide +kernel
theorem dL_law_141 : decode cL_law 141 = .ok (.iload_n 3, 1) := by decide +kernel
theorem dL_law_142 : decode cL_law 142 = .ok (.iconst 2, 1) := by decide +kernel
theorem dL_law_143 : decode cL_law 143 = .ok (.iadd, 1) := by decide +kernel
theorem dL_law_144 : decode cL_law 144 = .ok (.iaload, 1) := by decide +kernel
theorem dL_law_145 : decode cL_law 145 = .ok (.invokevirtual 17, 3) := by decide +kernel
theorem dL_law_148 : decode cL_law 148 = .ok (.if_icmp .eq 456, 3) := by decide +kernel
theorem dL_law_151 : decode cL_law 151 = .ok (.iconst 0, 1) := by decide +kernel
theorem dL_law_152 : decode cL_law 152 = .ok (.ireturn, 1) := by decide +kernel
theorem dL_law_153 : decode cL_law 153 = .ok (.aload_n 1, 1) := by decide +kernel
theorem dL_law_154 : decode cL_law 154 = .ok (.aload_n 0, 1) := by decide +kernel
theorem dL_law_155 : decode cL_law 155 = .ok (.iload_n 3, 1) := by decide +kernel
theorem dL_law_156 : decode cL_law 156 = .ok (.iconst 1, 1) := by decide +kernel
theorem dL_law_157 : decode cL_law 157 = .ok (.iadd, 1) := by decide +kernel
theorem dL_law_158 : decode cL_law 158 = .ok (.iaload, 1) := by decide +kernel
theorem dL_law_159 : decode cL_law 159 = .ok (.aload_n 0, 1) := by decide +kernel
theorem dL_law_160 : decode cL_law 160 = .ok (.iload_n 3, 1) := by decide +kernel
theorem dL_law_161 : decode cL_law 161 = .ok (.iconst 2, 1) := by decide +kernel
theorem dL_law_162 : decode cL_law 162 = .ok (.iadd, 1) := by decide +kernel
theorem dL_law_163 : decode cL_law 163 = .ok (.iaload, 1) := by decide +kernel
theorem dL_law_164 : decode cL_law 164 = .ok (.aload_n 0, 1) := by decide +kernel
theorem dL_law_165 : decode cL_law 165 = .ok (.iload_n 3, 1) := by decide +kernel
theorem dL_law_166 : decode cL_law 166 = .ok (.iconst 3, 1) := by decide +kernel
theorem dL_law_167 : decode cL_law 167 = .ok (.iadd, 1) := by decide +kernel
theorem dL_law_168 : decode cL_law 168 = .ok (.iaload, 1) := by decide +kernel
theorem dL_law_169 : decode cL_law 169 = .ok (.invokevirtual 18, 3) := by decide +kernel
theorem dL_law_172 : decode cL_law 172 = .ok (.aload_n 2, 1) := by decide +kernel
theorem dL_law_173 : decode cL_law 173 = .ok (.aload_n 0, 1) := by decide +kernel
theorem dL_law_174 : decode cL_law 174 = .ok (.iload_n 3, 1) := by decide +kernel
theorem dL_law_175 : decode cL_law 175 = .ok (.iconst 1, 1) := by decide +kernel
theorem dL_law_176 : decode cL_law 176 = .ok (.iadd, 1) := by decide +kernel
theorem dL_law_177 : decode cL_law 177 = .ok (.iaload, 1) := by decide +kernel
theorem dL_law_178 : decode cL_law 178 = .ok (.aload_n 0, 1) := by decide +kernel
theorem dL_law_179 : decode cL_law 179 = .ok (.iload_n 3, 1) := by decide +kernel
theorem dL_law_180 : decode cL_law 180 = .ok (.iconst 2, 1) := by decide +kernel
theorem dL_law_181 : decode cL_law 181 = .ok (.iadd, 1) := by decide +kernel
theorem dL_law_182 : decode cL_law 182 = .ok (.iaload, 1) := by decide +kernel
theorem dL_law_183 : decode cL_law 183 = .ok (.aload_n 0, 1) := by decide +kernel
theorem dL_law_184 : decode cL_law 184 = .ok (.iload_n 3, 1) := by decide +kernel
theorem dL_law_185 : decode cL_law 185 = .ok (.iconst 3, 1) := by decide +kernel
theorem dL_law_186 : decode cL_law 186 = .ok (.iadd, 1) := by decide +kernel
theorem dL_law_187 : decode cL_law 187 = .ok (.iaload, 1) := by decide +kernel
theorem dL_law_188 : decode cL_law 188 = .ok (.invokevirtual 22, 3) := by decide +kernel
theorem dL_law_191 : decode cL_law 191 = .ok (.if_icmp .eq 413, 3) := by decide +kernel
theorem dL_law_194 : decode cL_law 194 = .ok (.iconst 0, 1) := by decide +kernel
theorem dL_law_195 : decode cL_law 195 = .ok (.ireturn, 1) := by decide +kernel
theorem dL_law_196 : decode cL_law 196 = .ok (.aload_n 1, 1) := by decide +kernel
theorem dL_law_197 : decode cL_law 197 = .ok (.aload_n 0, 1) := by decide +kernel
theorem dL_law_198 : decode cL_law 198 = .ok (.iload_n 3, 1) := by decide +kernel
theorem dL_law_199 : decode cL_law 199 = .ok (.iconst 1, 1) := by decide +kernel
theorem dL_law_200 : decode cL_law 200 = .ok (.iadd, 1) := by decide +kernel
theorem dL_law_201 : decode cL_law 201 = .ok (.iaload, 1) := by decide +kernel
theorem dL_law_202 : decode cL_law 202 = .ok (.aload_n 0, 1) := by decide +kernel
theorem dL_law_203 : decode cL_law 203 = .ok (.iload_n 3, 1) := by decide +kernel
theorem dL_law_204 : decode cL_law 204 = .ok (.iconst 2, 1) := by decide +kernel
theorem dL_law_205 : decode cL_law 205 = .ok (.iadd, 1) := by decide +kernel
theorem dL_law_206 : decode cL_law 206 = .ok (.iaload, 1) := by decide +kernel
theorem dL_law_207 : decode cL_law 207 = .ok (.aload_n 0, 1) := by decide +kernel
theorem dL_law_208 : decode cL_law 208 = .ok (.iload_n 3, 1) := by decide +kernel
theorem dL_law_209 : decode cL_law 209 = .ok (.iconst 3, 1) := by decide +kernel
theorem dL_law_210 : decode cL_law 210 = .ok (.iadd, 1) := by decide +kernel
theorem dL_law_211 : decode cL_law 211 = .ok (.iaload, 1) := by decide +kernel
theorem dL_law_212 : decode cL_law 212 = .ok (.invokevirtual 23, 3) := by decide +kernel
theorem dL_law_215 : decode cL_law 215 = .ok (.aload_n 2, 1) := by decide +kernel
theorem dL_law_216 : decode cL_law 216 = .ok (.aload_n 0, 1) := by decide +kernel
theorem dL_law_217 : decode cL_law 217 = .ok (.iload_n 3, 1) := by decide +kernel
theorem dL_law_218 : decode cL_law 218 = .ok (.iconst 1, 1) := by decide +kernel
theorem dL_law_219 : decode cL_law 219 = .ok (.iadd, 1) := by decide +kernel
theorem dL_law_220 : decode cL_law 220 = .ok (.iaload, 1) := by decide +kernel
theorem dL_law_221 : decode cL_law 221 = .ok (.aload_n 0, 1) := by decide +kernel
theorem dL_law_222 : decode cL_law 222 = .ok (.iload_n 3, 1) := by decide +kernel
theorem dL_law_223 : decode cL_law 223 = .ok (.iconst 2, 1) := by decide +kernel
theorem dL_law_224 : decode cL_law 224 = .ok (.iadd, 1) := by decide +kernel
theorem dL_law_225 : decode cL_law 225 = .ok (.iaload, 1) := by decide +kernel
theorem dL_law_226 : decode cL_law 226 = .ok (.aload_n 0, 1) := by decide +kernel
theorem dL_law_227 : decode cL_law 227 = .ok (.iload_n 3, 1) := by decide +kernel
theorem dL_law_228 : decode cL_law 228 = .ok (.iconst 3, 1) := by decide +kernel
theorem dL_law_229 : decode cL_law 229 = .ok (.iadd, 1) := by decide +kernel
theorem dL_law_230 : decode cL_law 230 = .ok (.iaload, 1) := by decide +kernel
theorem dL_law_231 : decode cL_law 231 = .ok (.invokevirtual 26, 3) := by decide +kernel
theorem dL_law_234 : decode cL_law 234 = .ok (.if_icmp .eq 370, 3) := by decide +kernel
theorem dL_law_237 : decode cL_law 237 = .ok (.iconst 0, 1) := by decide +kernel
theorem dL_law_238 : decode cL_law 238 = .ok (.ireturn, 1) := by decide +kernel
theorem dL_law_239 : decode cL_law 239 = .ok (.aload_n 1, 1) := by decide +kernel
theorem dL_law_240 : decode cL_law 240 = .ok (.aload_n 0, 1) := by decide +kernel
theorem dL_law_241 : decode cL_law 241 = .ok (.iload_n 3, 1) := by decide +kernel
theorem dL_law_242 : decode cL_law 242 = .ok (.iconst 1, 1) := by decide +kernel
theorem dL_law_243 : decode cL_law 243 = .ok (.iadd, 1) := by decide +kernel
theorem dL_law_244 : decode cL_law 244 = .ok (.iaload, 1) := by decide +kernel
theorem dL_law_245 : decode cL_law 245 = .ok (.aload_n 0, 1) := by decide +kernel
theorem dL_law_246 : decode cL_law 246 = .ok (.iload_n 3, 1) := by decide +kernel
theorem dL_law_247 : decode cL_law 247 = .ok (.iconst 2, 1) := by decide +kernel
theorem dL_law_248 : decode cL_law 248 = .ok (.iadd, 1) := by decide +kernel
theorem dL_law_249 : decode cL_law 249 = .ok (.iaload, 1) := by decide +kernel
theorem dL_law_250 : decode cL_law 250 = .ok (.aload_n 0, 1) := by decide +kernel
theorem dL_law_251 : decode cL_law 251 = .ok (.iload_n 3, 1) := by decide +kernel
theorem dL_law_252 : decode cL_law 252 = .ok (.iconst 3, 1) := by decide +kernel
theorem dL_law_253 : decode cL_law 253 = .ok (.iadd, 1) := by decide +kernel
theorem dL_law_254 : decode cL_law 254 = .ok (.iaload, 1) := by decide +kernel
theorem dL_law_255 : decode cL_law 255 = .ok (.invokevirtual 27, 3) := by decide +kernel
theorem dL_law_258 : decode cL_law 258 = .ok (.aload_n 2, 1) := by decide +kernel
theorem dL_law_259 : decode cL_law 259 = .ok (.aload_n 0, 1) := by decide +kernel
theorem dL_law_260 : decode cL_law 260 = .ok (.iload_n 3, 1) := by decide +kernel
theorem dL_law_261 : decode cL_law 261 = .ok (.iconst 1, 1) := by decide +kernel
theorem dL_law_262 : decode cL_law 262 = .ok (.iadd, 1) := by decide +kernel
theorem dL_law_263 : decode cL_law 263 = .ok (.iaload, 1) := by decide +kernel
theorem dL_law_264 : decode cL_law 264 = .ok (.aload_n 0, 1) := by decide +kernel
theorem dL_law_265 : decode cL_law 265 = .ok (.iload_n 3, 1) := by decide +kernel
theorem dL_law_266 : decode cL_law 266 = .ok (.iconst 2, 1) := by decide +kernel
theorem dL_law_267 : decode cL_law 267 = .ok (.iadd, 1) := by decide +kernel
theorem dL_law_268 : decode cL_law 268 = .ok (.iaload, 1) := by decide +kernel
theorem dL_law_269 : decode cL_law 269 = .ok (.aload_n 0, 1) := by decide +kernel
theorem dL_law_270 : decode cL_law 270 = .ok (.iload_n 3, 1) := by decide +kernel
theorem dL_law_271 : decode cL_law 271 = .ok (.iconst 3, 1) := by decide +kernel
theorem dL_law_272 : decode cL_law 272 = .ok (.iadd, 1) := by decide +kernel
theorem dL_law_273 : decode cL_law 273 = .ok (.iaload, 1) := by decide +kernel
theorem dL_law_274 : decode cL_law 274 = .ok (.invokevirtual 30, 3) := by decide +kernel
theorem dL_law_277 : decode cL_law 277 = .ok (.if_icmp .eq 327, 3) := by decide +kernel
theorem dL_law_280 : decode cL_law 280 = .ok (.iconst 0, 1) := by decide +kernel
theorem dL_law_281 : decode cL_law 281 = .ok (.ireturn, 1) := by decide +kernel
theorem dL_law_282 : decode cL_law 282 = .ok (.aload_n 1, 1) := by decide +kernel
theorem dL_law_283 : decode cL_law 283 = .ok (.aload_n 0, 1) := by decide +kernel
theorem dL_law_284 : decode cL_law 284 = .ok (.iload_n 3, 1) := by decide +kernel
theorem dL_law_285 : decode cL_law 285 = .ok (.iconst 1, 1) := by decide +kernel
theorem dL_law_286 : decode cL_law 286 = .ok (.iadd, 1) := by decide +kernel
theorem dL_law_287 : decode cL_law 287 = .ok (.iaload, 1) := by decide +kernel
theorem dL_law_288 : decode cL_law 288 = .ok (.aload_n 0, 1) := by decide +kernel
theorem dL_law_289 : decode cL_law 289 = .ok (.iload_n 3, 1) := by decide +kernel
theorem dL_law_290 : decode cL_law 290 = .ok (.iconst 2, 1) := by decide +kernel
theorem dL_law_291 : decode cL_law 291 = .ok (.iadd, 1) := by decide +kernel
theorem dL_law_292 : decode cL_law 292 = .ok (.iaload, 1) := by decide +kernel
theorem dL_law_293 : decode cL_law 293 = .ok (.invokevirtual 31, 3) := by decide +kernel
theorem dL_law_296 : decode cL_law 296 = .ok (.aload_n 2, 1) := by decide +kernel
theorem dL_law_297 : decode cL_law 297 = .ok (.aload_n 0, 1) := by decide +kernel
theorem dL_law_298 : decode cL_law 298 = .ok (.iload_n 3, 1) := by decide +kernel
theorem dL_law_299 : decode cL_law 299 = .ok (.iconst 1, 1) := by decide +kernel
theorem dL_law_300 : decode cL_law 300 = .ok (.iadd, 1) := by decide +kernel
theorem dL_law_301 : decode cL_law 301 = .ok (.iaload, 1) := by decide +kernel
theorem dL_law_302 : decode cL_law 302 = .ok (.aload_n 0, 1) := by decide +kernel
theorem dL_law_303 : decode cL_law 303 = .ok (.iload_n 3, 1) := by decide +kernel
theorem dL_law_304 : decode cL_law 304 = .ok (.iconst 2, 1) := by decide +kernel
theorem dL_law_305 : decode cL_law 305 = .ok (.iadd, 1) := by decide +kernel
theorem dL_law_306 : decode cL_law 306 = .ok (.iaload, 1) := by decide +kernel
theorem dL_law_307 : decode cL_law 307 = .ok (.invokevirtual 34, 3) := by decide +kernel
theorem dL_law_310 : decode cL_law 310 = .ok (.if_icmp .eq 294, 3) := by decide +kernel
theorem dL_law_313 : decode cL_law 313 = .ok (.iconst 0, 1) := by decide +kernel
theorem dL_law_314 : decode cL_law 314 = .ok (.ireturn, 1) := by decide +kernel
theorem dL_law_315 : decode cL_law 315 = .ok (.aload_n 1, 1) := by decide +kernel
theorem dL_law_316 : decode cL_law 316 = .ok (.aload_n 0, 1) := by decide +kernel
theorem dL_law_317 : decode cL_law 317 = .ok (.iload_n 3, 1) := by decide +kernel
theorem dL_law_318 : decode cL_law 318 = .ok (.iconst 1, 1) := by decide +kernel
theorem dL_law_319 : decode cL_law 319 = .ok (.iadd, 1) := by decide +kernel
theorem dL_law_320 : decode cL_law 320 = .ok (.iaload, 1) := by decide +kernel
theorem dL_law_321 : decode cL_law 321 = .ok (.invokevirtual 35, 3) := by decide +kernel
theorem dL_law_324 : decode cL_law 324 = .ok (.aload_n 2, 1) := by decide +kernel
theorem dL_law_325 : decode cL_law 325 = .ok (.aload_n 0, 1) := by decide +kernel
theorem dL_law_326 : decode cL_law 326 = .ok (.iload_n 3, 1) := by decide +kernel
theorem dL_law_327 : decode cL_law 327 = .ok (.iconst 1, 1) := by decide +kernel
theorem dL_law_328 : decode cL_law 328 = .ok (.iadd, 1) := by decide +kernel
theorem dL_law_329 : decode cL_law 329 = .ok (.iaload, 1) := by decide +kernel
theorem dL_law_330 : decode cL_law 330 = .ok (.invokevirtual 39, 3) := by decide +kernel
theorem dL_law_333 : decode cL_law 333 = .ok (.if_icmp .eq 271, 3) := by decide +kernel
theorem dL_law_336 : decode cL_law 336 = .ok (.iconst 0, 1) := by decide +kernel
theorem dL_law_337 : decode cL_law 337 = .ok (.ireturn, 1) := by decide +kernel
theorem dL_law_338 : decode cL_law 338 = .ok (.aload_n 1, 1) := by decide +kernel
theorem dL_law_339 : decode cL_law 339 = .ok (.aload_n 0, 1) := by decide +kernel
theorem dL_law_340 : decode cL_law 340 = .ok (.iload_n 3, 1) := by decide +kernel
theorem dL_law_341 : decode cL_law 341 = .ok (.iconst 1, 1) := by decide +kernel
theorem dL_law_342 : decode cL_law 342 = .ok (.iadd, 1) := by decide +kernel
theorem dL_law_343 : decode cL_law 343 = .ok (.iaload, 1) := by decide +kernel
theorem dL_law_344 : decode cL_law 344 = .ok (.aload_n 0, 1) := by decide +kernel
theorem dL_law_345 : decode cL_law 345 = .ok (.iload_n 3, 1) := by decide +kernel
theorem dL_law_346 : decode cL_law 346 = .ok (.iconst 2, 1) := by decide +kernel
theorem dL_law_347 : decode cL_law 347 = .ok (.iadd, 1) := by decide +kernel
theorem dL_law_348 : decode cL_law 348 = .ok (.iaload, 1) := by decide +kernel
theorem dL_law_349 : decode cL_law 349 = .ok (.aload_n 0, 1) := by decide +kernel
theorem dL_law_350 : decode cL_law 350 = .ok (.iload_n 3, 1) := by decide +kernel
theorem dL_law_351 : decode cL_law 351 = .ok (.iconst 3, 1) := by decide +kernel
theorem dL_law_352 : decode cL_law 352 = .ok (.iadd, 1) := by decide +kernel
theorem dL_law_353 : decode cL_law 353 = .ok (.iaload, 1) := by decide +kernel
theorem dL_law_354 : decode cL_law 354 = .ok (.invokevirtual 40, 3) := by decide +kernel
theorem dL_law_357 : decode cL_law 357 = .ok (.aload_n 2, 1) := by decide +kernel
theorem dL_law_358 : decode cL_law 358 = .ok (.aload_n 0, 1) := by decide +kernel
theorem dL_law_359 : decode cL_law 359 = .ok (.iload_n 3, 1) := by decide +kernel
theorem dL_law_360 : decode cL_law 360 = .ok (.iconst 1, 1) := by decide +kernel
theorem dL_law_361 : decode cL_law 361 = .ok (.iadd, 1) := by decide +kernel
theorem dL_law_362 : decode cL_law 362 = .ok (.iaload, 1) := by decide +kernel
theorem dL_law_363 : decode cL_law 363 = .ok (.aload_n 0, 1) := by decide +kernel
theorem dL_law_364 : decode cL_law 364 = .ok (.iload_n 3, 1) := by decide +kernel
theorem dL_law_365 : decode cL_law 365 = .ok (.iconst 2, 1) := by decide +kernel
theorem dL_law_366 : decode cL_law 366 = .ok (.iadd, 1) := by decide +kernel
theorem dL_law_367 : decode cL_law 367 = .ok (.iaload, 1) := by decide +kernel
theorem dL_law_368 : decode cL_law 368 = .ok (.aload_n 0, 1) := by decide +kernel
theorem dL_law_369 : decode cL_law 369 = .ok (.iload_n 3, 1) := by decide +kernel
theorem dL_law_370 : decode cL_law 370 = .ok (.iconst 3, 1) := by decide +kernel
theorem dL_law_371 : decode cL_law 371 = .ok (.iadd, 1) := by decide +kernel
theorem dL_law_372 : decode cL_law 372 = .ok (.iaload, 1) := by decide +kernel
theorem dL_law_373 : decode cL_law 373 = .ok (.invokevirtual 43, 3) := by decide +kernel
theorem dL_law_376 : decode cL_law 376 = .ok (.if_icmp .eq 228, 3) := by decide +kernel
theorem dL_law_379 : decode cL_law 379 = .ok (.iconst 0, 1) := by decide +kernel
theorem dL_law_380 : decode cL_law 380 = .ok (.ireturn, 1) := by decide +kernel
theorem dL_law_381 : decode cL_law 381 = .ok (.aload_n 1, 1) := by decide +kernel
theorem dL_law_382 : decode cL_law 382 = .ok (.aload_n 0, 1) := by decide +kernel
theorem dL_law_383 : decode cL_law 383 = .ok (.iload_n 3, 1) := by decide +kernel
theorem dL_law_384 : decode cL_law 384 = .ok (.iconst 1, 1) := by decide +kernel
theorem dL_law_385 : decode cL_law 385 = .ok (.iadd, 1) := by decide +kernel
theorem dL_law_386 : decode cL_law 386 = .ok (.iaload, 1) := by decide +kernel
theorem dL_law_387 : decode cL_law 387 = .ok (.aload_n 0, 1) := by decide +kernel
theorem dL_law_388 : decode cL_law 388 = .ok (.iload_n 3, 1) := by decide +kernel
theorem dL_law_389 : decode cL_law 389 = .ok (.iconst 2, 1) := by decide +kernel
theorem dL_law_390 : decode cL_law 390 = .ok (.iadd, 1) := by decide +kernel
theorem dL_law_391 : decode cL_law 391 = .ok (.iaload, 1) := by decide +kernel
theorem dL_law_392 : decode cL_law 392 = .ok (.invokevirtual 44, 3) := by decide +kernel
theorem dL_law_395 : decode cL_law 395 = .ok (.aload_n 2, 1) := by decide +kernel
theorem dL_law_396 : decode cL_law 396 = .ok (.aload_n 0, 1) := by decide +kernel
theorem dL_law_397 : decode cL_law 397 = .ok (.iload_n 3, 1) := by decide +kernel
theorem dL_law_398 : decode cL_law 398 = .ok (.iconst 1, 1) := by decide +kernel
theorem dL_law_399 : decode cL_law 399 = .ok (.iadd, 1) := by decide +kernel
theorem dL_law_400 : decode cL_law 400 = .ok (.iaload, 1) := by decide +kernel
theorem dL_law_401 : decode cL_law 401 = .ok (.aload_n 0, 1) := by decide +kernel
theorem dL_law_402 : decode cL_law 402 = .ok (.iload_n 3, 1) := by decide +kernel
theorem dL_law_403 : decode cL_law 403 = .ok (.iconst 2, 1) := by decide +kernel
theorem dL_law_404 : decode cL_law 404 = .ok (.iadd, 1) := by decide +kernel
theorem dL_law_405 : decode cL_law 405 = .ok (.iaload, 1) := by decide +kernel
theorem dL_law_406 : decode cL_law 406 = .ok (.invokevirtual 47, 3) := by decide +kernel
theorem dL_law_409 : decode cL_law 409 = .ok (.if_icmp .eq 195, 3) := by decide +kernel
theorem dL_law_412 : decode cL_law 412 = .ok (.iconst 0, 1) := by decide +kernel
theorem dL_law_413 : decode cL_law 413 = .ok (.ireturn, 1) := by decide +kernel
theorem dL_law_414 : decode cL_law 414 = .ok (.aload_n 1, 1) := by decide +kernel
theorem dL_law_415 : decode cL_law 415 = .ok (.invokevirtual 48, 3) := by decide +kernel
theorem dL_law_418 : decode cL_law 418 = .ok (.aload_n 2, 1) := by decide +kernel
theorem dL_law_419 : decode cL_law 419 = .ok (.invokevirtual 52, 3) := by decide +kernel
theorem dL_law_422 : decode cL_law 422 = .ok (.if_icmp .eq 182, 3) := by decide +kernel
theorem dL_law_425 : decode cL_law 425 = .ok (.iconst 0, 1) := by decide +kernel
theorem dL_law_426 : decode cL_law 426 = .ok (.ireturn, 1) := by decide +kernel
theorem dL_law_427 : decode cL_law 427 = .ok (.aload_n 1, 1) := by decide +kernel
theorem dL_law_428 : decode cL_law 428 = .ok (.aload_n 0, 1) := by decide +kernel
theorem dL_law_429 : decode cL_law 429 = .ok (.iload_n 3, 1) := by decide +kernel
theorem dL_law_430 : decode cL_law 430 = .ok (.iconst 1, 1) := by decide +kernel
theorem dL_law_431 : decode cL_law 431 = .ok (.iadd, 1) := by decide +kernel
theorem dL_law_432 : decode cL_law 432 = .ok (.iaload, 1) := by decide +kernel
theorem dL_law_433 : decode cL_law 433 = .ok (.invokevirtual 53, 3) := by decide +kernel
theorem dL_law_436 : decode cL_law 436 = .ok (.aload_n 2, 1) := by decide +kernel
theorem dL_law_437 : decode cL_law 437 = .ok (.aload_n 0, 1) := by decide +kernel
theorem dL_law_438 : decode cL_law 438 = .ok (.iload_n 3, 1) := by decide +kernel
theorem dL_law_439 : decode cL_law 439 = .ok (.iconst 1, 1) := by decide +kernel
theorem dL_law_440 : decode cL_law 440 = .ok (.iadd, 1) := by decide +kernel
theorem dL_law_441 : decode cL_law 441 = .ok (.iaload, 1) := by decide +kernel
theorem dL_law_442 : decode cL_law 442 = .ok (.invokevirtual 56, 3) := by decide +kernel
theorem dL_law_445 : decode cL_law 445 = .ok (.if_icmp .eq 159, 3) := by decide +kernel
theorem dL_law_448 : decode cL_law 448 = .ok (.iconst 0, 1) := by decide +kernel
theorem dL_law_449 : decode cL_law 449 = .ok (.ireturn, 1) := by decide +kernel
theorem dL_law_450 : decode cL_law 450 = .ok (.aload_n 1, 1) := by decide +kernel
theorem dL_law_451 : decode cL_law 451 = .ok (.aload_n 0, 1) := by decide +kernel
theorem dL_law_452 : decode cL_law 452 = .ok (.iload_n 3, 1) := by decide +kernel
theorem dL_law_453 : decode cL_law 453 = .ok (.iconst 1, 1) := by decide +kernel
theorem dL_law_454 : decode cL_law 454 = .ok (.iadd, 1) := by decide +kernel
theorem dL_law_455 : decode cL_law 455 = .ok (.iaload, 1) := by decide +kernel
theorem dL_law_456 : decode cL_law 456 = .ok (.invokevirtual 57, 3) := by decide +kernel
theorem dL_law_459 : decode cL_law 459 = .ok (.aload_n 2, 1) := by decide +kernel
theorem dL_law_460 : decode cL_law 460 = .ok (.aload_n 0, 1) := by decide +kernel
theorem dL_law_461 : decode cL_law 461 = .ok (.iload_n 3, 1) := by decide +kernel
theorem dL_law_462 : decode cL_law 462 = .ok (.iconst 1, 1) := by decide +kernel
theorem dL_law_463 : decode cL_law 463 = .ok (.iadd, 1) := by decide +kernel
theorem dL_law_464 : decode cL_law 464 = .ok (.iaload, 1) := by decide +kernel
theorem dL_law_465 : decode cL_law 465 = .ok (.invokevirtual 60, 3) := by decide +kernel
theorem dL_law_468 : decode cL_law 468 = .ok (.if_icmp .eq 136, 3) := by decide +kernel
theorem dL_law_471 : decode cL_law 471 = .ok (.iconst 0, 1) := by decide +kernel
theorem dL_law_472 : decode cL_law 472 = .ok (.ireturn, 1) := by decide +kernel
theorem dL_law_473 : decode cL_law 473 = .ok (.aload_n 1, 1) := by decide +kernel
theorem dL_law_474 : decode cL_law 474 = .ok (.aload_n 0, 1) := by decide +kernel
theorem dL_law_475 : decode cL_law 475 = .ok (.iload_n 3, 1) := by decide +kernel
theorem dL_law_476 : decode cL_law 476 = .ok (.iconst 1, 1) := by decide +kernel
theorem dL_law_477 : decode cL_law 477 = .ok (.iadd, 1) := by decide +kernel
theorem dL_law_478 : decode cL_law 478 = .ok (.iaload, 1) := by decide +kernel
theorem dL_law_479 : decode cL_law 479 = .ok (.invokevirtual 61, 3) := by decide +kernel
theorem dL_law_482 : decode cL_law 482 = .ok (.aload_n 2, 1) := by decide +kernel
theorem dL_law_483 : decode cL_law 483 = .ok (.aload_n 0, 1) := by decide +kernel
theorem dL_law_484 : decode cL_law 484 = .ok (.iload_n 3, 1) := by decide +kernel
theorem dL_law_485 : decode cL_law 485 = .ok (.iconst 1, 1) := by decide +kernel
theorem dL_law_486 : decode cL_law 486 = .ok (.iadd, 1) := by decide +kernel
theorem dL_law_487 : decode cL_law 487 = .ok (.iaload, 1) := by decide +kernel
theorem dL_law_488 : decode cL_law 488 = .ok (.invokevirtual 64, 3) := by decide +kernel
theorem dL_law_491 : decode cL_law 491 = .ok (.if_icmp .eq 113, 3) := by decide +kernel
theorem dL_law_494 : decode cL_law 494 = .ok (.iconst 0, 1) := by decide +kernel
theorem dL_law_495 : decode cL_law 495 = .ok (.ireturn, 1) := by decide +kernel
theorem dL_law_496 : decode cL_law 496 = .ok (.aload_n 1, 1) := by decide +kernel
theorem dL_law_497 : decode cL_law 497 = .ok (.invokevirtual 65, 3) := by decide +kernel
theorem dL_law_500 : decode cL_law 500 = .ok (.aload_n 2, 1) := by decide +kernel
theorem dL_law_501 : decode cL_law 501 = .ok (.invokevirtual 68, 3) := by decide +kernel
theorem dL_law_504 : decode cL_law 504 = .ok (.if_icmp .eq 100, 3) := by decide +kernel
theorem dL_law_507 : decode cL_law 507 = .ok (.iconst 0, 1) := by decide +kernel
theorem dL_law_508 : decode cL_law 508 = .ok (.ireturn, 1) := by decide +kernel
theorem dL_law_509 : decode cL_law 509 = .ok (.aload_n 1, 1) := by decide +kernel
theorem dL_law_510 : decode cL_law 510 = .ok (.invokevirtual 69, 3) := by decide +kernel
theorem dL_law_513 : decode cL_law 513 = .ok (.aload_n 2, 1) := by decide +kernel
theorem dL_law_514 : decode cL_law 514 = .ok (.invokevirtual 72, 3) := by decide +kernel
theorem dL_law_517 : decode cL_law 517 = .ok (.if_icmp .eq 87, 3) := by decide +kernel
theorem dL_law_520 : decode cL_law 520 = .ok (.iconst 0, 1) := by decide +kernel
theorem dL_law_521 : decode cL_law 521 = .ok (.ireturn, 1) := by decide +kernel
theorem dL_law_522 : decode cL_law 522 = .ok (.aload_n 1, 1) := by decide +kernel
theorem dL_law_523 : decode cL_law 523 = .ok (.aload_n 0, 1) := by decide +kernel
theorem dL_law_524 : decode cL_law 524 = .ok (.iload_n 3, 1) := by decide +kernel
theorem dL_law_525 : decode cL_law 525 = .ok (.iconst 1, 1) := by decide +kernel
theorem dL_law_526 : decode cL_law 526 = .ok (.iadd, 1) := by decide +kernel
theorem dL_law_527 : decode cL_law 527 = .ok (.iaload, 1) := by decide +kernel
theorem dL_law_528 : decode cL_law 528 = .ok (.invokevirtual 73, 3) := by decide +kernel
theorem dL_law_531 : decode cL_law 531 = .ok (.aload_n 2, 1) := by decide +kernel
theorem dL_law_532 : decode cL_law 532 = .ok (.aload_n 0, 1) := by decide +kernel
theorem dL_law_533 : decode cL_law 533 = .ok (.iload_n 3, 1) := by decide +kernel
theorem dL_law_534 : decode cL_law 534 = .ok (.iconst 1, 1) := by decide +kernel
theorem dL_law_535 : decode cL_law 535 = .ok (.iadd, 1) := by decide +kernel
theorem dL_law_536 : decode cL_law 536 = .ok (.iaload, 1) := by decide +kernel
theorem dL_law_537 : decode cL_law 537 = .ok (.invokevirtual 76, 3) := by decide +kernel
theorem dL_law_540 : decode cL_law 540 = .ok (.if_icmp .eq 64, 3) := by decide +kernel
theorem dL_law_543 : decode cL_law 543 = .ok (.iconst 0, 1) := by decide +kernel
theorem dL_law_544 : decode cL_law 544 = .ok (.ireturn, 1) := by decide +kernel
theorem dL_law_545 : decode cL_law 545 = .ok (.aload_n 1, 1) := by decide +kernel
theorem dL_law_546 : decode cL_law 546 = .ok (.aload_n 0, 1) := by decide +kernel
theorem dL_law_547 : decode cL_law 547 = .ok (.iload_n 3, 1) := by decide +kernel
theorem dL_law_548 : decode cL_law 548 = .ok (.iconst 1, 1) := by decide +kernel
theorem dL_law_549 : decode cL_law 549 = .ok (.iadd, 1) := by decide +kernel
theorem dL_law_550 : decode cL_law 550 = .ok (.iaload, 1) := by decide +kernel
theorem dL_law_551 : decode cL_law 551 = .ok (.invokevirtual 77, 3) := by decide +kernel
theorem dL_law_554 : decode cL_law 554 = .ok (.aload_n 2, 1) := by decide +kernel
theorem dL_law_555 : decode cL_law 555 = .ok (.aload_n 0, 1) := by decide +kernel
theorem dL_law_556 : decode cL_law 556 = .ok (.iload_n 3, 1) := by decide +kernel
theorem dL_law_557 : decode cL_law 557 = .ok (.iconst 1, 1) := by decide +kernel
theorem dL_law_558 : decode cL_law 558 = .ok (.iadd, 1) := by decide +kernel
theorem dL_law_559 : decode cL_law 559 = .ok (.iaload, 1) := by decide +kernel
theorem dL_law_560 : decode cL_law 560 = .ok (.invokevirtual 80, 3) := by decide +kernel
theorem dL_law_563 : decode cL_law 563 = .ok (.if_icmp .eq 41, 3) := by decide +kernel
theorem dL_law_566 : decode cL_law 566 = .ok (.iconst 0, 1) := by decide +kernel
theorem dL_law_567 : decode cL_law 567 = .ok (.ireturn, 1) := by decide +kernel
theorem dL_law_568 : decode cL_law 568 = .ok (.aload_n 1, 1) := by decide +kernel
theorem dL_law_569 : decode cL_law 569 = .ok (.aload_n 0, 1) := by decide +kernel
theorem dL_law_570 : decode cL_law 570 = .ok (.iload_n 3, 1) := by decide +kernel
theorem dL_law_571 : decode cL_law 571 = .ok (.iconst 1, 1) := by decide +kernel
theorem dL_law_572 : decode cL_law 572 = .ok (.iadd, 1) := by decide +kernel
theorem dL_law_573 : decode cL_law 573 = .ok (.iaload, 1) := by decide +kernel
theorem dL_law_574 : decode cL_law 574 = .ok (.invokevirtual 81, 3) := by decide +kernel
theorem dL_law_577 : decode cL_law 577 = .ok (.aload_n 2, 1) := by decide +kernel
theorem dL_law_578 : decode cL_law 578 = .ok (.aload_n 0, 1) := by decide +kernel
theorem dL_law_579 : decode cL_law 579 = .ok (.iload_n 3, 1) := by decide +kernel
theorem dL_law_580 : decode cL_law 580 = .ok (.iconst 1, 1) := by decide +kernel
theorem dL_law_581 : decode cL_law 581 = .ok (.iadd, 1) := by decide +kernel
theorem dL_law_582 : decode cL_law 582 = .ok (.iaload, 1) := by decide +kernel
theorem dL_law_583 : decode cL_law 583 = .ok (.invokevirtual 84, 3) := by decide +kernel
theorem dL_law_586 : decode cL_law 586 = .ok (.if_icmp .eq 18, 3) := by decide +kernel
theorem dL_law_589 : decode cL_law 589 = .ok (.iconst 0, 1) := by decide +kernel
theorem dL_law_590 : decode cL_law 590 = .ok (.ireturn, 1) := by decide +kernel
theorem dL_law_591 : decode cL_law 591 = .ok (.aload_n 1, 1) := by decide +kernel
theorem dL_law_592 : decode cL_law 592 = .ok (.invokevirtual 85, 3) := by decide +kernel
theorem dL_law_595 : decode cL_law 595 = .ok (.aload_n 2, 1) := by decide +kernel
theorem dL_law_596 : decode cL_law 596 = .ok (.invokevirtual 88, 3) := by decide +kernel
theorem dL_law_599 : decode cL_law 599 = .ok (.if_icmp .eq 5, 3) := by decide +kernel
theorem dL_law_602 : decode cL_law 602 = .ok (.iconst 0, 1) := by decide +kernel
theorem dL_law_603 : decode cL_law 603 = .ok (.ireturn, 1) := by decide +kernel
theorem dL_law_604 : decode cL_law 604 = .ok (.iinc 3 4, 3) := by decide +kernel
theorem dL_law_607 : decode cL_law 607 = .ok (.goto (-589), 3) := by decide +kernel
theorem dL_law_610 : decode cL_law 610 = .ok (.iconst 1, 1) := by decide +kernel
theorem dL_law_611 : decode cL_law 611 = .ok (.ireturn, 1) := by decide +kernel
end
section
/-! BASE: one judgement for the methods of a class all of whose fields are int arrays; locals are ints -/
abbrev vwCl : List vw_C := [(RX0, TX0, 10), (RX1, TX1, 4)]
abbrev il_S : Type := Nat → Nat → Int32
def sU (S : il_S) (k j : Nat) (x : Int32) : il_S := fun a => if a = k then upd (S k) j x else S a
abbrev il_G : Type := vw_C × Nat × (Nat → Nat)
def lnX (k : Nat) : Nat := match k with
  | 0 => 7
  | 4 => 60
  | 5 => 10
  | 6 => 10
  | 7 => 10
  | _ => 48
def lnM (k : Nat) : Nat := match k with
  | 0 => 48
  | 1 => 48
  | 2 => 6
  | _ => 60
abbrev GX : il_G := ((RX0, TX0, 10), 0, lnX)
abbrev GM : il_G := ((RX1, TX1, 4), 1, lnM)
def il_ok (G : il_G) : Prop := vwCl[G.2.1]? = some G.1 ∧ (∀ w ∈ u_ws G.1.1 G.1.2.1 G.1.2.2, w ∈ lw_all) ∧ ∀ k, G.2.2 k < 2 ^ 31
theorem GX_ok : il_ok GX := ⟨rfl, in_X0, fun k => by show lnX k < 2 ^ 31; unfold lnX; split <;> decide⟩
theorem GM_ok : il_ok GM := ⟨rfl, in_X1, fun k => by show lnM k < 2 ^ 31; unfold lnM; split <;> decide⟩
/-- an object of the class and its arrays, at the addresses h 0, h 1 .. -/
def gw (G : il_G) (h : Nat → Nat) (cA : ClassId) (S : il_S) : va_W := ((h 0, .inr (G.2.1, (List.range G.1.2.2).map (fun k => Value.ref (h (k + 1))))) : Nat × va_E) :: (List.range G.1.2.2).map (fun k => ((h (k + 1), .inl (cA, G.2.2 k, .inl (S k))) : Nat × va_E))
theorem gw_0 {G : il_G} {h : Nat → Nat} {cA : ClassId} {S : il_S} : (gw G h cA S)[0]? = some (h 0, .inr (G.2.1, (List.range G.1.2.2).map (fun k => Value.ref (h (k + 1))))) := rfl
theorem gw_k {G : il_G} {h : Nat → Nat} {cA : ClassId} {S : il_S} {k : Nat} (hk : k < G.1.2.2) : (gw G h cA S)[k + 1]? = some (h (k + 1), .inl (cA, G.2.2 k, .inl (S k))) := by
  simp [gw, hk]
theorem gw_set {G : il_G} {h : Nat → Nat} {cA : ClassId} {S : il_S} {k j : Nat} {x : Int32} (hk : k < G.1.2.2) : (gw G h cA S).set (k + 1) (h (k + 1), .inl (cA, G.2.2 k, .inl (upd (S k) j x))) = gw G h cA (sU S k j x) := by
  unfold gw
  rw [List.set_cons_succ]
  congr 1
  apply List.ext_getElem?
  intro i
  rw [List.getElem?_set]
  by_cases hi : k = i
  · subst hi
    simp [hk, sU]
  · simp only [if_neg hi, List.getElem?_map]
    by_cases hn : i < G.1.2.2
    · simp [List.getElem?_range hn, sU, Ne.symm hi]
    · rw [List.getElem?_eq_none (l := List.range G.1.2.2) (by simpa using hn)]
      rfl
theorem va_D_addr {A : Nat → Prop} {ws ws' : va_W} (he : ws.map Prod.fst = ws'.map Prod.fst) (h : va_D A ws) : va_D A ws' := by
  have key : ∀ (k : Nat) (q : Nat × va_E), ws'[k]? = some q → ∃ q0, ws[k]? = some q0 ∧ q0.1 = q.1 := by
    intro k q hk
    have h1 : (ws'.map Prod.fst)[k]? = some q.1 := by rw [List.getElem?_map, hk]; rfl
    rw [← he, List.getElem?_map] at h1
    cases hw : ws[k]? with
    | none => rw [hw] at h1; cases h1
    | some q0 => rw [hw] at h1; exact ⟨q0, rfl, Option.some.inj h1⟩
  refine ⟨fun i j x y hi hj hxy => ?_, fun k q hk => ?_⟩
  · obtain ⟨x0, a1, a2⟩ := key i x hi
    obtain ⟨y0, b1, b2⟩ := key j y hj
    exact h.1 i j x0 y0 a1 b1 (a2.trans (hxy.trans b2.symm))
  · obtain ⟨q0, a1, a2⟩ := key k q hk
    rw [← a2]
    exact h.2 k q0 a1
theorem gw_addr {G : il_G} {h : Nat → Nat} {cA : ClassId} (S S' : il_S) : (gw G h cA S).map Prod.fst = (gw G h cA S').map Prod.fst := by
  simp [gw]
/-- where a method runs -/
abbrev il_X : Type := ((Nat → Nat) × ClassId × va_G × (Nat → Prop)) × (Program × Launch × Env × Room × State) × (MethodId × Array Value × List Frame × Method × Code) × (Nat × Nat)
def xh (X : il_X) : Nat → Nat := X.1.1
def xc (X : il_X) : ClassId := X.1.2.1
def xD (X : il_X) : va_G := X.1.2.2.1
def xA (X : il_X) : Nat → Prop := X.1.2.2.2
def xp (X : il_X) : Program := X.2.1.1
def xl (X : il_X) : Launch := X.2.1.2.1
def xe (X : il_X) : Env := X.2.1.2.2.1
def xR (X : il_X) : Room := X.2.1.2.2.2.1
def xs (X : il_X) : State := X.2.1.2.2.2.2
def xm (X : il_X) : MethodId := X.2.2.1.1
def xa (X : il_X) : Array Value := X.2.2.1.2.1
def xb (X : il_X) : List Frame := X.2.2.1.2.2.1
def xt (X : il_X) : Method := X.2.2.1.2.2.2.1
def xo (X : il_X) : Code := X.2.2.1.2.2.2.2
def xy (X : il_X) : Nat := X.2.2.2.1
def xz (X : il_X) : Nat := X.2.2.2.2
/-- what holds all through a method of class G with the bytes cc -/
def ig_C (G : il_G) (cc : ByteArray) (nL : Nat) (rm : Room) (ret : Option FieldType) (X : il_X) : Prop :=
  CallFix (xp X) (xm X) (xo X) cc nL (xs X) (xa X) lw_all G.1.1 ∧ va_K (xD X) vwCl [(xc X, .int)] (xs X) ∧ (∀ S, va_D (xA X) (gw G (xh X) (xc X) S)) ∧ (∀ q, (xs X).heap.size ≤ q → xA X q) ∧ xR X = rm ∧ (xt X).sig.returnType = ret ∧ (xt X).locks = false ∧ il_ok G ∧ xy X ≤ rm.cells ∧ xz X ≤ rm.slots
/-- the locals: this, and ints -/
def ig_L (ls : Array Slot) (nL a : Nat) (lv : List Int32) : Prop := ls.size = nL ∧ lv_wf ls ∧ ls[0]? = some (.val (.ref a)) ∧ ∀ (i : Nat) (x : Int32), lv[i]? = some x → ls[i + 1]? = some (.val (.int x))
def ig_W (G : il_G) (nL : Nat) (X : il_X) (Q : State → Prop) (S : il_S) (pc : Nat) (lv : List Int32) (st : List Value) : Prop :=
  ∀ (H : Heap) (locs : List Loc) (ls : Array Slot), va_P (xD X) vwCl (gw G (xh X) (xc X) S) H → va_S (xA X) (xs X).heap H locs → ig_L ls nL (xh X 0) lv →
    W (xp X) (xl X) (xe X) (xR X) (xs X) (xm X) (xa X) (xb X) (xt X) (xo X) H locs (xy X) (xz X) Q (F0 (xm X) pc ls st)
def lst (l : List Int32) (i : Nat) (x : Int32) : List Int32 := l.take i ++ x :: l.drop (i + 1)
theorem lst_at {l : List Int32} {i : Nat} {x : Int32} (hi : i ≤ l.length) {j : Nat} {y : Int32} (h : (lst l i x)[j]? = some y) : (j = i ∧ y = x) ∨ (j ≠ i ∧ l[j]? = some y) := by
  unfold lst at h
  have hl : (l.take i).length = i := by rw [List.length_take]; omega
  by_cases h1 : j < i
  · rw [List.getElem?_append_left (by omega), List.getElem?_take_of_lt h1] at h
    exact Or.inr ⟨by omega, h⟩
  · rw [List.getElem?_append_right (by omega), hl] at h
    by_cases h2 : j = i
    · subst h2
      rw [Nat.sub_self, List.getElem?_cons_zero] at h
      exact Or.inl ⟨rfl, (Option.some.inj h).symm⟩
    · obtain ⟨d, hd⟩ : ∃ d, j = i + 1 + d := ⟨j - (i + 1), by omega⟩
      rw [show j - i = d + 1 by omega, List.getElem?_cons_succ, List.getElem?_drop] at h
      exact Or.inr ⟨h2, by rw [hd]; exact h⟩
def il_en (a : Nat) (lv : List Int32) : List (Nat × Value) := (0, .ref a) :: (List.range lv.length).map (fun j => (j + 1, .int (lv.getD j 0)))
theorem il_en_mem {a : Nat} {lv : List Int32} {i : Nat} {x : Int32} (h : lv[i]? = some x) : (i + 1, Value.int x) ∈ il_en a lv := by
  have hi : i < lv.length := (List.getElem?_eq_some_iff.mp h).1
  refine List.mem_cons_of_mem _ (List.mem_map.mpr ⟨i, List.mem_range.mpr hi, ?_⟩)
  rw [List.getD_eq_getElem?_getD, h]
  rfl
theorem ig_L.has {ls : Array Slot} {nL a : Nat} {lv : List Int32} (h : ig_L ls nL a lv) : lv_has ls nL (il_en a lv) := by
  refine ⟨h.1, h.2.1, fun q hq => ?_⟩
  rcases List.mem_cons.mp hq with e | e
  · rw [e]; exact h.2.2.1
  · obtain ⟨j, hj, e⟩ := List.mem_map.mp e
    rw [← e]
    have hj := List.mem_range.mp hj
    refine h.2.2.2 j _ ?_
    rw [List.getD_eq_getElem?_getD, List.getElem?_eq_getElem hj]
    rfl
theorem ig_L.stored {ls' : Array Slot} {nL a i : Nat} {lv : List Int32} {x : Int32} (hi : i ≤ lv.length) (h : lv_has ls' nL ((i + 1, Value.int x) :: (il_en a lv).filter (fun q => !(q.1 == i + 1) && !(q.1 + 1 == i + 1 && q.2.category == 2)))) : ig_L ls' nL a (lst lv i x) := by
  refine ⟨h.1, h.2.1, h.2.2 (0, .ref a) (List.mem_cons_of_mem _ (List.mem_filter.mpr ⟨List.mem_cons_self, ?_⟩)), fun j y hy => ?_⟩
  · simp [Value.category]
  · rcases lst_at hi hy with ⟨rfl, rfl⟩ | ⟨hj, hy⟩
    · exact h.2.2 _ List.mem_cons_self
    · refine h.2.2 (j + 1, .int y) (List.mem_cons_of_mem _ (List.mem_filter.mpr ⟨il_en_mem hy, ?_⟩))
      simp [Value.category, hj]
theorem lv_args_int : ∀ (lv : List Int32) (k i : Nat) (x : Int32), lv[i]? = some x → (k + i, Value.int x) ∈ lv_args k (lv.map Value.int)
  | [], k, i, x, h => by simp at h
  | y :: lv, k, 0, x, h => by
    rw [List.getElem?_cons_zero] at h
    cases h
    exact List.mem_cons_self
  | y :: lv, k, i + 1, x, h => by
    rw [List.getElem?_cons_succ] at h
    have := lv_args_int lv (k + 1) i x h
    rw [show k + 1 + i = k + (i + 1) by omega] at this
    exact List.mem_cons_of_mem _ this
theorem lg_sl_int (a : Nat) (lv : List Int32) : (lg_sl (Value.ref a :: lv.map Value.int)).length = lv.length + 1 := by
  have : ∀ lv : List Int32, (lg_sl (lv.map Value.int)).length = lv.length := by
    intro lv
    induction lv with
    | nil => rfl
    | cons y lv ih =>
      have : lg_sl ((y :: lv).map Value.int) = .val (.int y) :: lg_sl (lv.map Value.int) := rfl
      rw [this, List.length_cons, ih, List.length_cons]
  have h2 : lg_sl (Value.ref a :: lv.map Value.int) = .val (.ref a) :: lg_sl (lv.map Value.int) := rfl
  rw [h2, List.length_cons, this]
theorem ig_L.entry (a : Nat) (lv : List Int32) {nL : Nat} (h : lv.length + 1 ≤ nL) : ig_L ((lg_sl (Value.ref a :: lv.map Value.int) ++ List.replicate (nL - (lg_sl (Value.ref a :: lv.map Value.int)).length) Slot.unset).toArray) nL a lv := by
  have h1 := lv_entry (Value.ref a :: lv.map Value.int) (n := nL) (by rw [lg_sl_int]; exact h)
  refine ⟨h1.1, h1.2.1, h1.2.2 (0, .ref a) List.mem_cons_self, fun i x hx => ?_⟩
  have h2 := lv_args_int lv 1 i x hx
  have h3 := h1.2.2 (1 + i, .int x) (List.mem_cons_of_mem _ h2)
  rw [Nat.add_comm] at h3
  exact h3
/-! ===== contracts ===== -/
def ig_B (G : il_G) (h : Nat → Nat) (cA : ClassId) (D : va_G) (S' : il_S) (t : State) : Prop := va_P D vwCl (gw G h cA S') t.heap
def ig_Pc (G : il_G) (h : Nat → Nat) (cA : ClassId) (D : va_G) (sz : Nat) (lv : List Int32) (S : il_S) : Array Value → State → Prop := va_Pc (.ref (h 0) :: lv.map Value.int) (fun U => U.heap.size = sz ∧ va_P D vwCl (gw G h cA S) U.heap ∧ va_K D vwCl [(cA, .int)] U ∧ va_D (fun _ => True) (gw G h cA S))
/-- a method that answers an int: any heap that holds S: it answers r and leaves S' with post r S' -/
def ig_Mi (G : il_G) (l : Launch) (y : MethodName) (cc : ByteArray) (nL : Nat) (ty : FieldType) (fr lo : Nat) (lv : List Int32) (S : il_S) (post : Int32 → il_S → Prop) : Prop :=
  ∀ (h : Nat → Nat) (cA : ClassId) (D : va_G) (sz : Nat), Met l y (ws_ y cc nL (some ty)) ({ frames := fr, cells := 0, slots := 0, locals := lo }) (ig_Pc G h cA D sz lv S) (va_Qi post (ig_B G h cA D) (va_A (gw G h cA S) sz)) 0 0 (va_A (gw G h cA S) sz)
def ig_Mv (G : il_G) (l : Launch) (y : MethodName) (cc : ByteArray) (nL : Nat) (fr lo : Nat) (lv : List Int32) (S : il_S) (post : il_S → Prop) : Prop :=
  ∀ (h : Nat → Nat) (cA : ClassId) (D : va_G) (sz : Nat), Met l y (ws_ y cc nL none) ({ frames := fr, cells := 0, slots := 0, locals := lo }) (ig_Pc G h cA D sz lv S) (va_Qv post (ig_B G h cA D) (va_A (gw G h cA S) sz)) 0 0 (va_A (gw G h cA S) sz)
def ig_Qi (G : il_G) (X : il_X) (post : Int32 → il_S → Prop) : State → Prop := MQ (xb X) (va_Qi post (ig_B G (xh X) (xc X) (xD X)) (xA X)) (xa X) (xs X) (xy X) (xz X) (xA X)
def ig_Qv (G : il_G) (X : il_X) (post : il_S → Prop) : State → Prop := MQ (xb X) (va_Qv post (ig_B G (xh X) (xc X) (xD X)) (xA X)) (xa X) (xs X) (xy X) (xz X) (xA X)
section Intro
variable {G : il_G} {l : Launch} {y : MethodName} {cc : ByteArray} {nL fr lo : Nat} {lv : List Int32} {S : il_S}
theorem ig_Mi.of {ty : FieldType} {post : Int32 → il_S → Prop} (hG : il_ok G) (hy : plainName y.cls = true) (hyc : y.cls = G.1.1) (hn : lv.length + 1 ≤ nL)
    (body : ∀ X : il_X, ig_C G cc nL ({ frames := fr, cells := 0, slots := 0, locals := lo }) (some ty) X → ig_W G nL X (ig_Qi G X post) S 0 lv []) : ig_Mi G l y cc nL ty fr lo lv S post := by
  intro h cA D sz
  refine Met.ofW (cc := cc) (maxL := nL) (ret := some ty) hy rfl ?_
  intro p e s m args below meth c s₁ B hml hv
  obtain ⟨rfl, hsz, hP, hK, hD0⟩ := hv
  have hts := atoms_spec (ws := ws_ y cc nL (some ty)) B.pre
  have hts : ∀ w ∈ lw_all, w.before _ s = true := fun w h => hts w (List.mem_cons_of_mem _ h)
  have hown : s.vm.findClass G.1.1 = some m.cls := hyc ▸ findClass_of_methodNamed B.named
  subst hsz
  have hb := body ((h, cA, D, va_A (gw G h cA S) s.heap.size), (p, l, e, (headSpec (ws_ y cc nL (some ty)) ({ frames := fr, cells := 0, slots := 0, locals := lo })).room, s), (m, (Value.ref (h 0) :: lv.map Value.int).toArray, below, meth, c), (0, 0))
    ⟨⟨B.exec, B.bytes, hml, hown, hts⟩, hK, fun S' => va_D_addr (gw_addr S S') (hD0.self (sz := s.heap.size)), fun q h => Or.inr h, rfl, B.returns, B.notSynchronized, hG, Nat.le_refl 0, Nat.le_refl 0⟩
  rw [lg_entry_eq]
  exact hb s.heap [] _ hP va_S.rf (ig_L.entry (h 0) lv hn)
theorem ig_Mv.of {post : il_S → Prop} (hG : il_ok G) (hy : plainName y.cls = true) (hyc : y.cls = G.1.1) (hn : lv.length + 1 ≤ nL)
    (body : ∀ X : il_X, ig_C G cc nL ({ frames := fr, cells := 0, slots := 0, locals := lo }) none X → ig_W G nL X (ig_Qv G X post) S 0 lv []) : ig_Mv G l y cc nL fr lo lv S post := by
  intro h cA D sz
  refine Met.ofW (cc := cc) (maxL := nL) (ret := none) hy rfl ?_
  intro p e s m args below meth c s₁ B hml hv
  obtain ⟨rfl, hsz, hP, hK, hD0⟩ := hv
  have hts := atoms_spec (ws := ws_ y cc nL none) B.pre
  have hts : ∀ w ∈ lw_all, w.before _ s = true := fun w h => hts w (List.mem_cons_of_mem _ h)
  have hown : s.vm.findClass G.1.1 = some m.cls := hyc ▸ findClass_of_methodNamed B.named
  subst hsz
  have hb := body ((h, cA, D, va_A (gw G h cA S) s.heap.size), (p, l, e, (headSpec (ws_ y cc nL none) ({ frames := fr, cells := 0, slots := 0, locals := lo })).room, s), (m, (Value.ref (h 0) :: lv.map Value.int).toArray, below, meth, c), (0, 0))
    ⟨⟨B.exec, B.bytes, hml, hown, hts⟩, hK, fun S' => va_D_addr (gw_addr S S') (hD0.self (sz := s.heap.size)), fun q h => Or.inr h, rfl, B.returns, B.notSynchronized, hG, Nat.le_refl 0, Nat.le_refl 0⟩
  rw [lg_entry_eq]
  exact hb s.heap [] _ hP va_S.rf (ig_L.entry (h 0) lv hn)
end Intro
/-! ===== rows ===== -/
section Rows
variable {G : il_G} {cc : ByteArray} {nL : Nat} {rm : Room} {ret : Option FieldType} {X : il_X} {Q : State → Prop} {S : il_S} {pc : Nat} {lv : List Int32} {st : List Value}
theorem ig_this (C : ig_C G cc nL rm ret X) (hdg : decode cc pc = .ok (.aload_n 0, 1)) (kk : ig_W G nL X Q S (pc + 1) lv (.ref (xh X 0) :: st)) : ig_W G nL X Q S pc lv st :=
  fun H locs ls hP hS hl => lv_aload_n C.1.1 C.1.2.1 hdg rfl hl.2.2.1 (kk H locs ls hP hS hl)
theorem ig_iln (C : ig_C G cc nL rm ret X) (i : Nat) {k : Fin 4} (hdg : decode cc pc = .ok (.iload_n k, 1)) (hi : (k : Nat) = i + 1) {x : Int32} (hv : lv[i]? = some x) (kk : ig_W G nL X Q S (pc + 1) lv (.int x :: st)) : ig_W G nL X Q S pc lv st :=
  fun H locs ls hP hS hl => lv_iload_n C.1.1 C.1.2.1 hdg hi (hl.2.2.2 i x hv) (kk H locs ls hP hS hl)
theorem ig_il (C : ig_C G cc nL rm ret X) (i : Nat) (hdg : decode cc pc = .ok (.iload (i + 1), 2)) {x : Int32} (hv : lv[i]? = some x) (kk : ig_W G nL X Q S (pc + 2) lv (.int x :: st)) : ig_W G nL X Q S pc lv st :=
  fun H locs ls hP hS hl => lv_iload C.1.1 C.1.2.1 hdg (hl.2.2.2 i x hv) (kk H locs ls hP hS hl)
theorem ig_isn (C : ig_C G cc nL rm ret X) (i : Nat) {k : Fin 4} {x : Int32} (lv' : List Int32) (hdg : decode cc pc = .ok (.istore_n k, 1)) (hi : (k : Nat) = i + 1) (hn : Nat.ble (i + 2) nL = true) (hle : Nat.ble i lv.length = true) (hl' : lst lv i x = lv') (kk : ig_W G nL X Q S (pc + 1) lv' st) : ig_W G nL X Q S pc lv (.int x :: st) :=
  fun H locs _ hP hS hl => lv_istore_n C.1.1 C.1.2.1 hdg hi hl.has (Nat.le_of_ble_eq_true hn) rfl (fun ls' h' => kk H locs ls' hP hS (hl' ▸ ig_L.stored (Nat.le_of_ble_eq_true hle) h'))
theorem ig_is (C : ig_C G cc nL rm ret X) (i : Nat) {x : Int32} (lv' : List Int32) (hdg : decode cc pc = .ok (.istore (i + 1), 2)) (hn : Nat.ble (i + 2) nL = true) (hle : Nat.ble i lv.length = true) (hl' : lst lv i x = lv') (kk : ig_W G nL X Q S (pc + 2) lv' st) : ig_W G nL X Q S pc lv (.int x :: st) :=
  fun H locs _ hP hS hl => lv_istore C.1.1 C.1.2.1 hdg hl.has (Nat.le_of_ble_eq_true hn) rfl (fun ls' h' => kk H locs ls' hP hS (hl' ▸ ig_L.stored (Nat.le_of_ble_eq_true hle) h'))
theorem il_en_at {a : Nat} {lv : List Int32} {i : Nat} {x : Int32} (h : lv[i]? = some x) : (il_en a lv)[i + 1]? = some (i + 1, .int x) := by
  have hi : i < lv.length := (List.getElem?_eq_some_iff.mp h).1
  unfold il_en
  rw [List.getElem?_cons_succ, List.getElem?_map, List.getElem?_range hi]
  simp [List.getD_eq_getElem?_getD, h]
theorem ig_inc (C : ig_C G cc nL rm ret X) (i : Nat) {n : Int} {x : Int32} (v : Int32) (lv' : List Int32) (hdg : decode cc pc = .ok (.iinc (i + 1) n, 3)) (hv : lv[i]? = some x) (he : x + Int32.ofInt n = v) (hn : Nat.ble (i + 2) nL = true) (hl' : lst lv i v = lv') (kk : ig_W G nL X Q S (pc + 3) lv' st) : ig_W G nL X Q S pc lv st :=
  fun H locs _ hP hS hl => lv_iinc (k := i + 1) C.1.1 C.1.2.1 hdg hl.has (il_en_at hv) he (Nat.le_of_ble_eq_true hn) rfl (fun ls' h' => kk H locs ls' hP hS (hl' ▸ ig_L.stored (Nat.le_of_lt (List.getElem?_eq_some_iff.mp hv).1) h'))
theorem ig_ic (C : ig_C G cc nL rm ret X) {n : Int} {v : Int32} (hdg : decode cc pc = .ok (.iconst n, 1)) (hv : Int32.ofInt n = v) (kk : ig_W G nL X Q S (pc + 1) lv (.int v :: st)) : ig_W G nL X Q S pc lv st :=
  fun H locs ls hP hS hl => lv_iconst C.1.1 C.1.2.1 hdg hv (kk H locs ls hP hS hl)
theorem ig_bp (C : ig_C G cc nL rm ret X) {n : Int} {v : Int32} (hdg : decode cc pc = .ok (.bipush n, 2)) (hv : (Int8.ofInt n).toInt32 = v) (kk : ig_W G nL X Q S (pc + 2) lv (.int v :: st)) : ig_W G nL X Q S pc lv st :=
  fun H locs ls hP hS hl => lv_bipush C.1.1 C.1.2.1 hdg hv (kk H locs ls hP hS hl)
theorem ig_goto (C : ig_C G cc nL rm ret X) {off : Int} (tgt : Nat) (hdg : decode cc pc = .ok (.goto off, 3)) (ht : (pc : Int) + off = (tgt : Int)) (kk : ig_W G nL X Q S tgt lv st) : ig_W G nL X Q S pc lv st :=
  fun H locs ls hP hS hl => lv_goto C.1.1 C.1.2.1 hdg ht (kk H locs ls hP hS hl)
theorem ig_top {x : Int32} (y : Int32) (h : x = y) (kk : ig_W G nL X Q S pc lv (.int y :: st)) : ig_W G nL X Q S pc lv (.int x :: st) := h ▸ kk
theorem ig_st {S' : il_S} (h : S = S') (kk : ig_W G nL X Q S' pc lv st) : ig_W G nL X Q S pc lv st := h ▸ kk
theorem ig_pre (k : Nat) (lv' : List Int32) (h : lv.take k = lv') (kk : ig_W G nL X Q S pc lv' st) : ig_W G nL X Q S pc lv st :=
  fun H locs ls hP hS hl => kk H locs ls hP hS ⟨hl.1, hl.2.1, hl.2.2.1, fun i x hx => hl.2.2.2 i x (by
    rw [← h] at hx
    have hi : i < k := by
      have := (List.getElem?_eq_some_iff.mp hx).1
      rw [List.length_take] at this
      omega
    rwa [List.getElem?_take_of_lt hi] at hx)⟩
theorem ig_dup2 (C : ig_C G cc nL rm ret X) {x : Int32} {a : Nat} (hdg : decode cc pc = .ok (.dup2, 1)) (kk : ig_W G nL X Q S (pc + 1) lv (.int x :: .ref a :: .int x :: .ref a :: st)) : ig_W G nL X Q S pc lv (.int x :: .ref a :: st) :=
  fun H locs ls hP hS hl => lv_dup2_11 C.1.1 C.1.2.1 hdg rfl rfl (kk H locs ls hP hS hl)
theorem ig_iadd (C : ig_C G cc nL rm ret X) {x y : Int32} (hdg : decode cc pc = .ok (.iadd, 1)) (kk : ig_W G nL X Q S (pc + 1) lv (.int (x + y) :: st)) : ig_W G nL X Q S pc lv (.int y :: .int x :: st) :=
  fun H locs ls hP hS hl => lv_iadd C.1.1 C.1.2.1 hdg (kk H locs ls hP hS hl)
theorem ig_isub (C : ig_C G cc nL rm ret X) {x y : Int32} (hdg : decode cc pc = .ok (.isub, 1)) (kk : ig_W G nL X Q S (pc + 1) lv (.int (x - y) :: st)) : ig_W G nL X Q S pc lv (.int y :: .int x :: st) :=
  fun H locs ls hP hS hl => lv_isub C.1.1 C.1.2.1 hdg (kk H locs ls hP hS hl)
theorem ig_imul (C : ig_C G cc nL rm ret X) {x y : Int32} (hdg : decode cc pc = .ok (.imul, 1)) (kk : ig_W G nL X Q S (pc + 1) lv (.int (x * y) :: st)) : ig_W G nL X Q S pc lv (.int y :: .int x :: st) :=
  fun H locs ls hP hS hl => lv_imul C.1.1 C.1.2.1 hdg (kk H locs ls hP hS hl)
theorem ig_ior (C : ig_C G cc nL rm ret X) {x y : Int32} (hdg : decode cc pc = .ok (.ior, 1)) (kk : ig_W G nL X Q S (pc + 1) lv (.int (x ||| y) :: st)) : ig_W G nL X Q S pc lv (.int y :: .int x :: st) :=
  fun H locs ls hP hS hl => lv_ior C.1.1 C.1.2.1 hdg (kk H locs ls hP hS hl)
theorem ig_ishl (C : ig_C G cc nL rm ret X) {x y : Int32} (hdg : decode cc pc = .ok (.ishl, 1)) (kk : ig_W G nL X Q S (pc + 1) lv (.int (x <<< (y &&& 31)) :: st)) : ig_W G nL X Q S pc lv (.int y :: .int x :: st) :=
  fun H locs ls hP hS hl => lv_ishl C.1.1 C.1.2.1 hdg (kk H locs ls hP hS hl)
theorem ig_iaddN (C : ig_C G cc nL rm ret X) {a b : Nat} (hdg : decode cc pc = .ok (.iadd, 1)) (kk : ig_W G nL X Q S (pc + 1) lv (.int (nI (a + b)) :: st)) : ig_W G nL X Q S pc lv (.int (nI b) :: .int (nI a) :: st) :=
  ig_iadd C hdg (ig_top _ (nI_add a b) kk)
theorem ig_isubN (C : ig_C G cc nL rm ret X) {a b : Nat} (h : b ≤ a) (hdg : decode cc pc = .ok (.isub, 1)) (kk : ig_W G nL X Q S (pc + 1) lv (.int (nI (a - b)) :: st)) : ig_W G nL X Q S pc lv (.int (nI b) :: .int (nI a) :: st) :=
  ig_isub C hdg (ig_top _ (pk_sub h) kk)
theorem ig_imulN (C : ig_C G cc nL rm ret X) {a b : Nat} (hdg : decode cc pc = .ok (.imul, 1)) (kk : ig_W G nL X Q S (pc + 1) lv (.int (nI (a * b)) :: st)) : ig_W G nL X Q S pc lv (.int (nI b) :: .int (nI a) :: st) :=
  ig_imul C hdg (ig_top _ (pk_mul a b) kk)
theorem ig_idivN (C : ig_C G cc nL rm ret X) {a b : Nat} (ha : a < 2 ^ 31) (h0 : 0 < b) (hb : b < 2 ^ 31) (hdg : decode cc pc = .ok (.idiv, 1)) (kk : ig_W G nL X Q S (pc + 1) lv (.int (nI (a / b)) :: st)) : ig_W G nL X Q S pc lv (.int (nI b) :: .int (nI a) :: st) :=
  fun H locs ls hP hS hl => lv_idiv C.1.1 C.1.2.1 hdg (nI_ne0 h0 hb) (by rw [pk_div ha h0 hb]; exact kk H locs ls hP hS hl)
theorem ig_iremN (C : ig_C G cc nL rm ret X) {a b : Nat} (ha : a < 2 ^ 31) (h0 : 0 < b) (hb : b < 2 ^ 31) (hdg : decode cc pc = .ok (.irem, 1)) (kk : ig_W G nL X Q S (pc + 1) lv (.int (nI (a % b)) :: st)) : ig_W G nL X Q S pc lv (.int (nI b) :: .int (nI a) :: st) :=
  fun H locs ls hP hS hl => lv_irem C.1.1 C.1.2.1 hdg (nI_ne0 h0 hb) (by rw [pk_rem ha h0 hb]; exact kk H locs ls hP hS hl)
/-- field k of class G is the constant idx of the class -/
def ig_F (G : il_G) (k idx : Nat) : Prop := k < G.1.2.2 ∧ Cond.fieldLink G.1.1 idx G.1.1 (G.1.2.1 k).2.1 (G.1.2.1 k).2.2.1 ∈ lw_all ∧ (G.1.2.1 k).1 = G.1.1
theorem ig_get (C : ig_C G cc nL rm ret X) {k idx : Nat} (F : ig_F G k idx) (hdg : decode cc pc = .ok (.getfield idx, 3)) (kk : ig_W G nL X Q S (pc + 3) lv (.ref (xh X (k + 1)) :: st)) : ig_W G nL X Q S pc lv (.ref (xh X 0) :: st) :=
  fun H locs ls hP hS hl => va_get (D := xD X) (ci := G.2.1) (C := G.1.1) (T := G.1.2.1) (N := G.1.2.2) C.1.1 C.1.2.1 C.1.2.2.2.2 C.2.2.2.2.2.2.2.1.2.1 C.1.2.2.2.1 C.2.1 hP 0 gw_0 C.2.2.2.2.2.2.2.1.1 k F.1 (C.1.2.2.2.2 _ F.2.1) (fun _ h9 => F.2.2 ▸ h9) (by simp [F.1]) hdg (kk H locs ls hP hS hl)
theorem ig_ald (C : ig_C G cc nL rm ret X) (k : Nat) (hk : Nat.ble (k + 1) G.1.2.2 = true) {j : Nat} (hj : j < G.2.2 k) {v : Int32} (hv : S k j = v) (hdg : decode cc pc = .ok (.iaload, 1)) (kk : ig_W G nL X Q S (pc + 1) lv (.int v :: st)) : ig_W G nL X Q S pc lv (.int (nI j) :: .ref (xh X (k + 1)) :: st) := by
  intro H locs ls hP hS hl
  have hk : k < G.1.2.2 := Nat.le_of_ble_eq_true hk
  have hb := C.2.2.2.2.2.2.2.1.2.2 k
  refine va_iald C.1.1 C.1.2.1 C.2.1 hP (k + 1) 0 (gw_k hk) rfl (vp_in_nI hj hb) hdg ?_
  rw [nI_clamp (Nat.lt_trans hj hb), hv]
  exact kk H locs ls hP hS hl
theorem ig_ast (C : ig_C G cc nL rm ret X) (k : Nat) (hk : Nat.ble (k + 1) G.1.2.2 = true) {j : Nat} (hj : j < G.2.2 k) {x : Int32} (hdg : decode cc pc = .ok (.iastore, 1)) (kk : ig_W G nL X Q (sU S k j x) (pc + 1) lv st) : ig_W G nL X Q S pc lv (.int x :: .int (nI j) :: .ref (xh X (k + 1)) :: st) := by
  intro H locs ls hP hS hl
  have hk : k < G.1.2.2 := Nat.le_of_ble_eq_true hk
  have hb := C.2.2.2.2.2.2.2.1.2.2 k
  refine va_iast C.1.1 C.1.2.1 C.2.1 hP (C.2.2.1 S) hS (k + 1) 0 (gw_k hk) rfl (vp_in_nI hj hb) hdg (fun H1 locs1 hP1 _ hS1 => ?_)
  rw [nI_clamp (Nat.lt_trans hj hb), gw_set hk] at hP1
  exact kk H1 locs1 ls hP1 hS1 hl
theorem ig_ret {post : Int32 → il_S → Prop} {ty : FieldType} (C : ig_C G cc nL rm (some ty) X) {r : Int32} (hn : narrow ty (.int r) = .int r) (hdg : decode cc pc = .ok (.ireturn, 1)) (hp : post r S) : ig_W G nL X (ig_Qi G X post) S pc lv [.int r] := by
  intro H locs ls hP hS hl
  exact W.zret C.1.1 C.1.2.1 C.2.2.2.2.2.1 hn (fun t ht hW => ⟨⟨r, S, rfl, hp, by show va_P _ _ _ t.heap; rw [ht]; exact hP⟩, hS.F ht⟩) hS.2.2 hdg C.2.2.2.2.2.2.1
theorem ig_vret {post : il_S → Prop} (C : ig_C G cc nL rm none X) (hdg : decode cc pc = .ok (.return_, 1)) (hp : post S) : ig_W G nL X (ig_Qv G X post) S pc lv [] := by
  intro H locs ls hP hS hl
  exact W.vret C.1.1 C.1.2.1 C.2.2.2.2.2.1 (fun t ht hW => ⟨⟨S, rfl, hp, by show va_P _ _ _ t.heap; rw [ht]; exact hP⟩, hS.F ht⟩) hS.2.2 hdg C.2.2.2.2.2.2.1
/-- what the tables say of a call from class own at the constant idx to the method y of class Cl -/
def ig_K (own Cl : String) (idx : Nat) (y : MethodName) (b : ByteArray) (L : Nat) (r : Option FieldType) (n : Nat) : Prop :=
  Cond.methodLink own idx y ∈ lw_all ∧ Cond.instanceMethod y ∈ lw_all ∧ Cond.selects Cl y y ∈ lw_all ∧ Cond.initialized Cl ∈ lw_all ∧ Cond.code y b L r ∈ lw_all ∧
  (y.cls = Cl ∧ y.cls ≠ "java/lang/invoke/MethodHandle" ∧ y.cls ≠ "java/lang/invoke/VarHandle" ∧ (parseMethodDescriptor y.desc).map (fun d => d.parameters.length) = some n)
theorem ig_free (C : ig_C G cc nL rm ret X) {H : Heap} {locs : List Loc} (hS : va_S (xA X) (xs X).heap H locs) : ∀ q, va_A (gw G (xh X) (xc X) S) H.size q → xA X q := by
  intro q h
  rcases h with ⟨k, e, h⟩ | h
  · exact (C.2.2.1 S).2 k (q, e) h
  · exact C.2.2.2.1 q (Nat.le_trans hS.1 h)
theorem ig_blind {h : Nat → Nat} {cA : ClassId} {D : va_G} {sz : Nat} {lv : List Int32} : FrameBlind (ig_Pc G h cA D sz lv S) := fun a U g mk q => by
  obtain ⟨q0, q1, qP, qK, qD⟩ := q
  exact ⟨q0, q1, qP, va_K.moved (u := U) (U := U.calling g mk a) (Vm.Alike.refl U.vm) qK, qD⟩
theorem ig_calli (C : ig_C G cc nL rm ret X) {y : MethodName} {b : ByteArray} {L : Nat} {ty : FieldType} {fr lo idx n : Nat} {As : List Int32} {rest : List Value} {post : Int32 → il_S → Prop} (K : ig_K G.1.1 G.1.1 idx y b L (some ty) n) (M : ig_Mi G (xl X) y b L ty fr lo As S post) (hst : st = (As.map Value.int).reverse ++ .ref (xh X 0) :: rest) (hn : As.length = n)
    (hR : fr + 1 ≤ rm.frames ∧ 8 + (L + 11) + lo ≤ rm.locals) (hr : (rest.map fun v => v.category).sum ≤ 8) (hdg : decode cc pc = .ok (.invokevirtual idx, 3)) (kk : ∀ (r : Int32) (S' : il_S), post r S' → ig_W G nL X Q S' (pc + 3) lv (.int r :: rest)) : ig_W G nL X Q S pc lv st := by
  intro H locs ls hP hS hl
  subst hst
  have hFc := ig_free (S := S) C hS
  obtain ⟨k1, k2, k3, k4, k5, k6⟩ := K
  obtain ⟨hfix, hK, hD, hA, hRm, -, -, hok, hy1, hy2⟩ := C
  refine va_calli (va_runV (As := As.map Value.int) (rest := rest) hfix (M (xh X) (xc X) (xD X) H.size) (cwV n hfix.2.2.2.2 (lw_V k1 k2 k3 k4 k5) rfl rfl rfl k6 (by rw [hRm]; exact hR)) ⟨ig_blind, va_recv hK hP hok.1 gw_0, fun U hU hW => ⟨rfl, by rw [hU], by rw [hU]; exact hP, va_K.moved hW.alike hK, (hD S).weaken (fun _ _ _ _ => trivial)⟩⟩ rfl (by rw [List.length_map]; exact hn) hl.1 rfl (lv_room hr) hdg (by rw [hRm]; exact ⟨hy1, hy2⟩)) hS (fun q _ h => hFc q h) hFc (fun r u t H1 locs1 ht hvm hw1 hB hz1 hk1 hS1 => ?_)
  have hP1 : va_P (xD X) vwCl (gw G (xh X) (xc X) u) H1 := by rw [← ht]; exact hB
  exact kk r u hw1 H1 locs1 ls hP1 hS1 hl
theorem ig_callv (C : ig_C G cc nL rm ret X) {y : MethodName} {b : ByteArray} {L : Nat} {fr lo idx n : Nat} {As : List Int32} {rest : List Value} {post : il_S → Prop} (K : ig_K G.1.1 G.1.1 idx y b L none n) (M : ig_Mv G (xl X) y b L fr lo As S post) (hst : st = (As.map Value.int).reverse ++ .ref (xh X 0) :: rest) (hn : As.length = n)
    (hR : fr + 1 ≤ rm.frames ∧ 8 + (L + 11) + lo ≤ rm.locals) (hr : (rest.map fun v => v.category).sum ≤ 8) (hdg : decode cc pc = .ok (.invokevirtual idx, 3)) (kk : ∀ (S' : il_S), post S' → ig_W G nL X Q S' (pc + 3) lv rest) : ig_W G nL X Q S pc lv st := by
  intro H locs ls hP hS hl
  subst hst
  have hFc := ig_free (S := S) C hS
  obtain ⟨k1, k2, k3, k4, k5, k6⟩ := K
  obtain ⟨hfix, hK, hD, hA, hRm, -, -, hok, hy1, hy2⟩ := C
  refine va_callv (va_runV (As := As.map Value.int) (rest := rest) hfix (M (xh X) (xc X) (xD X) H.size) (cwV n hfix.2.2.2.2 (lw_V k1 k2 k3 k4 k5) rfl rfl rfl k6 (by rw [hRm]; exact hR)) ⟨ig_blind, va_recv hK hP hok.1 gw_0, fun U hU hW => ⟨rfl, by rw [hU], by rw [hU]; exact hP, va_K.moved hW.alike hK, (hD S).weaken (fun _ _ _ _ => trivial)⟩⟩ rfl (by rw [List.length_map]; exact hn) hl.1 rfl (lv_room hr) hdg (by rw [hRm]; exact ⟨hy1, hy2⟩)) hS (fun q _ h => hFc q h) hFc (fun u t H1 locs1 ht hvm hw1 hB hz1 hk1 hS1 => ?_)
  have hP1 : va_P (xD X) vwCl (gw G (xh X) (xc X) u) H1 := by rw [← ht]; exact hB
  exact kk u hw1 H1 locs1 ls hP1 hS1 hl
theorem ig_if_eq (C : ig_C G cc nL rm ret X) {x : Int32} {off : Int} (tgt : Nat) (hdg : decode cc pc = .ok (.ifCond .eq off, 3)) (ht : (pc : Int) + off = (tgt : Int)) (kt : x = 0 → ig_W G nL X Q S tgt lv st) (kf : ¬ x = 0 → ig_W G nL X Q S (pc + 3) lv st) : ig_W G nL X Q S pc lv (.int x :: st) :=
  fun H locs ls hP hS hl => lv_if_eq C.1.1 C.1.2.1 hdg ht (fun h => kt h H locs ls hP hS hl) (fun h => kf h H locs ls hP hS hl)
theorem ig_if_eq_T (C : ig_C G cc nL rm ret X) {x : Int32} {off : Int} (tgt : Nat) (hdg : decode cc pc = .ok (.ifCond .eq off, 3)) (ht : (pc : Int) + off = (tgt : Int)) (hc : x = 0) (kt : ig_W G nL X Q S tgt lv st) : ig_W G nL X Q S pc lv (.int x :: st) := ig_if_eq C tgt hdg ht (fun _ => kt) (fun h => absurd hc h)
theorem ig_if_eq_F (C : ig_C G cc nL rm ret X) {x : Int32} {off : Int} (tgt : Nat) (hdg : decode cc pc = .ok (.ifCond .eq off, 3)) (ht : (pc : Int) + off = (tgt : Int)) (hc : ¬ x = 0) (kf : ig_W G nL X Q S (pc + 3) lv st) : ig_W G nL X Q S pc lv (.int x :: st) := ig_if_eq C tgt hdg ht (fun h => absurd h hc) (fun _ => kf)
theorem ig_icmp_eq (C : ig_C G cc nL rm ret X) {x y : Int32} {off : Int} (tgt : Nat) (hdg : decode cc pc = .ok (.if_icmp .eq off, 3)) (ht : (pc : Int) + off = (tgt : Int)) (kt : x = y → ig_W G nL X Q S tgt lv st) (kf : ¬ x = y → ig_W G nL X Q S (pc + 3) lv st) : ig_W G nL X Q S pc lv (.int y :: .int x :: st) :=
  fun H locs ls hP hS hl => lv_icmp_eq C.1.1 C.1.2.1 hdg ht (fun h => kt h H locs ls hP hS hl) (fun h => kf h H locs ls hP hS hl)
theorem ig_icmp_eq_T (C : ig_C G cc nL rm ret X) {x y : Int32} {off : Int} (tgt : Nat) (hdg : decode cc pc = .ok (.if_icmp .eq off, 3)) (ht : (pc : Int) + off = (tgt : Int)) (hc : x = y) (kt : ig_W G nL X Q S tgt lv st) : ig_W G nL X Q S pc lv (.int y :: .int x :: st) := ig_icmp_eq C tgt hdg ht (fun _ => kt) (fun h => absurd hc h)
theorem ig_icmp_eq_F (C : ig_C G cc nL rm ret X) {x y : Int32} {off : Int} (tgt : Nat) (hdg : decode cc pc = .ok (.if_icmp .eq off, 3)) (ht : (pc : Int) + off = (tgt : Int)) (hc : ¬ x = y) (kf : ig_W G nL X Q S (pc + 3) lv st) : ig_W G nL X Q S pc lv (.int y :: .int x :: st) := ig_icmp_eq C tgt hdg ht (fun h => absurd h hc) (fun _ => kf)
theorem ig_if_ne (C : ig_C G cc nL rm ret X) {x : Int32} {off : Int} (tgt : Nat) (hdg : decode cc pc = .ok (.ifCond .ne off, 3)) (ht : (pc : Int) + off = (tgt : Int)) (kt : ¬ x = 0 → ig_W G nL X Q S tgt lv st) (kf : x = 0 → ig_W G nL X Q S (pc + 3) lv st) : ig_W G nL X Q S pc lv (.int x :: st) :=
  fun H locs ls hP hS hl => lv_if_ne C.1.1 C.1.2.1 hdg ht (fun h => kt h H locs ls hP hS hl) (fun h => kf h H locs ls hP hS hl)
theorem ig_if_ne_T (C : ig_C G cc nL rm ret X) {x : Int32} {off : Int} (tgt : Nat) (hdg : decode cc pc = .ok (.ifCond .ne off, 3)) (ht : (pc : Int) + off = (tgt : Int)) (hc : ¬ x = 0) (kt : ig_W G nL X Q S tgt lv st) : ig_W G nL X Q S pc lv (.int x :: st) := ig_if_ne C tgt hdg ht (fun _ => kt) (fun h => absurd h hc)
theorem ig_if_ne_F (C : ig_C G cc nL rm ret X) {x : Int32} {off : Int} (tgt : Nat) (hdg : decode cc pc = .ok (.ifCond .ne off, 3)) (ht : (pc : Int) + off = (tgt : Int)) (hc : x = 0) (kf : ig_W G nL X Q S (pc + 3) lv st) : ig_W G nL X Q S pc lv (.int x :: st) := ig_if_ne C tgt hdg ht (fun h => absurd hc h) (fun _ => kf)
theorem ig_icmp_ne (C : ig_C G cc nL rm ret X) {x y : Int32} {off : Int} (tgt : Nat) (hdg : decode cc pc = .ok (.if_icmp .ne off, 3)) (ht : (pc : Int) + off = (tgt : Int)) (kt : ¬ x = y → ig_W G nL X Q S tgt lv st) (kf : x = y → ig_W G nL X Q S (pc + 3) lv st) : ig_W G nL X Q S pc lv (.int y :: .int x :: st) :=
  fun H locs ls hP hS hl => lv_icmp_ne C.1.1 C.1.2.1 hdg ht (fun h => kt h H locs ls hP hS hl) (fun h => kf h H locs ls hP hS hl)
theorem ig_icmp_ne_T (C : ig_C G cc nL rm ret X) {x y : Int32} {off : Int} (tgt : Nat) (hdg : decode cc pc = .ok (.if_icmp .ne off, 3)) (ht : (pc : Int) + off = (tgt : Int)) (hc : ¬ x = y) (kt : ig_W G nL X Q S tgt lv st) : ig_W G nL X Q S pc lv (.int y :: .int x :: st) := ig_icmp_ne C tgt hdg ht (fun _ => kt) (fun h => absurd h hc)
theorem ig_icmp_ne_F (C : ig_C G cc nL rm ret X) {x y : Int32} {off : Int} (tgt : Nat) (hdg : decode cc pc = .ok (.if_icmp .ne off, 3)) (ht : (pc : Int) + off = (tgt : Int)) (hc : x = y) (kf : ig_W G nL X Q S (pc + 3) lv st) : ig_W G nL X Q S pc lv (.int y :: .int x :: st) := ig_icmp_ne C tgt hdg ht (fun h => absurd hc h) (fun _ => kf)
theorem ig_if_lt (C : ig_C G cc nL rm ret X) {x : Int32} {off : Int} (tgt : Nat) (hdg : decode cc pc = .ok (.ifCond .lt off, 3)) (ht : (pc : Int) + off = (tgt : Int)) (kt : x < 0 → ig_W G nL X Q S tgt lv st) (kf : ¬ x < 0 → ig_W G nL X Q S (pc + 3) lv st) : ig_W G nL X Q S pc lv (.int x :: st) :=
  fun H locs ls hP hS hl => lv_if_lt C.1.1 C.1.2.1 hdg ht (fun h => kt h H locs ls hP hS hl) (fun h => kf h H locs ls hP hS hl)
theorem ig_if_lt_T (C : ig_C G cc nL rm ret X) {x : Int32} {off : Int} (tgt : Nat) (hdg : decode cc pc = .ok (.ifCond .lt off, 3)) (ht : (pc : Int) + off = (tgt : Int)) (hc : x < 0) (kt : ig_W G nL X Q S tgt lv st) : ig_W G nL X Q S pc lv (.int x :: st) := ig_if_lt C tgt hdg ht (fun _ => kt) (fun h => absurd hc h)
theorem ig_if_lt_F (C : ig_C G cc nL rm ret X) {x : Int32} {off : Int} (tgt : Nat) (hdg : decode cc pc = .ok (.ifCond .lt off, 3)) (ht : (pc : Int) + off = (tgt : Int)) (hc : ¬ x < 0) (kf : ig_W G nL X Q S (pc + 3) lv st) : ig_W G nL X Q S pc lv (.int x :: st) := ig_if_lt C tgt hdg ht (fun h => absurd h hc) (fun _ => kf)
theorem ig_icmp_lt (C : ig_C G cc nL rm ret X) {x y : Int32} {off : Int} (tgt : Nat) (hdg : decode cc pc = .ok (.if_icmp .lt off, 3)) (ht : (pc : Int) + off = (tgt : Int)) (kt : x < y → ig_W G nL X Q S tgt lv st) (kf : ¬ x < y → ig_W G nL X Q S (pc + 3) lv st) : ig_W G nL X Q S pc lv (.int y :: .int x :: st) :=
  fun H locs ls hP hS hl => lv_icmp_lt C.1.1 C.1.2.1 hdg ht (fun h => kt h H locs ls hP hS hl) (fun h => kf h H locs ls hP hS hl)
theorem ig_icmp_lt_T (C : ig_C G cc nL rm ret X) {x y : Int32} {off : Int} (tgt : Nat) (hdg : decode cc pc = .ok (.if_icmp .lt off, 3)) (ht : (pc : Int) + off = (tgt : Int)) (hc : x < y) (kt : ig_W G nL X Q S tgt lv st) : ig_W G nL X Q S pc lv (.int y :: .int x :: st) := ig_icmp_lt C tgt hdg ht (fun _ => kt) (fun h => absurd hc h)
theorem ig_icmp_lt_F (C : ig_C G cc nL rm ret X) {x y : Int32} {off : Int} (tgt : Nat) (hdg : decode cc pc = .ok (.if_icmp .lt off, 3)) (ht : (pc : Int) + off = (tgt : Int)) (hc : ¬ x < y) (kf : ig_W G nL X Q S (pc + 3) lv st) : ig_W G nL X Q S pc lv (.int y :: .int x :: st) := ig_icmp_lt C tgt hdg ht (fun h => absurd h hc) (fun _ => kf)
theorem ig_if_ge (C : ig_C G cc nL rm ret X) {x : Int32} {off : Int} (tgt : Nat) (hdg : decode cc pc = .ok (.ifCond .ge off, 3)) (ht : (pc : Int) + off = (tgt : Int)) (kt : 0 ≤ x → ig_W G nL X Q S tgt lv st) (kf : ¬ 0 ≤ x → ig_W G nL X Q S (pc + 3) lv st) : ig_W G nL X Q S pc lv (.int x :: st) :=
  fun H locs ls hP hS hl => lv_if_ge C.1.1 C.1.2.1 hdg ht (fun h => kt h H locs ls hP hS hl) (fun h => kf h H locs ls hP hS hl)
theorem ig_if_ge_T (C : ig_C G cc nL rm ret X) {x : Int32} {off : Int} (tgt : Nat) (hdg : decode cc pc = .ok (.ifCond .ge off, 3)) (ht : (pc : Int) + off = (tgt : Int)) (hc : 0 ≤ x) (kt : ig_W G nL X Q S tgt lv st) : ig_W G nL X Q S pc lv (.int x :: st) := ig_if_ge C tgt hdg ht (fun _ => kt) (fun h => absurd hc h)
theorem ig_if_ge_F (C : ig_C G cc nL rm ret X) {x : Int32} {off : Int} (tgt : Nat) (hdg : decode cc pc = .ok (.ifCond .ge off, 3)) (ht : (pc : Int) + off = (tgt : Int)) (hc : ¬ 0 ≤ x) (kf : ig_W G nL X Q S (pc + 3) lv st) : ig_W G nL X Q S pc lv (.int x :: st) := ig_if_ge C tgt hdg ht (fun h => absurd h hc) (fun _ => kf)
theorem ig_icmp_ge (C : ig_C G cc nL rm ret X) {x y : Int32} {off : Int} (tgt : Nat) (hdg : decode cc pc = .ok (.if_icmp .ge off, 3)) (ht : (pc : Int) + off = (tgt : Int)) (kt : y ≤ x → ig_W G nL X Q S tgt lv st) (kf : ¬ y ≤ x → ig_W G nL X Q S (pc + 3) lv st) : ig_W G nL X Q S pc lv (.int y :: .int x :: st) :=
  fun H locs ls hP hS hl => lv_icmp_ge C.1.1 C.1.2.1 hdg ht (fun h => kt h H locs ls hP hS hl) (fun h => kf h H locs ls hP hS hl)
theorem ig_icmp_ge_T (C : ig_C G cc nL rm ret X) {x y : Int32} {off : Int} (tgt : Nat) (hdg : decode cc pc = .ok (.if_icmp .ge off, 3)) (ht : (pc : Int) + off = (tgt : Int)) (hc : y ≤ x) (kt : ig_W G nL X Q S tgt lv st) : ig_W G nL X Q S pc lv (.int y :: .int x :: st) := ig_icmp_ge C tgt hdg ht (fun _ => kt) (fun h => absurd hc h)
theorem ig_icmp_ge_F (C : ig_C G cc nL rm ret X) {x y : Int32} {off : Int} (tgt : Nat) (hdg : decode cc pc = .ok (.if_icmp .ge off, 3)) (ht : (pc : Int) + off = (tgt : Int)) (hc : ¬ y ≤ x) (kf : ig_W G nL X Q S (pc + 3) lv st) : ig_W G nL X Q S pc lv (.int y :: .int x :: st) := ig_icmp_ge C tgt hdg ht (fun h => absurd h hc) (fun _ => kf)
theorem ig_if_gt (C : ig_C G cc nL rm ret X) {x : Int32} {off : Int} (tgt : Nat) (hdg : decode cc pc = .ok (.ifCond .gt off, 3)) (ht : (pc : Int) + off = (tgt : Int)) (kt : 0 < x → ig_W G nL X Q S tgt lv st) (kf : ¬ 0 < x → ig_W G nL X Q S (pc + 3) lv st) : ig_W G nL X Q S pc lv (.int x :: st) :=
  fun H locs ls hP hS hl => lv_if_gt C.1.1 C.1.2.1 hdg ht (fun h => kt h H locs ls hP hS hl) (fun h => kf h H locs ls hP hS hl)
theorem ig_if_gt_T (C : ig_C G cc nL rm ret X) {x : Int32} {off : Int} (tgt : Nat) (hdg : decode cc pc = .ok (.ifCond .gt off, 3)) (ht : (pc : Int) + off = (tgt : Int)) (hc : 0 < x) (kt : ig_W G nL X Q S tgt lv st) : ig_W G nL X Q S pc lv (.int x :: st) := ig_if_gt C tgt hdg ht (fun _ => kt) (fun h => absurd hc h)
theorem ig_if_gt_F (C : ig_C G cc nL rm ret X) {x : Int32} {off : Int} (tgt : Nat) (hdg : decode cc pc = .ok (.ifCond .gt off, 3)) (ht : (pc : Int) + off = (tgt : Int)) (hc : ¬ 0 < x) (kf : ig_W G nL X Q S (pc + 3) lv st) : ig_W G nL X Q S pc lv (.int x :: st) := ig_if_gt C tgt hdg ht (fun h => absurd h hc) (fun _ => kf)
theorem ig_icmp_gt (C : ig_C G cc nL rm ret X) {x y : Int32} {off : Int} (tgt : Nat) (hdg : decode cc pc = .ok (.if_icmp .gt off, 3)) (ht : (pc : Int) + off = (tgt : Int)) (kt : y < x → ig_W G nL X Q S tgt lv st) (kf : ¬ y < x → ig_W G nL X Q S (pc + 3) lv st) : ig_W G nL X Q S pc lv (.int y :: .int x :: st) :=
  fun H locs ls hP hS hl => lv_icmp_gt C.1.1 C.1.2.1 hdg ht (fun h => kt h H locs ls hP hS hl) (fun h => kf h H locs ls hP hS hl)
theorem ig_icmp_gt_T (C : ig_C G cc nL rm ret X) {x y : Int32} {off : Int} (tgt : Nat) (hdg : decode cc pc = .ok (.if_icmp .gt off, 3)) (ht : (pc : Int) + off = (tgt : Int)) (hc : y < x) (kt : ig_W G nL X Q S tgt lv st) : ig_W G nL X Q S pc lv (.int y :: .int x :: st) := ig_icmp_gt C tgt hdg ht (fun _ => kt) (fun h => absurd hc h)
theorem ig_icmp_gt_F (C : ig_C G cc nL rm ret X) {x y : Int32} {off : Int} (tgt : Nat) (hdg : decode cc pc = .ok (.if_icmp .gt off, 3)) (ht : (pc : Int) + off = (tgt : Int)) (hc : ¬ y < x) (kf : ig_W G nL X Q S (pc + 3) lv st) : ig_W G nL X Q S pc lv (.int y :: .int x :: st) := ig_icmp_gt C tgt hdg ht (fun h => absurd h hc) (fun _ => kf)
theorem ig_if_le (C : ig_C G cc nL rm ret X) {x : Int32} {off : Int} (tgt : Nat) (hdg : decode cc pc = .ok (.ifCond .le off, 3)) (ht : (pc : Int) + off = (tgt : Int)) (kt : x ≤ 0 → ig_W G nL X Q S tgt lv st) (kf : ¬ x ≤ 0 → ig_W G nL X Q S (pc + 3) lv st) : ig_W G nL X Q S pc lv (.int x :: st) :=
  fun H locs ls hP hS hl => lv_if_le C.1.1 C.1.2.1 hdg ht (fun h => kt h H locs ls hP hS hl) (fun h => kf h H locs ls hP hS hl)
theorem ig_if_le_T (C : ig_C G cc nL rm ret X) {x : Int32} {off : Int} (tgt : Nat) (hdg : decode cc pc = .ok (.ifCond .le off, 3)) (ht : (pc : Int) + off = (tgt : Int)) (hc : x ≤ 0) (kt : ig_W G nL X Q S tgt lv st) : ig_W G nL X Q S pc lv (.int x :: st) := ig_if_le C tgt hdg ht (fun _ => kt) (fun h => absurd hc h)
theorem ig_if_le_F (C : ig_C G cc nL rm ret X) {x : Int32} {off : Int} (tgt : Nat) (hdg : decode cc pc = .ok (.ifCond .le off, 3)) (ht : (pc : Int) + off = (tgt : Int)) (hc : ¬ x ≤ 0) (kf : ig_W G nL X Q S (pc + 3) lv st) : ig_W G nL X Q S pc lv (.int x :: st) := ig_if_le C tgt hdg ht (fun h => absurd h hc) (fun _ => kf)
theorem ig_icmp_le (C : ig_C G cc nL rm ret X) {x y : Int32} {off : Int} (tgt : Nat) (hdg : decode cc pc = .ok (.if_icmp .le off, 3)) (ht : (pc : Int) + off = (tgt : Int)) (kt : x ≤ y → ig_W G nL X Q S tgt lv st) (kf : ¬ x ≤ y → ig_W G nL X Q S (pc + 3) lv st) : ig_W G nL X Q S pc lv (.int y :: .int x :: st) :=
  fun H locs ls hP hS hl => lv_icmp_le C.1.1 C.1.2.1 hdg ht (fun h => kt h H locs ls hP hS hl) (fun h => kf h H locs ls hP hS hl)
theorem ig_icmp_le_T (C : ig_C G cc nL rm ret X) {x y : Int32} {off : Int} (tgt : Nat) (hdg : decode cc pc = .ok (.if_icmp .le off, 3)) (ht : (pc : Int) + off = (tgt : Int)) (hc : x ≤ y) (kt : ig_W G nL X Q S tgt lv st) : ig_W G nL X Q S pc lv (.int y :: .int x :: st) := ig_icmp_le C tgt hdg ht (fun _ => kt) (fun h => absurd hc h)
theorem ig_icmp_le_F (C : ig_C G cc nL rm ret X) {x y : Int32} {off : Int} (tgt : Nat) (hdg : decode cc pc = .ok (.if_icmp .le off, 3)) (ht : (pc : Int) + off = (tgt : Int)) (hc : ¬ x ≤ y) (kf : ig_W G nL X Q S (pc + 3) lv st) : ig_W G nL X Q S pc lv (.int y :: .int x :: st) := ig_icmp_le C tgt hdg ht (fun h => absurd h hc) (fun _ => kf)
end Rows
/-! constants -/
theorem ki_0 : Int32.ofInt 0 = nI 0 := by decide
theorem ki_1 : Int32.ofInt 1 = nI 1 := by decide
theorem ki_2 : Int32.ofInt 2 = nI 2 := by decide
theorem ki_3 : Int32.ofInt 3 = nI 3 := by decide
theorem ki_4 : Int32.ofInt 4 = nI 4 := by decide
theorem ki_5 : Int32.ofInt 5 = nI 5 := by decide
theorem ki_m1 : Int32.ofInt (-1) = -1 := by decide
theorem kb_6 : (Int8.ofInt 6).toInt32 = nI 6 := by decide
theorem kb_7 : (Int8.ofInt 7).toInt32 = nI 7 := by decide
theorem kb_8 : (Int8.ofInt 8).toInt32 = nI 8 := by decide
theorem kb_9 : (Int8.ofInt 9).toInt32 = nI 9 := by decide
theorem kb_10 : (Int8.ofInt 10).toInt32 = nI 10 := by decide
theorem kb_31 : (Int8.ofInt 31).toInt32 = nI 31 := by decide
theorem kb_48 : (Int8.ofInt 48).toInt32 = nI 48 := by decide
theorem kb_60 : (Int8.ofInt 60).toInt32 = nI 60 := by decide
theorem kb_100 : (Int8.ofInt 100).toInt32 = nI 100 := by decide
theorem kb_m1 : (Int8.ofInt (-1)).toInt32 = -1 := by decide
theorem kb_m2 : (Int8.ofInt (-2)).toInt32 = -2 := by decide
theorem kb_m4 : (Int8.ofInt (-4)).toInt32 = -4 := by decide
theorem kb_m100 : (Int8.ofInt (-100)).toInt32 = -100 := by decide
theorem il_inc1 (a : Nat) : nI a + Int32.ofInt 1 = nI (a + 1) := nI_1 a
theorem nar_int (x : Int32) : narrow .int (.int x) = .int x := vp_nar_int x
end
section
/-! PURE: the abstract state (sizes, names, numbers, definitions), the specs of all calls over it, the model's arrays against it -/
abbrev il_A : Type := (Nat → Nat) × (Nat → Nat → Option Nat) × (Nat → Nat → Int32) × (Nat → Nat → Option Nat)
def oI (o : Option Nat) : Int32 := match o with
  | none => -4
  | some n => nI n
theorem oI_none : oI none = -4 := rfl
theorem oI_some (n : Nat) : oI (some n) = nI n := rfl
theorem nI_toI {n : Nat} (h : n < 2 ^ 31) : (nI n).toInt = (n : Int) := nI_toInt h
theorem nI_ne4 {n : Nat} (h : n < 2 ^ 31) : ¬ nI n = -4 := fun q => by
  have h1 := nI_toInt h
  rw [q] at h1
  have h2 : (-4 : Int32).toInt = -4 := by decide
  rw [h2] at h1
  omega
theorem oI_lt {o : Option Nat} (h : ∀ n, o = some n → n < 2 ^ 31) : oI o < 0 ↔ o = none := by
  cases o with
  | none => exact ⟨fun _ => rfl, fun _ => by decide⟩
  | some n => exact ⟨fun q => absurd q (nI_pos (h n rfl)), fun q => by cases q⟩
theorem oI_inj {o o' : Option Nat} (h : ∀ n, o = some n → n < 2 ^ 31) (h' : ∀ n, o' = some n → n < 2 ^ 31) (e : oI o = oI o') : o = o' := by
  cases o with
  | none =>
    cases o' with
    | none => rfl
    | some n => exact absurd e.symm (nI_ne4 (h' n rfl))
  | some n =>
    cases o' with
    | none => exact absurd e (nI_ne4 (h n rfl))
    | some k => rw [(nI_eq (h n rfl) (h' k rfl)).mp e]
/-- an int as a place below n -/
def il_ix (x : Int32) (n : Nat) : Option Nat := if 0 ≤ x.toInt ∧ x.toInt < (n : Int) then some x.toInt.toNat else none
theorem il_ix_in {j n : Nat} (h : j < n) (hn : n < 2 ^ 31) : il_ix (nI j) n = some j := by
  unfold il_ix
  rw [nI_toInt (Nat.lt_trans h hn), if_pos ⟨by omega, by omega⟩]
  simp
theorem il_ix_neg {x : Int32} {n : Nat} (h : x < 0) : il_ix x n = none := by
  unfold il_ix
  have : x.toInt < 0 := by simpa using Int32.lt_iff_toInt_lt.mp h
  rw [if_neg (by omega)]
theorem il_ix_big {x : Int32} {n : Nat} (hn : n < 2 ^ 31) (h : nI n ≤ x) : il_ix x n = none := by
  unfold il_ix
  have h1 := Int32.le_iff_toInt_le.mp h
  rw [nI_toInt hn] at h1
  rw [if_neg (by omega)]
/-- a place below n, or not -/
theorem il_cases (x : Int32) {n : Nat} (hn : n < 2 ^ 31) : (x < 0 ∧ il_ix x n = none) ∨ (¬ x < 0 ∧ nI n ≤ x ∧ il_ix x n = none) ∨ ∃ j, j < n ∧ x = nI j ∧ il_ix x n = some j := by
  rcases pk_ix x hn with h | h | ⟨j, hj, rfl⟩
  · exact Or.inl ⟨h, il_ix_neg h⟩
  · refine Or.inr (Or.inl ⟨fun q => ?_, h, il_ix_big hn h⟩)
    have h1 := Int32.le_iff_toInt_le.mp h
    rw [nI_toInt hn] at h1
    have : x.toInt < 0 := by simpa using Int32.lt_iff_toInt_lt.mp q
    omega
  · exact Or.inr (Or.inr ⟨j, hj, rfl, il_ix_in hj hn⟩)
/-- where module k begins -/
def bg (z : Nat → Nat) : Nat → Nat
  | 0 => 0
  | k + 1 => bg z k + z k
theorem bg_mono (z : Nat → Nat) {i j : Nat} (h : i ≤ j) : bg z i ≤ bg z j := by
  induction j with
  | zero => rw [Nat.le_zero.mp h]; exact Nat.le_refl _
  | succ j ih =>
    by_cases hj : i ≤ j
    · exact Nat.le_trans (ih hj) (Nat.le_add_right _ _)
    · rw [show i = j + 1 by omega]; exact Nat.le_refl _
theorem bg_le {z : Nat → Nat} (hz : ∀ m, m < 6 → z m ≤ 8) : ∀ k, k ≤ 6 → bg z k ≤ 8 * k := by
  intro k
  induction k with
  | zero => intro _; exact Nat.le_refl _
  | succ k ih =>
    intro hk
    have h1 := ih (by omega)
    have h2 := hz k (by omega)
    show bg z k + z k ≤ 8 * (k + 1)
    omega
theorem bg_congr {z z' : Nat → Nat} : ∀ k, (∀ m, m < k → z' m = z m) → bg z' k = bg z k := by
  intro k
  induction k with
  | zero => intro _; rfl
  | succ k ih =>
    intro h
    show bg z' k + z' k = bg z k + z k
    rw [ih (fun m hm => h m (by omega)), h k (by omega)]
/-- the first of the last n modules that defines name s -/
def mfk (d : Nat → Nat → Option Nat) (s : Nat) : Nat → Option Nat
  | 0 => none
  | n + 1 => if d (5 - n) s = none then mfk d s n else some (5 - n)
def mf (d : Nat → Nat → Option Nat) (s : Nat) : Option Nat := mfk d s 6
theorem mfk_some {d : Nat → Nat → Option Nat} {s : Nat} : ∀ n m, n ≤ 6 → mfk d s n = some m → m < 6 ∧ ∃ w, d m s = some w := by
  intro n
  induction n with
  | zero => intro m _ h; cases h
  | succ n ih =>
    intro m hn h
    unfold mfk at h
    by_cases hd : d (5 - n) s = none
    · rw [if_pos hd] at h
      exact ih m (by omega) h
    · rw [if_neg hd] at h
      cases h
      refine ⟨by omega, ?_⟩
      cases hw : d (5 - n) s with
      | none => exact absurd hw hd
      | some w => exact ⟨w, rfl⟩
theorem mf_some {d : Nat → Nat → Option Nat} {s m : Nat} (h : mf d s = some m) : m < 6 ∧ ∃ w, d m s = some w := mfk_some 6 m (Nat.le_refl 6) h
/-- the address of a name -/
def wh (a : il_A) (s : Nat) : Option Nat := match mf a.2.2.2 s with
  | none => none
  | some m => match a.2.2.2 m s with
    | none => none
    | some w => some (bg a.1 m + w)
theorem wh_none {a : il_A} {s : Nat} (h : mf a.2.2.2 s = none) : wh a s = none := by
  unfold wh
  rw [h]
theorem wh_some {a : il_A} {s m w : Nat} (h : mf a.2.2.2 s = some m) (hw : a.2.2.2 m s = some w) : wh a s = some (bg a.1 m + w) := by
  unfold wh
  rw [h]
  show (match a.2.2.2 m s with | none => none | some w => some (bg a.1 m + w)) = _
  rw [hw]
theorem wh_iff {a : il_A} {s : Nat} : wh a s = none ↔ mf a.2.2.2 s = none := by
  constructor
  · intro h
    cases hm : mf a.2.2.2 s with
    | none => rfl
    | some m =>
      obtain ⟨-, w, hw⟩ := mf_some hm
      rw [wh_some hm hw] at h
      cases h
  · exact wh_none
/-- what is written for a word -/
def bnd (k x : Int32) : Int32 := if k < 0 then -1 else k + x
def wv (a : il_A) (m w : Nat) : Int32 := match a.2.1 m w with
  | none => a.2.2.1 m w
  | some s => bnd (oI (wh a s)) (a.2.2.1 m w)
theorem wv_none {a : il_A} {m w : Nat} (h : a.2.1 m w = none) : wv a m w = a.2.2.1 m w := by
  unfold wv
  rw [h]
theorem wv_some {a : il_A} {m w s : Nat} (h : a.2.1 m w = some s) : wv a m w = bnd (oI (wh a s)) (a.2.2.1 m w) := by
  unfold wv
  rw [h]
/-- the module of a place: the first of the last n that holds it -/
def mok (z : Nat → Nat) (p : Nat) : Nat → Option Nat
  | 0 => none
  | n + 1 => if bg z (5 - n) ≤ p ∧ p < bg z (5 - n) + z (5 - n) then some (5 - n) else mok z p n
def mo (z : Nat → Nat) (p : Nat) : Option Nat := mok z p 6
theorem mok_out {z : Nat → Nat} {p : Nat} (h : bg z 6 ≤ p) : ∀ n, n ≤ 6 → mok z p n = none := by
  intro n
  induction n with
  | zero => intro _; rfl
  | succ n ih =>
    intro hn
    unfold mok
    have h1 : bg z (5 - n + 1) ≤ bg z 6 := bg_mono z (by omega)
    have h2 : bg z (5 - n + 1) = bg z (5 - n) + z (5 - n) := rfl
    rw [if_neg (by omega)]
    exact ih (by omega)
theorem mok_at {z : Nat → Nat} {m w : Nat} (hw : w < z m) : ∀ n, n ≤ 6 → 6 - n ≤ m → m < 6 → mok z (bg z m + w) n = some m := by
  intro n
  induction n with
  | zero => intro _ h1 h2; omega
  | succ n ih =>
    intro hn h1 h2
    unfold mok
    by_cases hm : m = 5 - n
    · rw [if_pos (by rw [← hm]; omega), hm]
    · have h3 : bg z (5 - n + 1) ≤ bg z m := bg_mono z (by omega)
      have h4 : bg z (5 - n + 1) = bg z (5 - n) + z (5 - n) := rfl
      rw [if_neg (by omega)]
      exact ih (by omega) (by omega) h2
theorem mo_at {z : Nat → Nat} {m w : Nat} (hm : m < 6) (hw : w < z m) : mo z (bg z m + w) = some m := mok_at hw 6 (Nat.le_refl 6) (by omega) hm
theorem mo_out {z : Nat → Nat} {p : Nat} (h : bg z 6 ≤ p) : mo z p = none := mok_out h 6 (Nat.le_refl 6)
theorem bg_find {z : Nat → Nat} {p : Nat} : ∀ k, p < bg z k → ∃ m w, m < k ∧ w < z m ∧ p = bg z m + w := by
  intro k
  induction k with
  | zero => intro h; exact absurd h (Nat.not_lt_zero _)
  | succ k ih =>
    intro h
    by_cases hk : p < bg z k
    · obtain ⟨m, w, h1, h2, h3⟩ := ih hk
      exact ⟨m, w, by omega, h2, h3⟩
    · have h4 : bg z (k + 1) = bg z k + z k := rfl
      exact ⟨k, p - bg z k, by omega, by omega, by omega⟩
/-- the value of a place -/
def vl (a : il_A) (p : Nat) : Int32 := match mo a.1 p with
  | none => 0
  | some m => wv a m (p - bg a.1 m)
theorem vl_at {a : il_A} {m w : Nat} (hm : m < 6) (hw : w < a.1 m) : vl a (bg a.1 m + w) = wv a m w := by
  unfold vl
  rw [mo_at hm hw]
  show wv a m (bg a.1 m + w - bg a.1 m) = wv a m w
  rw [Nat.add_sub_cancel_left]
theorem vl_out {a : il_A} {p : Nat} (h : bg a.1 6 ≤ p) : vl a p = 0 := by
  unfold vl
  rw [mo_out h]
/-- counts, unions, sums -/
def cn (P : Nat → Bool) : Nat → Nat
  | 0 => 0
  | n + 1 => cn P n + (if P n = true then 1 else 0)
theorem cn_le (P : Nat → Bool) : ∀ n, cn P n ≤ n := by
  intro n
  induction n with
  | zero => exact Nat.le_refl _
  | succ n ih =>
    show cn P n + (if P n = true then 1 else 0) ≤ n + 1
    split <;> omega
def ou (P : Nat → Bool) : Nat → Int32
  | 0 => nI 0
  | n + 1 => if P n = true then ou P n ||| (nI 1 <<< (nI (n / 8) &&& 31)) else ou P n
def sm (g : Nat → Int32) : Nat → Int32
  | 0 => nI 0
  | n + 1 => sm g n + nI (n + 1) * g n
def iw (a : il_A) (f : Option Nat → Bool) (i : Nat) : Bool := decide (i % 8 < a.1 (i / 8)) && f (a.2.1 (i / 8) (i % 8))
def f_und (a : il_A) (o : Option Nat) : Bool := match o with
  | none => false
  | some s => (mf a.2.2.2 s).isNone
def f_use (s : Nat) (o : Option Nat) : Bool := decide (o = some s)
def f_usr (a : il_A) (j : Nat) (o : Option Nat) : Bool := match o with
  | none => false
  | some s => decide (mf a.2.2.2 s = some j)
def f_idl (a : il_A) (i : Nat) : Bool := (a.2.2.2 (i / 10) (i % 10)).isSome && decide (¬ mf a.2.2.2 (i % 10) = some (i / 10))
/-! ===== the calls ===== -/
def a_im (a : il_A) (j i : Nat) (n : Option Nat) (v : Int32) : il_A :=
  (fun m => if m = j then a.1 j + 1 else a.1 m,
   fun m w => if m = j then (if w < i then a.2.1 j w else if w = i then n else a.2.1 j (w - 1)) else a.2.1 m w,
   fun m w => if m = j then (if w < i then a.2.2.1 j w else if w = i then v else a.2.2.1 j (w - 1)) else a.2.2.1 m w,
   a.2.2.2)
def a_patch (a : il_A) (j i : Nat) (v : Int32) : il_A :=
  (a.1, fun m w => if m = j ∧ w = i then none else a.2.1 m w, fun m w => if m = j ∧ w = i then v else a.2.2.1 m w, a.2.2.2)
def a_rm (a : il_A) (j i : Nat) : il_A :=
  (fun m => if m = j then a.1 j - 1 else a.1 m,
   fun m w => if m = j then (if w < i then a.2.1 j w else a.2.1 j (w + 1)) else a.2.1 m w,
   fun m w => if m = j then (if w < i then a.2.2.1 j w else a.2.2.1 j (w + 1)) else a.2.2.1 m w,
   a.2.2.2)
def a_df (a : il_A) (d : Nat → Nat → Option Nat) : il_A := (a.1, a.2.1, a.2.2.1, d)
def oUp (i : Nat) (o : Option Nat) : Option Nat := match o with
  | none => none
  | some w => some (if i ≤ w then w + 1 else w)
def oDn (i : Nat) (o : Option Nat) : Option Nat := match o with
  | none => none
  | some w => some (if i < w then w - 1 else w)
def d_up (d : Nat → Nat → Option Nat) (j i : Nat) : Nat → Nat → Option Nat := fun m s => if m = j then oUp i (d j s) else d m s
def d_dn (d : Nat → Nat → Option Nat) (j i : Nat) : Nat → Nat → Option Nat := fun m s => if m = j then oDn i (d j s) else d m s
def d_cl (d : Nat → Nat → Option Nat) (j : Nat) : Nat → Nat → Option Nat := fun m s => if m = j then none else d m s
def d_st (d : Nat → Nat → Option Nat) (j s : Nat) (o : Option Nat) : Nat → Nat → Option Nat := fun m t => if m = j ∧ t = s then o else d m t
def a_unl (a : il_A) (j : Nat) : il_A := (fun m => if m = j then 0 else a.1 m, a.2.1, a.2.2.1, d_cl a.2.2.2 j)
abbrev il_R : Type := Int32 × il_A
def sp_app (a : il_A) (j : Nat) (n : Option Nat) (v : Int32) : il_R := if a.1 j = 8 then (-2, a) else (nI (a.1 j + 1), a_im a j (a.1 j) n v)
def sp_constant (a : il_A) (m v : Int32) : il_R := match il_ix m 6 with
  | none => (-1, a)
  | some j => sp_app a j none v
def sp_reference (a : il_A) (m n x : Int32) : il_R := match il_ix m 6 with
  | none => (-1, a)
  | some j => match il_ix n 10 with
    | none => (-1, a)
    | some s => if x < -100 then (-1, a) else if nI 100 < x then (-1, a) else sp_app a j (some s) x
def sp_patch (a : il_A) (m w v : Int32) : il_R := match il_ix m 6 with
  | none => (-1, a)
  | some j => match il_ix w (a.1 j) with
    | none => (-4, a)
    | some i => (if a.2.1 j i = none then nI 0 else nI 1, a_patch a j i v)
def sp_insert (a : il_A) (m w v : Int32) : il_R := match il_ix m 6 with
  | none => (-1, a)
  | some j => match il_ix w (a.1 j + 1) with
    | none => (-4, a)
    | some i => if a.1 j = 8 then (-2, a) else (nI (a.1 j + 1), a_df (a_im a j i none v) (d_up a.2.2.2 j i))
def sp_delete (a : il_A) (m w : Int32) : il_R := match il_ix m 6 with
  | none => (-1, a)
  | some j => match il_ix w (a.1 j) with
    | none => (-4, a)
    | some i => (nI (a.1 j - 1), a_df (a_rm a j i) (d_dn a.2.2.2 j i))
def sp_unload (a : il_A) (m : Int32) : il_R := match il_ix m 6 with
  | none => (-1, a)
  | some j => (nI (a.1 j), a_unl a j)
def sp_define (a : il_A) (m n w : Int32) : il_R := match il_ix m 6 with
  | none => (-1, a)
  | some j => match il_ix n 10 with
    | none => (-1, a)
    | some s => match il_ix w (a.1 j + 1) with
      | none => (-4, a)
      | some i => (if a.2.2.2 j s = none then nI 0 else nI 1, a_df a (d_st a.2.2.2 j s (some i)))
def sp_undefine (a : il_A) (m n : Int32) : il_R := match il_ix m 6 with
  | none => (-1, a)
  | some j => match il_ix n 10 with
    | none => (-1, a)
    | some s => (oI (a.2.2.2 j s), a_df a (d_st a.2.2.2 j s none))
def q_value (a : il_A) (x : Int32) : Int32 := match il_ix x (bg a.1 6) with
  | none => nI 0
  | some p => vl a p
def q_address (a : il_A) (m : Int32) : Int32 := match il_ix m 6 with
  | none => -1
  | some j => nI (bg a.1 j)
def q_where (a : il_A) (n : Int32) : Int32 := match il_ix n 10 with
  | none => -4
  | some s => oI (wh a s)
def q_uses (a : il_A) (n : Int32) : Int32 := match il_ix n 10 with
  | none => -1
  | some s => nI (cn (iw a (f_use s)) 48)
def q_users (a : il_A) (m : Int32) : Int32 := match il_ix m 6 with
  | none => -1
  | some j => ou (iw a (f_usr a j)) 48
def q_moduleOf (a : il_A) (x : Int32) : Int32 := match il_ix x (bg a.1 6) with
  | none => -4
  | some p => oI (mo a.1 p)
/-! ===== what always holds ===== -/
def vZ (a : il_A) : Prop := (∀ m, m < 6 → a.1 m ≤ 8) ∧ ∀ m w s, m < 6 → w < a.1 m → a.2.1 m w = some s → s < 10
def vD (a : il_A) : Prop := ∀ m s w, m < 6 → s < 10 → a.2.2.2 m s = some w → w ≤ a.1 m
/-- the model's arrays: 0 names, 1 numbers, 2 sizes, 3 defined -/
def RM (a : il_A) (S : il_S) : Prop := vZ a ∧ vD a ∧ (∀ m, m < 6 → S 2 m = nI (a.1 m)) ∧ (∀ m s, m < 6 → s < 10 → S 3 (10 * m + s) = oI (a.2.2.2 m s)) ∧ ∀ m w, m < 6 → w < a.1 m → S 0 (8 * m + w) = oI (a.2.1 m w) ∧ S 1 (8 * m + w) = a.2.2.1 m w
theorem vZ_im {a : il_A} {j i : Nat} {n : Option Nat} {v : Int32} (h : vZ a) (hj : a.1 j < 8) (hi : i ≤ a.1 j) (hn : ∀ s, n = some s → s < 10) (hj6 : j < 6) : vZ (a_im a j i n v) := by
  refine ⟨fun m hm => ?_, fun m w s hm hw e => ?_⟩
  · show (if m = j then a.1 j + 1 else a.1 m) ≤ 8
    have := h.1 m hm
    split <;> omega
  · have hw : w < (if m = j then a.1 j + 1 else a.1 m) := hw
    have e : (if m = j then (if w < i then a.2.1 j w else if w = i then n else a.2.1 j (w - 1)) else a.2.1 m w) = some s := e
    by_cases hm' : m = j
    · rw [if_pos hm'] at e hw
      by_cases h1 : w < i
      · rw [if_pos h1] at e
        exact h.2 j w s hj6 (by omega) e
      · rw [if_neg h1] at e
        by_cases h2 : w = i
        · rw [if_pos h2] at e
          exact hn s e
        · rw [if_neg h2] at e
          exact h.2 j (w - 1) s hj6 (by omega) e
    · rw [if_neg hm'] at e hw
      exact h.2 m w s hm hw e
theorem vZ_rm {a : il_A} {j i : Nat} (h : vZ a) (hj6 : j < 6) (hi : i < a.1 j) : vZ (a_rm a j i) := by
  refine ⟨fun m hm => ?_, fun m w s hm hw e => ?_⟩
  · show (if m = j then a.1 j - 1 else a.1 m) ≤ 8
    have h1 := h.1 m hm
    have h2 := h.1 j hj6
    split <;> omega
  · have hw : w < (if m = j then a.1 j - 1 else a.1 m) := hw
    have e : (if m = j then (if w < i then a.2.1 j w else a.2.1 j (w + 1)) else a.2.1 m w) = some s := e
    by_cases hm' : m = j
    · rw [if_pos hm'] at e hw
      by_cases h1 : w < i
      · rw [if_pos h1] at e
        exact h.2 j w s hj6 (by omega) e
      · rw [if_neg h1] at e
        exact h.2 j (w + 1) s hj6 (by omega) e
    · rw [if_neg hm'] at e hw
      exact h.2 m w s hm hw e
theorem vZ_patch {a : il_A} {j i : Nat} {v : Int32} (h : vZ a) : vZ (a_patch a j i v) := by
  refine ⟨h.1, fun m w s hm hw e => ?_⟩
  have e : (if m = j ∧ w = i then none else a.2.1 m w) = some s := e
  by_cases h1 : m = j ∧ w = i
  · rw [if_pos h1] at e; cases e
  · rw [if_neg h1] at e; exact h.2 m w s hm hw e
theorem vZ_unl {a : il_A} {j : Nat} (h : vZ a) : vZ (a_unl a j) := by
  refine ⟨fun m hm => ?_, fun m w s hm hw e => ?_⟩
  · show (if m = j then 0 else a.1 m) ≤ 8
    have := h.1 m hm
    split <;> omega
  · have hw : w < (if m = j then 0 else a.1 m) := hw
    by_cases hm' : m = j
    · rw [if_pos hm'] at hw; omega
    · rw [if_neg hm'] at hw
      exact h.2 m w s hm hw e
theorem vD_im {a : il_A} {j i : Nat} {n : Option Nat} {v : Int32} (h : vD a) : vD (a_im a j i n v) := by
  intro m s w hm hs e
  have := h m s w hm hs e
  show w ≤ (if m = j then a.1 j + 1 else a.1 m)
  by_cases hm' : m = j
  · rw [if_pos hm']; rw [hm'] at this; omega
  · rw [if_neg hm']; exact this
theorem vD_up {a : il_A} {j i : Nat} {n : Option Nat} {v : Int32} (h : vD a) : vD (a_df (a_im a j i n v) (d_up a.2.2.2 j i)) := by
  intro m s w hm hs e
  have e : (if m = j then oUp i (a.2.2.2 j s) else a.2.2.2 m s) = some w := e
  show w ≤ (if m = j then a.1 j + 1 else a.1 m)
  by_cases hm' : m = j
  · rw [if_pos hm'] at e ⊢
    subst hm'
    cases hd : a.2.2.2 m s with
    | none => rw [hd] at e; cases e
    | some u =>
      rw [hd] at e
      have h1 := h m s u hm hs hd
      have h2 : (if i ≤ u then u + 1 else u) = w := Option.some.inj e
      split at h2 <;> omega
  · rw [if_neg hm'] at e ⊢
    exact h m s w hm hs e
theorem vD_dn {a : il_A} {j i : Nat} (h : vD a) (hi : i < a.1 j) : vD (a_df (a_rm a j i) (d_dn a.2.2.2 j i)) := by
  intro m s w hm hs e
  have e : (if m = j then oDn i (a.2.2.2 j s) else a.2.2.2 m s) = some w := e
  show w ≤ (if m = j then a.1 j - 1 else a.1 m)
  by_cases hm' : m = j
  · rw [if_pos hm'] at e ⊢
    subst hm'
    cases hd : a.2.2.2 m s with
    | none => rw [hd] at e; cases e
    | some u =>
      rw [hd] at e
      have h1 := h m s u hm hs hd
      have h2 : (if i < u then u - 1 else u) = w := Option.some.inj e
      split at h2 <;> omega
  · rw [if_neg hm'] at e ⊢
    exact h m s w hm hs e
theorem vD_cl {a : il_A} {j : Nat} (h : vD a) : vD (a_unl a j) := by
  intro m s w hm hs e
  have e : (if m = j then none else a.2.2.2 m s) = some w := e
  show w ≤ (if m = j then 0 else a.1 m)
  by_cases hm' : m = j
  · rw [if_pos hm'] at e; cases e
  · rw [if_neg hm'] at e ⊢
    exact h m s w hm hs e
theorem vD_st {a : il_A} {j s i : Nat} {o : Option Nat} (h : vD a) (ho : ∀ i, o = some i → i ≤ a.1 j) : vD (a_df a (d_st a.2.2.2 j s o)) := by
  intro m t w hm hs e
  have e : (if m = j ∧ t = s then o else a.2.2.2 m t) = some w := e
  show w ≤ a.1 m
  by_cases h1 : m = j ∧ t = s
  · rw [if_pos h1] at e
    rw [h1.1]
    exact ho w e
  · rw [if_neg h1] at e
    exact h m t w hm hs e
theorem vZ_df {a : il_A} {d : Nat → Nat → Option Nat} (h : vZ a) : vZ (a_df a d) := h
theorem vA_dlt {a : il_A} (hZ : vZ a) (hD : vD a) {m s : Nat} (hm : m < 6) (hs : s < 10) : ∀ n, a.2.2.2 m s = some n → n < 2 ^ 31 := by
  intro n e
  have h1 := hD m s n hm hs e
  have h2 := hZ.1 m hm
  omega
theorem vA_nlt {a : il_A} (hZ : vZ a) {m w : Nat} (hm : m < 6) (hw : w < a.1 m) : ∀ n, a.2.1 m w = some n → n < 2 ^ 31 := by
  intro n e
  have h1 := hZ.2 m w n hm hw e
  omega
/-- sU, read -/
theorem sU_s {S : il_S} {k j : Nat} {x : Int32} : sU S k j x k j = x := by simp [sU, upd]
theorem sU_j {S : il_S} {k j i : Nat} {x : Int32} (h : i ≠ j) : sU S k j x k i = S k i := by simp [sU, upd, h]
theorem sU_k {S : il_S} {k j a : Nat} {x : Int32} (h : a ≠ k) : sU S k j x a = S a := by simp [sU, h]
end
section
def R_law : String := "IncrementalLinkerLaw"
theorem kX_bind : ig_K RX0 RX0 40 yX0_bind cX0_bind 3 none 1 := ⟨q101, q103, qs8, q23, q104, by decide +kernel⟩
theorem kX_rebind : ig_K RX0 RX0 44 yX0_rebind cX0_rebind 4 none 1 := ⟨q109, q111, qs10, q23, q112, by decide +kernel⟩
theorem kX_link : ig_K RX0 RX0 47 yX0_link cX0_link 4 none 2 := ⟨q97, q99, qs7, q23, q100, by decide +kernel⟩
theorem kX_unlink : ig_K RX0 RX0 51 yX0_unlink cX0_unlink 3 none 2 := ⟨q89, q91, qs5, q23, q92, by decide +kernel⟩
theorem kX_put : ig_K RX0 RX0 54 yX0_put cX0_put 5 none 4 := ⟨q93, q95, qs6, q23, q96, by decide +kernel⟩
theorem kX_moveWord : ig_K RX0 RX0 58 yX0_moveWord cX0_moveWord 4 none 2 := ⟨q85, q87, qs4, q23, q88, by decide +kernel⟩
theorem kX_words : ig_K RX0 RX0 61 yX0_words cX0_words 2 (some .int) 1 := ⟨q77, q79, qs2, q23, q80, by decide +kernel⟩
theorem kX_open : ig_K RX0 RX0 65 yX0_open cX0_open 4 none 2 := ⟨q81, q83, qs3, q23, q84, by decide +kernel⟩
theorem kX_refresh : ig_K RX0 RX0 68 yX0_refresh cX0_refresh 4 none 0 := ⟨q105, q107, qs9, q23, q108, by decide +kernel⟩
theorem kX_bad : ig_K RX0 RX0 71 yX0_bad cX0_bad 2 (some .boolean) 1 := ⟨q69, q71, qs0, q23, q72, by decide +kernel⟩
theorem kX_append : ig_K RX0 RX0 75 yX0_append cX0_append 6 (some .int) 4 := ⟨q73, q75, qs1, q23, q76, by decide +kernel⟩
theorem kX_badName : ig_K RX0 RX0 79 yX0_badName cX0_badName 2 (some .boolean) 1 := ⟨q117, q119, qs11, q23, q120, by decide +kernel⟩
theorem kX_close : ig_K RX0 RX0 82 yX0_close cX0_close 4 none 2 := ⟨q133, q135, qs12, q23, q136, by decide +kernel⟩
theorem kX_chainLength : ig_K RX0 RX0 85 yX0_chainLength cX0_chainLength 5 (some .int) 1 := ⟨q169, q171, qs13, q23, q172, by decide +kernel⟩
theorem kX_moduleAt : ig_K RX0 RX0 88 yX0_moduleAt cX0_moduleAt 4 (some .int) 1 := ⟨q185, q187, qs14, q23, q188, by decide +kernel⟩
theorem kLX_constant : ig_K R_law RX0 13 yX0_constant cX0_constant 3 (some .int) 2 := ⟨q65, q66, q67, q23, q68, by decide +kernel⟩
theorem kLM_constant : ig_K R_law RX1 17 yX1_constant cX1_constant 3 (some .int) 2 := ⟨q216, q217, q218, q24, q219, by decide +kernel⟩
theorem kLX_reference : ig_K R_law RX0 18 yX0_reference cX0_reference 4 (some .int) 3 := ⟨q113, q114, q115, q23, q116, by decide +kernel⟩
theorem kLM_reference : ig_K R_law RX1 22 yX1_reference cX1_reference 5 (some .int) 3 := ⟨q228, q229, q230, q24, q231, by decide +kernel⟩
theorem kLX_patch : ig_K R_law RX0 23 yX0_patch cX0_patch 6 (some .int) 3 := ⟨q121, q122, q123, q23, q124, by decide +kernel⟩
theorem kLM_patch : ig_K R_law RX1 26 yX1_patch cX1_patch 5 (some .int) 3 := ⟨q236, q237, q238, q24, q239, by decide +kernel⟩
theorem kLX_insert : ig_K R_law RX0 27 yX0_insert cX0_insert 6 (some .int) 3 := ⟨q125, q126, q127, q23, q128, by decide +kernel⟩
theorem kLM_insert : ig_K R_law RX1 30 yX1_insert cX1_insert 5 (some .int) 3 := ⟨q244, q245, q246, q24, q247, by decide +kernel⟩
theorem kLX_delete : ig_K R_law RX0 31 yX0_delete cX0_delete 4 (some .int) 2 := ⟨q129, q130, q131, q23, q132, by decide +kernel⟩
theorem kLM_delete : ig_K R_law RX1 34 yX1_delete cX1_delete 4 (some .int) 2 := ⟨q248, q249, q250, q24, q251, by decide +kernel⟩
theorem kLX_unload : ig_K R_law RX0 35 yX0_unload cX0_unload 4 (some .int) 1 := ⟨q137, q138, q139, q23, q140, by decide +kernel⟩
theorem kLM_unload : ig_K R_law RX1 39 yX1_unload cX1_unload 4 (some .int) 1 := ⟨q252, q253, q254, q24, q255, by decide +kernel⟩
theorem kLX_define : ig_K R_law RX0 40 yX0_define cX0_define 5 (some .int) 3 := ⟨q141, q142, q143, q23, q144, by decide +kernel⟩
theorem kLM_define : ig_K R_law RX1 43 yX1_define cX1_define 5 (some .int) 3 := ⟨q256, q257, q258, q24, q259, by decide +kernel⟩
theorem kLX_undefine : ig_K R_law RX0 44 yX0_undefine cX0_undefine 4 (some .int) 2 := ⟨q145, q146, q147, q23, q148, by decide +kernel⟩
theorem kLM_undefine : ig_K R_law RX1 47 yX1_undefine cX1_undefine 4 (some .int) 2 := ⟨q260, q261, q262, q24, q263, by decide +kernel⟩
theorem kLX_size : ig_K R_law RX0 48 yX0_size cX0_size 1 (some .int) 0 := ⟨q149, q150, q151, q23, q152, by decide +kernel⟩
theorem kLM_size : ig_K R_law RX1 52 yX1_size cX1_size 1 (some .int) 0 := ⟨q264, q265, q266, q24, q267, by decide +kernel⟩
theorem kLX_value : ig_K R_law RX0 53 yX0_value cX0_value 2 (some .int) 1 := ⟨q153, q154, q155, q23, q156, by decide +kernel⟩
theorem kLM_value : ig_K R_law RX1 56 yX1_value cX1_value 3 (some .int) 1 := ⟨q272, q273, q274, q24, q275, by decide +kernel⟩
theorem kLX_address : ig_K R_law RX0 57 yX0_address cX0_address 2 (some .int) 1 := ⟨q157, q158, q159, q23, q160, by decide +kernel⟩
theorem kLM_address : ig_K R_law RX1 60 yX1_address cX1_address 2 (some .int) 1 := ⟨q292, q293, q294, q24, q295, by decide +kernel⟩
theorem kLX_where : ig_K R_law RX0 61 yX0_where cX0_where 2 (some .int) 1 := ⟨q161, q162, q163, q23, q164, by decide +kernel⟩
theorem kLM_where : ig_K R_law RX1 64 yX1_where cX1_where 3 (some .int) 1 := ⟨q296, q285, q286, q24, q287, by decide +kernel⟩
theorem kLX_undefined : ig_K R_law RX0 65 yX0_undefined cX0_undefined 4 (some .int) 0 := ⟨q165, q166, q167, q23, q168, by decide +kernel⟩
theorem kLM_undefined : ig_K R_law RX1 68 yX1_undefined cX1_undefined 3 (some .int) 0 := ⟨q297, q298, q299, q24, q300, by decide +kernel⟩
theorem kLX_idle : ig_K R_law RX0 69 yX0_idle cX0_idle 4 (some .int) 0 := ⟨q173, q174, q175, q23, q176, by decide +kernel⟩
theorem kLM_idle : ig_K R_law RX1 72 yX1_idle cX1_idle 3 (some .int) 0 := ⟨q301, q302, q303, q24, q304, by decide +kernel⟩
theorem kLX_uses : ig_K R_law RX0 73 yX0_uses cX0_uses 2 (some .int) 1 := ⟨q177, q178, q179, q23, q180, by decide +kernel⟩
theorem kLM_uses : ig_K R_law RX1 76 yX1_uses cX1_uses 4 (some .int) 1 := ⟨q305, q306, q307, q24, q308, by decide +kernel⟩
theorem kLX_users : ig_K R_law RX0 77 yX0_users cX0_users 6 (some .int) 1 := ⟨q181, q182, q183, q23, q184, by decide +kernel⟩
theorem kLM_users : ig_K R_law RX1 80 yX1_users cX1_users 4 (some .int) 1 := ⟨q309, q310, q311, q24, q312, by decide +kernel⟩
theorem kLX_moduleOf : ig_K R_law RX0 81 yX0_moduleOf cX0_moduleOf 2 (some .int) 1 := ⟨q189, q190, q191, q23, q192, by decide +kernel⟩
theorem kLM_moduleOf : ig_K R_law RX1 84 yX1_moduleOf cX1_moduleOf 4 (some .int) 1 := ⟨q313, q277, q278, q24, q279, by decide +kernel⟩
theorem kLX_digest : ig_K R_law RX0 85 yX0_digest cX0_digest 3 (some .int) 0 := ⟨q193, q194, q195, q23, q196, by decide +kernel⟩
theorem kLM_digest : ig_K R_law RX1 88 yX1_digest cX1_digest 3 (some .int) 0 := ⟨q314, q315, q316, q24, q317, by decide +kernel⟩
theorem kM_isModule : ig_K RX1 RX1 22 yX1_isModule cX1_isModule 2 (some .boolean) 1 := ⟨q220, q222, qs15, q24, q223, by decide +kernel⟩
theorem kM_append : ig_K RX1 RX1 26 yX1_append cX1_append 4 (some .int) 3 := ⟨q224, q226, qs16, q24, q227, by decide +kernel⟩
theorem kM_isName : ig_K RX1 RX1 30 yX1_isName cX1_isName 2 (some .boolean) 1 := ⟨q232, q234, qs17, q24, q235, by decide +kernel⟩
theorem kM_isWord : ig_K RX1 RX1 33 yX1_isWord cX1_isWord 3 (some .boolean) 2 := ⟨q240, q242, qs18, q24, q243, by decide +kernel⟩
theorem kM_begin : ig_K RX1 RX1 37 yX1_begin cX1_begin 4 (some .int) 1 := ⟨q268, q270, qs19, q24, q271, by decide +kernel⟩
theorem kM_where : ig_K RX1 RX1 41 yX1_where cX1_where 3 (some .int) 1 := ⟨q284, q285, q286, q24, q287, by decide +kernel⟩
theorem kM_moduleOf : ig_K RX1 RX1 44 yX1_moduleOf cX1_moduleOf 4 (some .int) 1 := ⟨q276, q277, q278, q24, q279, by decide +kernel⟩
theorem kM_valueOf : ig_K RX1 RX1 47 yX1_valueOf cX1_valueOf 3 (some .int) 1 := ⟨q280, q282, qs20, q24, q283, by decide +kernel⟩
theorem kM_moduleFor : ig_K RX1 RX1 50 yX1_moduleFor cX1_moduleFor 3 (some .int) 1 := ⟨q288, q290, qs21, q24, q291, by decide +kernel⟩
theorem kM_value : ig_K RX1 RX1 53 yX1_value cX1_value 3 (some .int) 1 := ⟨q318, q273, q274, q24, q275, by decide +kernel⟩
theorem fX_start : ig_F GX 0 7 := ⟨Nat.le_of_ble_eq_true rfl, q33, rfl⟩
theorem fX_value : ig_F GX 1 13 := ⟨Nat.le_of_ble_eq_true rfl, q34, rfl⟩
theorem fX_name : ig_F GX 2 16 := ⟨Nat.le_of_ble_eq_true rfl, q35, rfl⟩
theorem fX_addend : ig_F GX 3 19 := ⟨Nat.le_of_ble_eq_true rfl, q36, rfl⟩
theorem fX_defined : ig_F GX 4 22 := ⟨Nat.le_of_ble_eq_true rfl, q37, rfl⟩
theorem fX_known : ig_F GX 5 25 := ⟨Nat.le_of_ble_eq_true rfl, q38, rfl⟩
theorem fX_counting : ig_F GX 6 28 := ⟨Nat.le_of_ble_eq_true rfl, q39, rfl⟩
theorem fX_chain : ig_F GX 7 31 := ⟨Nat.le_of_ble_eq_true rfl, q40, rfl⟩
theorem fX_next : ig_F GX 8 34 := ⟨Nat.le_of_ble_eq_true rfl, q41, rfl⟩
theorem fX_before : ig_F GX 9 37 := ⟨Nat.le_of_ble_eq_true rfl, q42, rfl⟩
theorem fM_names : ig_F GM 0 7 := ⟨Nat.le_of_ble_eq_true rfl, q203, rfl⟩
theorem fM_numbers : ig_F GM 1 13 := ⟨Nat.le_of_ble_eq_true rfl, q204, rfl⟩
theorem fM_sizes : ig_F GM 2 16 := ⟨Nat.le_of_ble_eq_true rfl, q205, rfl⟩
theorem fM_defined : ig_F GM 3 19 := ⟨Nat.le_of_ble_eq_true rfl, q206, rfl⟩
end
section
/-! THE MODEL, leaves -/
theorem mfk_succ {d : Nat → Nat → Option Nat} {s n : Nat} : mfk d s (n + 1) = if d (5 - n) s = none then mfk d s n else some (5 - n) := rfl
def il_b (o : Option Nat) : Int32 := match o with
  | none => nI 0
  | some _ => nI 1
theorem il_gt {a b : Nat} {x : Int32} (hab : a < b) (hb : b < 2 ^ 31) (h : nI b ≤ x) : nI a < x := by
  have h1 := Int32.le_iff_toInt_le.mp h
  rw [nI_toInt hb] at h1
  refine Int32.lt_iff_toInt_lt.mpr ?_
  rw [nI_toInt (by omega)]
  omega
theorem il_ge {a b : Nat} {x : Int32} (hab : a ≤ b) (hb : b < 2 ^ 31) (h : nI b ≤ x) : nI a ≤ x := by
  have h1 := Int32.le_iff_toInt_le.mp h
  rw [nI_toInt hb] at h1
  refine Int32.le_iff_toInt_le.mpr ?_
  rw [nI_toInt (by omega)]
  omega
theorem il_nlt {a b : Nat} {x : Int32} (hab : a ≤ b) (hb : b < 2 ^ 31) (h : nI b ≤ x) : ¬ x < nI a := fun q => by
  have h1 := Int32.le_iff_toInt_le.mp h
  have h2 := Int32.lt_iff_toInt_lt.mp q
  rw [nI_toInt hb] at h1
  rw [nI_toInt (by omega)] at h2
  omega
theorem il_nle {a b : Nat} {x : Int32} (hab : a < b) (hb : b < 2 ^ 31) (h : nI b ≤ x) : ¬ x ≤ nI a := fun q => by
  have h1 := Int32.le_iff_toInt_le.mp h
  have h2 := Int32.le_iff_toInt_le.mp q
  rw [nI_toInt hb] at h1
  rw [nI_toInt (by omega)] at h2
  omega
theorem il_neg_lt {a : Nat} {x : Int32} (ha : a < 2 ^ 31) (h : x < 0) : x < nI a := by
  have h1 : x.toInt < 0 := by simpa using Int32.lt_iff_toInt_lt.mp h
  refine Int32.lt_iff_toInt_lt.mpr ?_
  rw [nI_toInt ha]
  omega
set_option maxHeartbeats 1000000 in
set_option maxRecDepth 100000 in
theorem mM_isModule (l : Launch) (S : il_S) (x : Int32) : ig_Mi GM l yX1_isModule cX1_isModule 2 .boolean 0 0 [x] S (fun r S' => r = il_b (il_ix x 6) ∧ S = S') := by
  refine ig_Mi.of GM_ok (by decide) rfl (Nat.le_of_ble_eq_true rfl) (fun X C => ?_)
  rcases il_cases x (n := 6) (by decide) with ⟨h, e⟩ | ⟨h, h6, e⟩ | ⟨j, hj, rfl, e⟩
  · refine ig_iln C 0 dX1_isModule_0 rfl rfl ?_
    refine ig_if_lt_T C 13 dX1_isModule_1 (by decide) h ?_
    refine ig_ic C dX1_isModule_13 ki_0 ?_
    exact ig_ret C rfl dX1_isModule_14 ⟨by rw [e]; rfl, rfl⟩
  · refine ig_iln C 0 dX1_isModule_0 rfl rfl ?_
    refine ig_if_lt_F C 13 dX1_isModule_1 (by decide) h ?_
    refine ig_iln C 0 dX1_isModule_4 rfl rfl ?_
    refine ig_ic C dX1_isModule_5 ki_5 ?_
    refine ig_icmp_gt_T C 13 dX1_isModule_6 (by decide) (il_gt (by decide) (by decide) h6) ?_
    refine ig_ic C dX1_isModule_13 ki_0 ?_
    exact ig_ret C rfl dX1_isModule_14 ⟨by rw [e]; rfl, rfl⟩
  · refine ig_iln C 0 dX1_isModule_0 rfl rfl ?_
    refine ig_if_lt_F C 13 dX1_isModule_1 (by decide) (nI_pos (show j < 2 ^ 31 by omega)) ?_
    refine ig_iln C 0 dX1_isModule_4 rfl rfl ?_
    refine ig_ic C dX1_isModule_5 ki_5 ?_
    refine ig_icmp_gt_F C 13 dX1_isModule_6 (by decide) (nI_nlt (show j ≤ 5 by omega) (by omega)) ?_
    refine ig_ic C dX1_isModule_9 ki_1 ?_
    refine ig_goto C 14 dX1_isModule_10 (by decide) ?_
    exact ig_ret C rfl dX1_isModule_14 ⟨by rw [e]; rfl, rfl⟩

set_option maxHeartbeats 1000000 in
set_option maxRecDepth 100000 in
theorem mM_isName (l : Launch) (S : il_S) (x : Int32) : ig_Mi GM l yX1_isName cX1_isName 2 .boolean 0 0 [x] S (fun r S' => r = il_b (il_ix x 10) ∧ S = S') := by
  refine ig_Mi.of GM_ok (by decide) rfl (Nat.le_of_ble_eq_true rfl) (fun X C => ?_)
  rcases il_cases x (n := 10) (by decide) with ⟨h, e⟩ | ⟨h, h6, e⟩ | ⟨j, hj, rfl, e⟩
  · refine ig_iln C 0 dX1_isName_0 rfl rfl ?_
    refine ig_if_lt_T C 14 dX1_isName_1 (by decide) h ?_
    refine ig_ic C dX1_isName_14 ki_0 ?_
    exact ig_ret C rfl dX1_isName_15 ⟨by rw [e]; rfl, rfl⟩
  · refine ig_iln C 0 dX1_isName_0 rfl rfl ?_
    refine ig_if_lt_F C 14 dX1_isName_1 (by decide) h ?_
    refine ig_iln C 0 dX1_isName_4 rfl rfl ?_
    refine ig_bp C dX1_isName_5 kb_9 ?_
    refine ig_icmp_gt_T C 14 dX1_isName_7 (by decide) (il_gt (by decide) (by decide) h6) ?_
    refine ig_ic C dX1_isName_14 ki_0 ?_
    exact ig_ret C rfl dX1_isName_15 ⟨by rw [e]; rfl, rfl⟩
  · refine ig_iln C 0 dX1_isName_0 rfl rfl ?_
    refine ig_if_lt_F C 14 dX1_isName_1 (by decide) (nI_pos (show j < 2 ^ 31 by omega)) ?_
    refine ig_iln C 0 dX1_isName_4 rfl rfl ?_
    refine ig_bp C dX1_isName_5 kb_9 ?_
    refine ig_icmp_gt_F C 14 dX1_isName_7 (by decide) (nI_nlt (show j ≤ 9 by omega) (by omega)) ?_
    refine ig_ic C dX1_isName_10 ki_1 ?_
    refine ig_goto C 15 dX1_isName_11 (by decide) ?_
    exact ig_ret C rfl dX1_isName_15 ⟨by rw [e]; rfl, rfl⟩

set_option maxHeartbeats 1000000 in
set_option maxRecDepth 100000 in
theorem mM_isWord (l : Launch) (S : il_S) (a : il_A) (hR : RM a S) (j : Nat) (hj : j < 6) (x : Int32) : ig_Mi GM l yX1_isWord cX1_isWord 3 .boolean 0 0 [nI (j), x] S (fun r S' => r = il_b (il_ix x (a.1 j)) ∧ S = S') := by
  refine ig_Mi.of GM_ok (by decide) rfl (Nat.le_of_ble_eq_true rfl) (fun X C => ?_)
  obtain ⟨hZ, hV, h2, h3, h01⟩ := hR
  have hz := hZ.1 j hj
  rcases il_cases x (n := a.1 j) (by omega) with ⟨h, e⟩ | ⟨h, h6, e⟩ | ⟨i, hi, rfl, e⟩
  · refine ig_iln C 1 dX1_isWord_0 rfl rfl ?_
    refine ig_if_lt_T C 18 dX1_isWord_1 (by decide) h ?_
    refine ig_ic C dX1_isWord_18 ki_0 ?_
    exact ig_ret C rfl dX1_isWord_19 ⟨by rw [e]; rfl, rfl⟩
  · refine ig_iln C 1 dX1_isWord_0 rfl rfl ?_
    refine ig_if_lt_F C 18 dX1_isWord_1 (by decide) h ?_
    refine ig_iln C 1 dX1_isWord_4 rfl rfl ?_
    refine ig_this C dX1_isWord_5 ?_
    refine ig_get C fM_sizes dX1_isWord_6 ?_
    refine ig_iln C 0 dX1_isWord_9 rfl rfl ?_
    refine ig_ald C 2 rfl (show j < 6 by omega) (v := nI (a.1 j)) (h2 j (by omega)) dX1_isWord_10 ?_
    refine ig_icmp_ge_T C 18 dX1_isWord_11 (by decide) h6 ?_
    refine ig_ic C dX1_isWord_18 ki_0 ?_
    exact ig_ret C rfl dX1_isWord_19 ⟨by rw [e]; rfl, rfl⟩
  · refine ig_iln C 1 dX1_isWord_0 rfl rfl ?_
    refine ig_if_lt_F C 18 dX1_isWord_1 (by decide) (nI_pos (show i < 2 ^ 31 by omega)) ?_
    refine ig_iln C 1 dX1_isWord_4 rfl rfl ?_
    refine ig_this C dX1_isWord_5 ?_
    refine ig_get C fM_sizes dX1_isWord_6 ?_
    refine ig_iln C 0 dX1_isWord_9 rfl rfl ?_
    refine ig_ald C 2 rfl (show j < 6 by omega) (v := nI (a.1 j)) (h2 j (by omega)) dX1_isWord_10 ?_
    refine ig_icmp_ge_F C 18 dX1_isWord_11 (by decide) (nI_ge (show i < a.1 j by omega) (by omega)) ?_
    refine ig_ic C dX1_isWord_14 ki_1 ?_
    refine ig_goto C 19 dX1_isWord_15 (by decide) ?_
    exact ig_ret C rfl dX1_isWord_19 ⟨by rw [e]; rfl, rfl⟩

set_option maxHeartbeats 1000000 in
set_option maxRecDepth 100000 in
theorem mM_begin_loop {X : il_X} (C : ig_C GM cX1_begin 4 ({ frames := 0, cells := 0, slots := 0, locals := 0 }) (some .int) X) {Q : State → Prop} {S : il_S} {a : il_A} (hR : RM a S) {k : Nat} (hk : k ≤ 6) (kk : ig_W GM 4 X Q S 24 [nI (k), nI (bg a.1 k), nI (k)] []) :
    ∀ (n i : Nat), i + n = k → ig_W GM 4 X Q S 4 [nI (k), nI (bg a.1 i), nI (i)] [] := by
  obtain ⟨hZ, hV, h2, h3, h01⟩ := hR
  intro n
  induction n with
  | zero =>
    intro i hi
    have hi : i = k := by omega
    subst hi
    refine ig_iln C 2 dX1_begin_4 rfl rfl ?_
    refine ig_iln C 0 dX1_begin_5 rfl rfl ?_
    refine ig_icmp_ge_T C 24 dX1_begin_6 (by decide) (nI_le (show i ≤ i by omega) (by omega)) ?_
    exact kk
  | succ n ih =>
    intro i hi
    refine ig_iln C 2 dX1_begin_4 rfl rfl ?_
    refine ig_iln C 0 dX1_begin_5 rfl rfl ?_
    refine ig_icmp_ge_F C 24 dX1_begin_6 (by decide) (nI_ge (show i < k by omega) (by omega)) ?_
    refine ig_iln C 1 dX1_begin_9 rfl rfl ?_
    refine ig_this C dX1_begin_10 ?_
    refine ig_get C fM_sizes dX1_begin_11 ?_
    refine ig_iln C 2 dX1_begin_14 rfl rfl ?_
    refine ig_ald C 2 rfl (show i < 6 by omega) (v := nI (a.1 i)) (h2 i (by omega)) dX1_begin_15 ?_
    refine ig_iaddN C dX1_begin_16 ?_
    refine ig_isn C 1 [nI (k), nI ((bg a.1 i) + (a.1 i)), nI (i)] dX1_begin_17 rfl rfl rfl rfl ?_
    refine ig_inc C 2 (nI (i + 1)) [nI (k), nI ((bg a.1 i) + (a.1 i)), nI (i + 1)] dX1_begin_18 rfl (il_inc1 _) rfl rfl ?_
    refine ig_goto C 4 dX1_begin_21 (by decide) ?_
    exact ih (i + 1) (by omega)
set_option maxHeartbeats 1000000 in
set_option maxRecDepth 100000 in
theorem mM_begin (l : Launch) (S : il_S) (a : il_A) (hR : RM a S) (k : Nat) (hk : k ≤ 6) : ig_Mi GM l yX1_begin cX1_begin 4 .int 0 0 [nI (k)] S (fun r S' => r = nI (bg a.1 k) ∧ S = S') := by
  refine ig_Mi.of GM_ok (by decide) rfl (Nat.le_of_ble_eq_true rfl) (fun X C => ?_)
  refine ig_ic C dX1_begin_0 ki_0 ?_
  refine ig_isn C 1 [nI (k), nI (0)] dX1_begin_1 rfl rfl rfl rfl ?_
  refine ig_ic C dX1_begin_2 ki_0 ?_
  refine ig_isn C 2 [nI (k), nI (0), nI (0)] dX1_begin_3 rfl rfl rfl rfl ?_
  refine mM_begin_loop C hR hk ?_ k 0 (by omega)
  refine ig_iln C 1 dX1_begin_24 rfl rfl ?_
  exact ig_ret C (nar_int _) dX1_begin_25 ⟨rfl, rfl⟩

set_option maxHeartbeats 1000000 in
set_option maxRecDepth 100000 in
theorem mM_moduleFor_loop {X : il_X} (C : ig_C GM cX1_moduleFor 3 ({ frames := 0, cells := 0, slots := 0, locals := 0 }) (some .int) X) {S : il_S} {a : il_A} (hR : RM a S) {s : Nat} (hs : s < 10) :
    ∀ (n m : Nat), m + n = 6 → mf a.2.2.2 s = mfk a.2.2.2 s n → ig_W GM 3 X (ig_Qi GM X (fun r S' => r = oI (mf a.2.2.2 s) ∧ S = S')) S 2 [nI (s), nI (m)] [] := by
  obtain ⟨hZ, hV, h2, h3, h01⟩ := hR
  intro n
  induction n with
  | zero =>
    intro m hm e
    have hm : m = 6 := by omega
    subst hm
    refine ig_iln C 1 dX1_moduleFor_2 rfl rfl ?_
    refine ig_bp C dX1_moduleFor_3 kb_6 ?_
    refine ig_icmp_ge_T C 32 dX1_moduleFor_5 (by decide) (nI_le (show 6 ≤ 6 by omega) (by omega)) ?_
    refine ig_bp C dX1_moduleFor_32 kb_m4 ?_
    exact ig_ret C (nar_int _) dX1_moduleFor_34 ⟨by rw [e]; rfl, rfl⟩
  | succ n ih =>
    intro m hm e
    have hm5 : m = 5 - n := by omega
    have hd := h3 m s (by omega) hs
    have hlt := vA_dlt hZ hV (show m < 6 by omega) hs
    cases hw : a.2.2.2 m s with
    | none =>
      have e2 : mf a.2.2.2 s = mfk a.2.2.2 s n := by
        rw [e, mfk_succ, if_pos (by rw [← hm5]; exact hw)]
      rw [hw] at hd
      refine ig_iln C 1 dX1_moduleFor_2 rfl rfl ?_
      refine ig_bp C dX1_moduleFor_3 kb_6 ?_
      refine ig_icmp_ge_F C 32 dX1_moduleFor_5 (by decide) (nI_ge (show m < 6 by omega) (by omega)) ?_
      refine ig_this C dX1_moduleFor_8 ?_
      refine ig_get C fM_defined dX1_moduleFor_9 ?_
      refine ig_bp C dX1_moduleFor_12 kb_10 ?_
      refine ig_iln C 1 dX1_moduleFor_14 rfl rfl ?_
      refine ig_imulN C dX1_moduleFor_15 ?_
      refine ig_iln C 0 dX1_moduleFor_16 rfl rfl ?_
      refine ig_iaddN C dX1_moduleFor_17 ?_
      refine ig_ald C 3 rfl (show (10 * m) + s < 60 by omega) (v := (-4)) hd dX1_moduleFor_18 ?_
      refine ig_bp C dX1_moduleFor_19 kb_m4 ?_
      refine ig_icmp_eq_T C 26 dX1_moduleFor_21 (by decide) rfl ?_
      refine ig_inc C 1 (nI (m + 1)) [nI (s), nI (m + 1)] dX1_moduleFor_26 rfl (il_inc1 _) rfl rfl ?_
      refine ig_goto C 2 dX1_moduleFor_29 (by decide) ?_
      exact ih (m + 1) (by omega) e2
    | some u =>
      have e2 : mf a.2.2.2 s = some m := by
        rw [e, mfk_succ, if_neg (by rw [← hm5, hw]; exact fun q => by cases q), hm5]
      rw [hw] at hd
      have hu := hlt u hw
      refine ig_iln C 1 dX1_moduleFor_2 rfl rfl ?_
      refine ig_bp C dX1_moduleFor_3 kb_6 ?_
      refine ig_icmp_ge_F C 32 dX1_moduleFor_5 (by decide) (nI_ge (show m < 6 by omega) (by omega)) ?_
      refine ig_this C dX1_moduleFor_8 ?_
      refine ig_get C fM_defined dX1_moduleFor_9 ?_
      refine ig_bp C dX1_moduleFor_12 kb_10 ?_
      refine ig_iln C 1 dX1_moduleFor_14 rfl rfl ?_
      refine ig_imulN C dX1_moduleFor_15 ?_
      refine ig_iln C 0 dX1_moduleFor_16 rfl rfl ?_
      refine ig_iaddN C dX1_moduleFor_17 ?_
      refine ig_ald C 3 rfl (show (10 * m) + s < 60 by omega) (v := nI (u)) hd dX1_moduleFor_18 ?_
      refine ig_bp C dX1_moduleFor_19 kb_m4 ?_
      refine ig_icmp_eq_F C 26 dX1_moduleFor_21 (by decide) (nI_ne4 hu) ?_
      refine ig_iln C 1 dX1_moduleFor_24 rfl rfl ?_
      exact ig_ret C (nar_int _) dX1_moduleFor_25 ⟨by rw [e2]; rfl, rfl⟩
set_option maxHeartbeats 1000000 in
set_option maxRecDepth 100000 in
theorem mM_moduleFor (l : Launch) (S : il_S) (a : il_A) (hR : RM a S) (s : Nat) (hs : s < 10) : ig_Mi GM l yX1_moduleFor cX1_moduleFor 3 .int 0 0 [nI (s)] S (fun r S' => r = oI (mf a.2.2.2 s) ∧ S = S') := by
  refine ig_Mi.of GM_ok (by decide) rfl (Nat.le_of_ble_eq_true rfl) (fun X C => ?_)
  refine ig_ic C dX1_moduleFor_0 ki_0 ?_
  refine ig_isn C 1 [nI (s), nI (0)] dX1_moduleFor_1 rfl rfl rfl rfl ?_
  exact mM_moduleFor_loop C hR hs 6 0 (by omega) rfl

set_option maxHeartbeats 1000000 in
set_option maxRecDepth 100000 in
theorem mM_where (l : Launch) (S : il_S) (a : il_A) (hR : RM a S) (x : Int32) : ig_Mi GM l yX1_where cX1_where 3 .int 1 23 [x] S (fun r S' => r = q_where a x ∧ S = S') := by
  refine ig_Mi.of GM_ok (by decide) rfl (Nat.le_of_ble_eq_true rfl) (fun X C => ?_)
  rcases il_cases x (n := 10) (by decide) with ⟨h, e⟩ | ⟨h, h6, e⟩ | ⟨s, hs, rfl, e⟩
  · refine ig_this C dX1_where_0 ?_
    refine ig_iln C 0 dX1_where_1 rfl rfl ?_
    refine ig_calli C kM_isName (mM_isName (xl X) S x) rfl rfl ⟨Nat.le_of_ble_eq_true rfl, Nat.le_of_ble_eq_true rfl⟩ (Nat.le_of_ble_eq_true rfl) dX1_where_2 (fun r S' hp => ?_)
    obtain ⟨rfl, rfl⟩ := hp
    rw [e]
    refine ig_top (nI 0) rfl ?_
    refine ig_if_ne_F C 11 dX1_where_5 (by decide) (show nI (0) = 0 from by rw [show 0 = 0 by omega]; rfl) ?_
    refine ig_bp C dX1_where_8 kb_m4 ?_
    exact ig_ret C (nar_int _) dX1_where_10 ⟨by unfold q_where; rw [e], rfl⟩
  · refine ig_this C dX1_where_0 ?_
    refine ig_iln C 0 dX1_where_1 rfl rfl ?_
    refine ig_calli C kM_isName (mM_isName (xl X) S x) rfl rfl ⟨Nat.le_of_ble_eq_true rfl, Nat.le_of_ble_eq_true rfl⟩ (Nat.le_of_ble_eq_true rfl) dX1_where_2 (fun r S' hp => ?_)
    obtain ⟨rfl, rfl⟩ := hp
    rw [e]
    refine ig_top (nI 0) rfl ?_
    refine ig_if_ne_F C 11 dX1_where_5 (by decide) (show nI (0) = 0 from by rw [show 0 = 0 by omega]; rfl) ?_
    refine ig_bp C dX1_where_8 kb_m4 ?_
    exact ig_ret C (nar_int _) dX1_where_10 ⟨by unfold q_where; rw [e], rfl⟩
  · refine ig_this C dX1_where_0 ?_
    refine ig_iln C 0 dX1_where_1 rfl rfl ?_
    refine ig_calli C kM_isName (mM_isName (xl X) S (nI s)) rfl rfl ⟨Nat.le_of_ble_eq_true rfl, Nat.le_of_ble_eq_true rfl⟩ (Nat.le_of_ble_eq_true rfl) dX1_where_2 (fun r S' hp => ?_)
    obtain ⟨rfl, rfl⟩ := hp
    rw [e]
    refine ig_top (nI 1) rfl ?_
    refine ig_if_ne_T C 11 dX1_where_5 (by decide) (nI_ne0 (show 0 < 1 by omega) (by omega)) ?_
    refine ig_this C dX1_where_11 ?_
    refine ig_iln C 0 dX1_where_12 rfl rfl ?_
    refine ig_calli C kM_moduleFor (mM_moduleFor (xl X) S a hR s hs) rfl rfl ⟨Nat.le_of_ble_eq_true rfl, Nat.le_of_ble_eq_true rfl⟩ (Nat.le_of_ble_eq_true rfl) dX1_where_13 (fun r S' hp => ?_)
    obtain ⟨rfl, rfl⟩ := hp
    cases hm : mf a.2.2.2 s with
    | none =>
      refine ig_isn C 1 [nI (s), (oI none)] dX1_where_16 rfl rfl rfl rfl ?_
      refine ig_iln C 1 dX1_where_17 rfl rfl ?_
      refine ig_if_ge_F C 26 dX1_where_18 (by decide) (by decide) ?_
      refine ig_bp C dX1_where_21 kb_m4 ?_
      refine ig_goto C 43 dX1_where_23 (by decide) ?_
      exact ig_ret C (nar_int _) dX1_where_43 ⟨by unfold q_where; rw [e]; show (-4 : Int32) = oI (wh a s); rw [wh_none hm]; rfl, rfl⟩
    | some m =>
      obtain ⟨hm6, u, hu⟩ := mf_some hm
      have hR0 := hR
      obtain ⟨hZ, hV, h2, h3, h01⟩ := hR
      have hd := h3 m s hm6 hs
      rw [hu] at hd
      have hb := bg_le hZ.1 m (by omega)
      have hu8 := hV m s u hm6 hs hu
      have hz8 := hZ.1 m hm6
      refine ig_top (nI (m)) rfl ?_
      refine ig_isn C 1 [nI (s), nI (m)] dX1_where_16 rfl rfl rfl rfl ?_
      refine ig_iln C 1 dX1_where_17 rfl rfl ?_
      refine ig_if_ge_T C 26 dX1_where_18 (by decide) (nI_pos' (show m < 2 ^ 31 by omega)) ?_
      refine ig_this C dX1_where_26 ?_
      refine ig_iln C 1 dX1_where_27 rfl rfl ?_
      refine ig_calli C kM_begin (mM_begin (xl X) S a hR0 m (by omega)) rfl rfl ⟨Nat.le_of_ble_eq_true rfl, Nat.le_of_ble_eq_true rfl⟩ (Nat.le_of_ble_eq_true rfl) dX1_where_28 (fun r S' hp => ?_)
      obtain ⟨rfl, rfl⟩ := hp
      refine ig_this C dX1_where_31 ?_
      refine ig_get C fM_defined dX1_where_32 ?_
      refine ig_bp C dX1_where_35 kb_10 ?_
      refine ig_iln C 1 dX1_where_37 rfl rfl ?_
      refine ig_imulN C dX1_where_38 ?_
      refine ig_iln C 0 dX1_where_39 rfl rfl ?_
      refine ig_iaddN C dX1_where_40 ?_
      refine ig_ald C 3 rfl (show (10 * m) + s < 60 by omega) (v := nI (u)) hd dX1_where_41 ?_
      refine ig_iaddN C dX1_where_42 ?_
      exact ig_ret C (nar_int _) dX1_where_43 ⟨by unfold q_where; rw [e]; show nI (bg a.1 m + u) = oI (wh a s); rw [wh_some hm hu]; rfl, rfl⟩
end
section
/-! THE MODEL, more -/
theorem q_where_in {a : il_A} {s : Nat} (hs : s < 10) : q_where a (nI s) = oI (wh a s) := by
  unfold q_where
  rw [il_ix_in hs (by decide)]
theorem bnd_none (x : Int32) : bnd (oI none) x = -1 := if_pos (by decide)
theorem bnd_some {k : Nat} (h : k < 2 ^ 31) (x : Int32) : bnd (oI (some k)) x = nI k + x := if_neg (nI_pos h)
theorem wh_lt {a : il_A} (hZ : vZ a) (hV : vD a) {s k : Nat} (hs : s < 10) (h : wh a s = some k) : k ≤ 56 := by
  cases hm : mf a.2.2.2 s with
  | none => rw [wh_none hm] at h; cases h
  | some m =>
    obtain ⟨hm6, u, hu⟩ := mf_some hm
    rw [wh_some hm hu] at h
    have h1 := bg_le hZ.1 m (by omega)
    have h2 := hV m s u hm6 hs hu
    have h3 := hZ.1 m hm6
    have h4 : bg a.1 m + u = k := Option.some.inj h
    omega
theorem mok_succ {z : Nat → Nat} {p n : Nat} : mok z p (n + 1) = if bg z (5 - n) ≤ p ∧ p < bg z (5 - n) + z (5 - n) then some (5 - n) else mok z p n := rfl
set_option maxHeartbeats 1000000 in
set_option maxRecDepth 100000 in
theorem mM_valueOf (l : Launch) (S : il_S) (a : il_A) (hR : RM a S) (m w : Nat) (hm : m < 6) (hw : w < a.1 m) : ig_Mi GM l yX1_valueOf cX1_valueOf 3 .int 2 45 [nI (8 * m + w)] S (fun r S' => r = wv a m w ∧ S = S') := by
  refine ig_Mi.of GM_ok (by decide) rfl (Nat.le_of_ble_eq_true rfl) (fun X C => ?_)
  have hR0 := hR
  obtain ⟨hZ, hV, h2, h3, h01⟩ := hR
  have hz8 := hZ.1 m hm
  have hnm := (h01 m w hm hw).1
  have hnr := (h01 m w hm hw).2
  cases hn : a.2.1 m w with
  | none =>
    rw [hn] at hnm
    refine ig_this C dX1_valueOf_0 ?_
    refine ig_get C fM_names dX1_valueOf_1 ?_
    refine ig_iln C 0 dX1_valueOf_4 rfl rfl ?_
    refine ig_ald C 0 rfl (show 8 * m + w < 48 by omega) (v := (-4)) hnm dX1_valueOf_5 ?_
    refine ig_bp C dX1_valueOf_6 kb_m4 ?_
    refine ig_icmp_ne_F C 18 dX1_valueOf_8 (by decide) rfl ?_
    refine ig_this C dX1_valueOf_11 ?_
    refine ig_get C fM_numbers dX1_valueOf_12 ?_
    refine ig_iln C 0 dX1_valueOf_15 rfl rfl ?_
    refine ig_ald C 1 rfl (show 8 * m + w < 48 by omega) (v := (a.2.2.1 m w)) hnr dX1_valueOf_16 ?_
    exact ig_ret C (nar_int _) dX1_valueOf_17 ⟨(wv_none hn).symm, rfl⟩
  | some s =>
    rw [hn] at hnm
    have hs := hZ.2 m w s hm hw hn
    refine ig_this C dX1_valueOf_0 ?_
    refine ig_get C fM_names dX1_valueOf_1 ?_
    refine ig_iln C 0 dX1_valueOf_4 rfl rfl ?_
    refine ig_ald C 0 rfl (show 8 * m + w < 48 by omega) (v := nI (s)) hnm dX1_valueOf_5 ?_
    refine ig_bp C dX1_valueOf_6 kb_m4 ?_
    refine ig_icmp_ne_T C 18 dX1_valueOf_8 (by decide) (nI_ne4 (by omega)) ?_
    refine ig_this C dX1_valueOf_18 ?_
    refine ig_this C dX1_valueOf_19 ?_
    refine ig_get C fM_names dX1_valueOf_20 ?_
    refine ig_iln C 0 dX1_valueOf_23 rfl rfl ?_
    refine ig_ald C 0 rfl (show 8 * m + w < 48 by omega) (v := nI (s)) hnm dX1_valueOf_24 ?_
    refine ig_calli C kM_where (mM_where (xl X) S a hR0 (nI s)) rfl rfl ⟨Nat.le_of_ble_eq_true rfl, Nat.le_of_ble_eq_true rfl⟩ (Nat.le_of_ble_eq_true rfl) dX1_valueOf_25 (fun r S' hp => ?_)
    obtain ⟨rfl, rfl⟩ := hp
    rw [q_where_in hs]
    cases hk : wh a s with
    | none =>
      refine ig_isn C 1 [nI (8 * m + w), (oI none)] dX1_valueOf_28 rfl rfl rfl rfl ?_
      refine ig_iln C 1 dX1_valueOf_29 rfl rfl ?_
      refine ig_if_ge_F C 37 dX1_valueOf_30 (by decide) (by decide) ?_
      refine ig_ic C dX1_valueOf_33 ki_m1 ?_
      refine ig_goto C 45 dX1_valueOf_34 (by decide) ?_
      exact ig_ret C (nar_int _) dX1_valueOf_45 ⟨by rw [wv_some hn, hk, bnd_none], rfl⟩
    | some k =>
      have hk2 := wh_lt hZ hV hs hk
      refine ig_top (nI k) rfl ?_
      refine ig_isn C 1 [nI (8 * m + w), nI (k)] dX1_valueOf_28 rfl rfl rfl rfl ?_
      refine ig_iln C 1 dX1_valueOf_29 rfl rfl ?_
      refine ig_if_ge_T C 37 dX1_valueOf_30 (by decide) (nI_pos' (show k < 2 ^ 31 by omega)) ?_
      refine ig_iln C 1 dX1_valueOf_37 rfl rfl ?_
      refine ig_this C dX1_valueOf_38 ?_
      refine ig_get C fM_numbers dX1_valueOf_39 ?_
      refine ig_iln C 0 dX1_valueOf_42 rfl rfl ?_
      refine ig_ald C 1 rfl (show 8 * m + w < 48 by omega) (v := (a.2.2.1 m w)) hnr dX1_valueOf_43 ?_
      refine ig_iadd C dX1_valueOf_44 ?_
      exact ig_ret C (nar_int _) dX1_valueOf_45 ⟨by rw [wv_some hn, hk, bnd_some (by omega)], rfl⟩

set_option maxHeartbeats 1000000 in
set_option maxRecDepth 100000 in
theorem mM_moduleOf_in {X : il_X} (C : ig_C GM cX1_moduleOf 4 ({ frames := 1, cells := 0, slots := 0, locals := 23 }) (some .int) X) {S : il_S} {a : il_A} (hR : RM a S) {p : Nat} (hp : p < bg a.1 6) :
    ∀ (n m : Nat), m + n = 6 → mo a.1 p = mok a.1 p n → ig_W GM 4 X (ig_Qi GM X (fun r S' => r = oI (mo a.1 p) ∧ S = S')) S 2 [nI (p), nI (m)] [] := by
  have hZ := hR.1
  have h2 := hR.2.2.1
  have hb6 := bg_le hZ.1 6 (by omega)
  intro n
  induction n with
  | zero =>
    intro m hm e
    have hm : m = 6 := by omega
    subst hm
    refine ig_iln C 1 dX1_moduleOf_2 rfl rfl ?_
    refine ig_bp C dX1_moduleOf_3 kb_6 ?_
    refine ig_icmp_ge_T C 39 dX1_moduleOf_5 (by decide) (nI_le (show 6 ≤ 6 by omega) (by omega)) ?_
    refine ig_bp C dX1_moduleOf_39 kb_m4 ?_
    exact ig_ret C (nar_int _) dX1_moduleOf_41 ⟨by rw [e]; rfl, rfl⟩
  | succ n ih =>
    intro m hm e
    have hm5 : m = 5 - n := by omega
    have hbm := bg_le hZ.1 m (by omega)
    have hzm := hZ.1 m (by omega)
    have hs1 : bg a.1 (m + 1) ≤ bg a.1 6 := bg_mono a.1 (by omega)
    have hs2 : bg a.1 (m + 1) = bg a.1 m + a.1 m := rfl
    by_cases h1 : p < bg a.1 m
    · refine ig_iln C 1 dX1_moduleOf_2 rfl rfl ?_
      refine ig_bp C dX1_moduleOf_3 kb_6 ?_
      refine ig_icmp_ge_F C 39 dX1_moduleOf_5 (by decide) (nI_ge (show m < 6 by omega) (by omega)) ?_
      refine ig_this C dX1_moduleOf_8 ?_
      refine ig_iln C 1 dX1_moduleOf_9 rfl rfl ?_
      refine ig_calli C kM_begin (mM_begin (xl X) S a hR m (by omega)) rfl rfl ⟨Nat.le_of_ble_eq_true rfl, Nat.le_of_ble_eq_true rfl⟩ (Nat.le_of_ble_eq_true rfl) dX1_moduleOf_10 (fun r S' hp => ?_)
      obtain ⟨rfl, rfl⟩ := hp
      refine ig_isn C 2 [nI (p), nI (m), nI (bg a.1 m)] dX1_moduleOf_13 rfl rfl rfl rfl ?_
      refine ig_iln C 0 dX1_moduleOf_14 rfl rfl ?_
      refine ig_iln C 2 dX1_moduleOf_15 rfl rfl ?_
      refine ig_icmp_lt_T C 33 dX1_moduleOf_16 (by decide) (nI_lt (show p < bg a.1 m by omega) (by omega)) ?_
      refine ig_inc C 1 (nI (m + 1)) [nI (p), nI (m + 1), nI (bg a.1 m)] dX1_moduleOf_33 rfl (il_inc1 _) rfl rfl ?_
      refine ig_pre 2 [nI (p), nI (m + 1)] rfl ?_
      refine ig_goto C 2 dX1_moduleOf_36 (by decide) ?_
      exact ih (m + 1) (by omega) (by rw [e, mok_succ, if_neg (by rw [← hm5]; omega)])
    · by_cases h3 : p < bg a.1 m + a.1 m
      · refine ig_iln C 1 dX1_moduleOf_2 rfl rfl ?_
        refine ig_bp C dX1_moduleOf_3 kb_6 ?_
        refine ig_icmp_ge_F C 39 dX1_moduleOf_5 (by decide) (nI_ge (show m < 6 by omega) (by omega)) ?_
        refine ig_this C dX1_moduleOf_8 ?_
        refine ig_iln C 1 dX1_moduleOf_9 rfl rfl ?_
        refine ig_calli C kM_begin (mM_begin (xl X) S a hR m (by omega)) rfl rfl ⟨Nat.le_of_ble_eq_true rfl, Nat.le_of_ble_eq_true rfl⟩ (Nat.le_of_ble_eq_true rfl) dX1_moduleOf_10 (fun r S' hp => ?_)
        obtain ⟨rfl, rfl⟩ := hp
        refine ig_isn C 2 [nI (p), nI (m), nI (bg a.1 m)] dX1_moduleOf_13 rfl rfl rfl rfl ?_
        refine ig_iln C 0 dX1_moduleOf_14 rfl rfl ?_
        refine ig_iln C 2 dX1_moduleOf_15 rfl rfl ?_
        refine ig_icmp_lt_F C 33 dX1_moduleOf_16 (by decide) (nI_nlt (show bg a.1 m ≤ p by omega) (by omega)) ?_
        refine ig_iln C 0 dX1_moduleOf_19 rfl rfl ?_
        refine ig_iln C 2 dX1_moduleOf_20 rfl rfl ?_
        refine ig_this C dX1_moduleOf_21 ?_
        refine ig_get C fM_sizes dX1_moduleOf_22 ?_
        refine ig_iln C 1 dX1_moduleOf_25 rfl rfl ?_
        refine ig_ald C 2 rfl (show m < 6 by omega) (v := nI (a.1 m)) (h2 m (by omega)) dX1_moduleOf_26 ?_
        refine ig_iaddN C dX1_moduleOf_27 ?_
        refine ig_icmp_ge_F C 33 dX1_moduleOf_28 (by decide) (nI_ge (show p < (bg a.1 m) + (a.1 m) by omega) (by omega)) ?_
        refine ig_iln C 1 dX1_moduleOf_31 rfl rfl ?_
        exact ig_ret C (nar_int _) dX1_moduleOf_32 ⟨by rw [e, mok_succ, if_pos (by rw [← hm5]; omega), hm5]; rfl, rfl⟩
      · refine ig_iln C 1 dX1_moduleOf_2 rfl rfl ?_
        refine ig_bp C dX1_moduleOf_3 kb_6 ?_
        refine ig_icmp_ge_F C 39 dX1_moduleOf_5 (by decide) (nI_ge (show m < 6 by omega) (by omega)) ?_
        refine ig_this C dX1_moduleOf_8 ?_
        refine ig_iln C 1 dX1_moduleOf_9 rfl rfl ?_
        refine ig_calli C kM_begin (mM_begin (xl X) S a hR m (by omega)) rfl rfl ⟨Nat.le_of_ble_eq_true rfl, Nat.le_of_ble_eq_true rfl⟩ (Nat.le_of_ble_eq_true rfl) dX1_moduleOf_10 (fun r S' hp => ?_)
        obtain ⟨rfl, rfl⟩ := hp
        refine ig_isn C 2 [nI (p), nI (m), nI (bg a.1 m)] dX1_moduleOf_13 rfl rfl rfl rfl ?_
        refine ig_iln C 0 dX1_moduleOf_14 rfl rfl ?_
        refine ig_iln C 2 dX1_moduleOf_15 rfl rfl ?_
        refine ig_icmp_lt_F C 33 dX1_moduleOf_16 (by decide) (nI_nlt (show bg a.1 m ≤ p by omega) (by omega)) ?_
        refine ig_iln C 0 dX1_moduleOf_19 rfl rfl ?_
        refine ig_iln C 2 dX1_moduleOf_20 rfl rfl ?_
        refine ig_this C dX1_moduleOf_21 ?_
        refine ig_get C fM_sizes dX1_moduleOf_22 ?_
        refine ig_iln C 1 dX1_moduleOf_25 rfl rfl ?_
        refine ig_ald C 2 rfl (show m < 6 by omega) (v := nI (a.1 m)) (h2 m (by omega)) dX1_moduleOf_26 ?_
        refine ig_iaddN C dX1_moduleOf_27 ?_
        refine ig_icmp_ge_T C 33 dX1_moduleOf_28 (by decide) (nI_le (show (bg a.1 m) + (a.1 m) ≤ p by omega) (by omega)) ?_
        refine ig_inc C 1 (nI (m + 1)) [nI (p), nI (m + 1), nI (bg a.1 m)] dX1_moduleOf_33 rfl (il_inc1 _) rfl rfl ?_
        refine ig_pre 2 [nI (p), nI (m + 1)] rfl ?_
        refine ig_goto C 2 dX1_moduleOf_36 (by decide) ?_
        exact ih (m + 1) (by omega) (by rw [e, mok_succ, if_neg (by rw [← hm5]; omega)])
set_option maxHeartbeats 1000000 in
set_option maxRecDepth 100000 in
theorem mM_moduleOf_neg {X : il_X} (C : ig_C GM cX1_moduleOf 4 ({ frames := 1, cells := 0, slots := 0, locals := 23 }) (some .int) X) {S : il_S} {a : il_A} (hR : RM a S) {x : Int32} (hx : x < 0) :
    ∀ (n m : Nat), m + n = 6 → ig_W GM 4 X (ig_Qi GM X (fun r S' => r = -4 ∧ S = S')) S 2 [x, nI (m)] [] := by
  have hZ := hR.1
  have h2 := hR.2.2.1
  have hb6 := bg_le hZ.1 6 (by omega)
  intro n
  induction n with
  | zero =>
    intro m hm
    have hm : m = 6 := by omega
    subst hm
    refine ig_iln C 1 dX1_moduleOf_2 rfl rfl ?_
    refine ig_bp C dX1_moduleOf_3 kb_6 ?_
    refine ig_icmp_ge_T C 39 dX1_moduleOf_5 (by decide) (nI_le (show 6 ≤ 6 by omega) (by omega)) ?_
    refine ig_bp C dX1_moduleOf_39 kb_m4 ?_
    exact ig_ret C (nar_int _) dX1_moduleOf_41 ⟨rfl, rfl⟩
  | succ n ih =>
    intro m hm
    have hm5 : m = 5 - n := by omega
    have hbm := bg_le hZ.1 m (by omega)
    have hzm := hZ.1 m (by omega)
    have hs1 : bg a.1 (m + 1) ≤ bg a.1 6 := bg_mono a.1 (by omega)
    have hs2 : bg a.1 (m + 1) = bg a.1 m + a.1 m := rfl
    refine ig_iln C 1 dX1_moduleOf_2 rfl rfl ?_
    refine ig_bp C dX1_moduleOf_3 kb_6 ?_
    refine ig_icmp_ge_F C 39 dX1_moduleOf_5 (by decide) (nI_ge (show m < 6 by omega) (by omega)) ?_
    refine ig_this C dX1_moduleOf_8 ?_
    refine ig_iln C 1 dX1_moduleOf_9 rfl rfl ?_
    refine ig_calli C kM_begin (mM_begin (xl X) S a hR m (by omega)) rfl rfl ⟨Nat.le_of_ble_eq_true rfl, Nat.le_of_ble_eq_true rfl⟩ (Nat.le_of_ble_eq_true rfl) dX1_moduleOf_10 (fun r S' hp => ?_)
    obtain ⟨rfl, rfl⟩ := hp
    refine ig_isn C 2 [x, nI (m), nI (bg a.1 m)] dX1_moduleOf_13 rfl rfl rfl rfl ?_
    refine ig_iln C 0 dX1_moduleOf_14 rfl rfl ?_
    refine ig_iln C 2 dX1_moduleOf_15 rfl rfl ?_
    refine ig_icmp_lt_T C 33 dX1_moduleOf_16 (by decide) (il_neg_lt (by omega) hx) ?_
    refine ig_inc C 1 (nI (m + 1)) [x, nI (m + 1), nI (bg a.1 m)] dX1_moduleOf_33 rfl (il_inc1 _) rfl rfl ?_
    refine ig_pre 2 [x, nI (m + 1)] rfl ?_
    refine ig_goto C 2 dX1_moduleOf_36 (by decide) ?_
    exact ih (m + 1) (by omega)
set_option maxHeartbeats 1000000 in
set_option maxRecDepth 100000 in
theorem mM_moduleOf_big {X : il_X} (C : ig_C GM cX1_moduleOf 4 ({ frames := 1, cells := 0, slots := 0, locals := 23 }) (some .int) X) {S : il_S} {a : il_A} (hR : RM a S) {x : Int32} (hx : nI (bg a.1 6) ≤ x) :
    ∀ (n m : Nat), m + n = 6 → ig_W GM 4 X (ig_Qi GM X (fun r S' => r = -4 ∧ S = S')) S 2 [x, nI (m)] [] := by
  have hZ := hR.1
  have h2 := hR.2.2.1
  have hb6 := bg_le hZ.1 6 (by omega)
  intro n
  induction n with
  | zero =>
    intro m hm
    have hm : m = 6 := by omega
    subst hm
    refine ig_iln C 1 dX1_moduleOf_2 rfl rfl ?_
    refine ig_bp C dX1_moduleOf_3 kb_6 ?_
    refine ig_icmp_ge_T C 39 dX1_moduleOf_5 (by decide) (nI_le (show 6 ≤ 6 by omega) (by omega)) ?_
    refine ig_bp C dX1_moduleOf_39 kb_m4 ?_
    exact ig_ret C (nar_int _) dX1_moduleOf_41 ⟨rfl, rfl⟩
  | succ n ih =>
    intro m hm
    have hm5 : m = 5 - n := by omega
    have hbm := bg_le hZ.1 m (by omega)
    have hzm := hZ.1 m (by omega)
    have hs1 : bg a.1 (m + 1) ≤ bg a.1 6 := bg_mono a.1 (by omega)
    have hs2 : bg a.1 (m + 1) = bg a.1 m + a.1 m := rfl
    refine ig_iln C 1 dX1_moduleOf_2 rfl rfl ?_
    refine ig_bp C dX1_moduleOf_3 kb_6 ?_
    refine ig_icmp_ge_F C 39 dX1_moduleOf_5 (by decide) (nI_ge (show m < 6 by omega) (by omega)) ?_
    refine ig_this C dX1_moduleOf_8 ?_
    refine ig_iln C 1 dX1_moduleOf_9 rfl rfl ?_
    refine ig_calli C kM_begin (mM_begin (xl X) S a hR m (by omega)) rfl rfl ⟨Nat.le_of_ble_eq_true rfl, Nat.le_of_ble_eq_true rfl⟩ (Nat.le_of_ble_eq_true rfl) dX1_moduleOf_10 (fun r S' hp => ?_)
    obtain ⟨rfl, rfl⟩ := hp
    refine ig_isn C 2 [x, nI (m), nI (bg a.1 m)] dX1_moduleOf_13 rfl rfl rfl rfl ?_
    refine ig_iln C 0 dX1_moduleOf_14 rfl rfl ?_
    refine ig_iln C 2 dX1_moduleOf_15 rfl rfl ?_
    refine ig_icmp_lt_F C 33 dX1_moduleOf_16 (by decide) (il_nlt (show bg a.1 m ≤ bg a.1 6 by omega) (by omega) hx) ?_
    refine ig_iln C 0 dX1_moduleOf_19 rfl rfl ?_
    refine ig_iln C 2 dX1_moduleOf_20 rfl rfl ?_
    refine ig_this C dX1_moduleOf_21 ?_
    refine ig_get C fM_sizes dX1_moduleOf_22 ?_
    refine ig_iln C 1 dX1_moduleOf_25 rfl rfl ?_
    refine ig_ald C 2 rfl (show m < 6 by omega) (v := nI (a.1 m)) (h2 m (by omega)) dX1_moduleOf_26 ?_
    refine ig_iaddN C dX1_moduleOf_27 ?_
    refine ig_icmp_ge_T C 33 dX1_moduleOf_28 (by decide) (il_ge (show bg a.1 m + a.1 m ≤ bg a.1 6 by omega) (by omega) hx) ?_
    refine ig_inc C 1 (nI (m + 1)) [x, nI (m + 1), nI (bg a.1 m)] dX1_moduleOf_33 rfl (il_inc1 _) rfl rfl ?_
    refine ig_pre 2 [x, nI (m + 1)] rfl ?_
    refine ig_goto C 2 dX1_moduleOf_36 (by decide) ?_
    exact ih (m + 1) (by omega)
theorem il_Qi_mono {G : il_G} {nL : Nat} {X : il_X} {S : il_S} {pc : Nat} {lv : List Int32} {st : List Value} {p1 p2 : Int32 → il_S → Prop} (h : ∀ r S', p1 r S' → p2 r S') (k : ig_W G nL X (ig_Qi G X p1) S pc lv st) : ig_W G nL X (ig_Qi G X p2) S pc lv st := by
  have : p1 = p1 := rfl
  intro H locs ls hP hS hl T hT St
  obtain ⟨t, a, o, b1, b2, ⟨⟨r, u, c1, c2, c3⟩, c4⟩, b4⟩ := k H locs ls hP hS hl T hT St
  exact ⟨t, a, o, b1, b2, ⟨⟨r, u, c1, h r u c2, c3⟩, c4⟩, b4⟩
theorem q_mo_none {a : il_A} {x : Int32} (e : il_ix x (bg a.1 6) = none) : q_moduleOf a x = -4 := by
  unfold q_moduleOf
  rw [e]
theorem q_mo_some {a : il_A} {x : Int32} {p : Nat} (e : il_ix x (bg a.1 6) = some p) : q_moduleOf a x = oI (mo a.1 p) := by
  unfold q_moduleOf
  rw [e]
set_option maxHeartbeats 1000000 in
set_option maxRecDepth 100000 in
theorem mM_moduleOf (l : Launch) (S : il_S) (a : il_A) (hR : RM a S) (x : Int32) : ig_Mi GM l yX1_moduleOf cX1_moduleOf 4 .int 1 23 [x] S (fun r S' => r = q_moduleOf a x ∧ S = S') := by
  refine ig_Mi.of GM_ok (by decide) rfl (Nat.le_of_ble_eq_true rfl) (fun X C => ?_)
  have hb6 := bg_le hR.1.1 6 (by omega)
  rcases il_cases x (n := bg a.1 6) (by omega) with ⟨h, e⟩ | ⟨h, h6, e⟩ | ⟨p, hp, rfl, e⟩
  · refine ig_ic C dX1_moduleOf_0 ki_0 ?_
    refine ig_isn C 1 [x, nI (0)] dX1_moduleOf_1 rfl rfl rfl rfl ?_
    exact il_Qi_mono (fun r S' hp => ⟨by rw [hp.1, q_mo_none e], hp.2⟩) (mM_moduleOf_neg C hR h 6 0 (by omega))
  · refine ig_ic C dX1_moduleOf_0 ki_0 ?_
    refine ig_isn C 1 [x, nI (0)] dX1_moduleOf_1 rfl rfl rfl rfl ?_
    exact il_Qi_mono (fun r S' hp => ⟨by rw [hp.1, q_mo_none e], hp.2⟩) (mM_moduleOf_big C hR h6 6 0 (by omega))
  · refine ig_ic C dX1_moduleOf_0 ki_0 ?_
    refine ig_isn C 1 [nI (p), nI (0)] dX1_moduleOf_1 rfl rfl rfl rfl ?_
    exact il_Qi_mono (fun r S' hp => ⟨by rw [hp.1, q_mo_some e], hp.2⟩) (mM_moduleOf_in C hR hp 6 0 (by omega) rfl)

set_option maxHeartbeats 1000000 in
set_option maxRecDepth 100000 in
theorem mM_value (l : Launch) (S : il_S) (a : il_A) (hR : RM a S) (x : Int32) : ig_Mi GM l yX1_value cX1_value 3 .int 3 67 [x] S (fun r S' => r = q_value a x ∧ S = S') := by
  refine ig_Mi.of GM_ok (by decide) rfl (Nat.le_of_ble_eq_true rfl) (fun X C => ?_)
  have hZ := hR.1
  have hb6 := bg_le hR.1.1 6 (by omega)
  cases e : il_ix x (bg a.1 6) with
  | none =>
    refine ig_this C dX1_value_0 ?_
    refine ig_iln C 0 dX1_value_1 rfl rfl ?_
    refine ig_calli C kM_moduleOf (mM_moduleOf (xl X) S a hR x) rfl rfl ⟨Nat.le_of_ble_eq_true rfl, Nat.le_of_ble_eq_true rfl⟩ (Nat.le_of_ble_eq_true rfl) dX1_value_2 (fun r S' hp => ?_)
    obtain ⟨rfl, rfl⟩ := hp
    rw [q_mo_none e]
    refine ig_isn C 1 [x, (-4)] dX1_value_5 rfl rfl rfl rfl ?_
    refine ig_iln C 1 dX1_value_6 rfl rfl ?_
    refine ig_if_ge_F C 14 dX1_value_7 (by decide) (by decide) ?_
    refine ig_ic C dX1_value_10 ki_0 ?_
    refine ig_goto C 30 dX1_value_11 (by decide) ?_
    exact ig_ret C (nar_int _) dX1_value_30 ⟨by unfold q_value; rw [e], rfl⟩
  | some p =>
    rcases il_cases x (n := bg a.1 6) (by omega) with ⟨h, e2⟩ | ⟨h, h6, e2⟩ | ⟨p2, hp, hx, e2⟩
    · rw [e2] at e; cases e
    · rw [e2] at e; cases e
    · rw [e2] at e
      cases e
      obtain ⟨m, w, hm, hw, rfl⟩ := bg_find 6 hp
      subst hx
      have hz8 := hZ.1 m hm
      have hbm := bg_le hZ.1 m (by omega)
      refine ig_this C dX1_value_0 ?_
      refine ig_iln C 0 dX1_value_1 rfl rfl ?_
      refine ig_calli C kM_moduleOf (mM_moduleOf (xl X) S a hR (nI (bg a.1 m + w))) rfl rfl ⟨Nat.le_of_ble_eq_true rfl, Nat.le_of_ble_eq_true rfl⟩ (Nat.le_of_ble_eq_true rfl) dX1_value_2 (fun r S' hp => ?_)
      obtain ⟨rfl, rfl⟩ := hp
      rw [q_mo_some e2, mo_at hm hw]
      refine ig_top (nI (m)) rfl ?_
      refine ig_isn C 1 [nI (bg a.1 m + w), nI (m)] dX1_value_5 rfl rfl rfl rfl ?_
      refine ig_iln C 1 dX1_value_6 rfl rfl ?_
      refine ig_if_ge_T C 14 dX1_value_7 (by decide) (nI_pos' (show m < 2 ^ 31 by omega)) ?_
      refine ig_this C dX1_value_14 ?_
      refine ig_bp C dX1_value_15 kb_8 ?_
      refine ig_iln C 1 dX1_value_17 rfl rfl ?_
      refine ig_imulN C dX1_value_18 ?_
      refine ig_iln C 0 dX1_value_19 rfl rfl ?_
      refine ig_iaddN C dX1_value_20 ?_
      refine ig_this C dX1_value_21 ?_
      refine ig_iln C 1 dX1_value_22 rfl rfl ?_
      refine ig_calli C kM_begin (mM_begin (xl X) S a hR m (by omega)) rfl rfl ⟨Nat.le_of_ble_eq_true rfl, Nat.le_of_ble_eq_true rfl⟩ (Nat.le_of_ble_eq_true rfl) dX1_value_23 (fun r S' hp => ?_)
      obtain ⟨rfl, rfl⟩ := hp
      refine ig_isub C dX1_value_26 ?_
      refine ig_top (nI (8 * m + w)) ((pk_sub (by omega)).trans (congrArg nI (by omega))) ?_
      refine ig_calli C kM_valueOf (mM_valueOf (xl X) S a hR m w hm hw) rfl rfl ⟨Nat.le_of_ble_eq_true rfl, Nat.le_of_ble_eq_true rfl⟩ (Nat.le_of_ble_eq_true rfl) dX1_value_27 (fun r S' hp => ?_)
      obtain ⟨rfl, rfl⟩ := hp
      exact ig_ret C (nar_int _) dX1_value_30 ⟨by unfold q_value; rw [e2]; exact (vl_at hm hw).symm, rfl⟩

set_option maxHeartbeats 1000000 in
set_option maxRecDepth 100000 in
theorem mM_size (l : Launch) (S : il_S) (a : il_A) (hR : RM a S) : ig_Mi GM l yX1_size cX1_size 1 .int 1 23 [] S (fun r S' => r = nI (bg a.1 6) ∧ S = S') := by
  refine ig_Mi.of GM_ok (by decide) rfl (Nat.le_of_ble_eq_true rfl) (fun X C => ?_)
  refine ig_this C dX1_size_0 ?_
  refine ig_bp C dX1_size_1 kb_6 ?_
  refine ig_calli C kM_begin (mM_begin (xl X) S a hR 6 (by omega)) rfl rfl ⟨Nat.le_of_ble_eq_true rfl, Nat.le_of_ble_eq_true rfl⟩ (Nat.le_of_ble_eq_true rfl) dX1_size_3 (fun r S' hp => ?_)
  obtain ⟨rfl, rfl⟩ := hp
  exact ig_ret C (nar_int _) dX1_size_6 ⟨rfl, rfl⟩

set_option maxHeartbeats 1000000 in
set_option maxRecDepth 100000 in
theorem mM_address (l : Launch) (S : il_S) (a : il_A) (hR : RM a S) (x : Int32) : ig_Mi GM l yX1_address cX1_address 2 .int 1 23 [x] S (fun r S' => r = q_address a x ∧ S = S') := by
  refine ig_Mi.of GM_ok (by decide) rfl (Nat.le_of_ble_eq_true rfl) (fun X C => ?_)
  rcases il_cases x (n := 6) (by decide) with ⟨h, e⟩ | ⟨h, h6, e⟩ | ⟨j, hj, rfl, e⟩
  · refine ig_this C dX1_address_0 ?_
    refine ig_iln C 0 dX1_address_1 rfl rfl ?_
    refine ig_calli C kM_isModule (mM_isModule (xl X) S x) rfl rfl ⟨Nat.le_of_ble_eq_true rfl, Nat.le_of_ble_eq_true rfl⟩ (Nat.le_of_ble_eq_true rfl) dX1_address_2 (fun r S' hp => ?_)
    obtain ⟨rfl, rfl⟩ := hp
    rw [e]
    refine ig_top (nI (0)) rfl ?_
    refine ig_if_eq_T C 16 dX1_address_5 (by decide) (show nI (0) = 0 from by rw [show 0 = 0 by omega]; rfl) ?_
    refine ig_ic C dX1_address_16 ki_m1 ?_
    exact ig_ret C (nar_int _) dX1_address_17 ⟨by unfold q_address; rw [e], rfl⟩
  · refine ig_this C dX1_address_0 ?_
    refine ig_iln C 0 dX1_address_1 rfl rfl ?_
    refine ig_calli C kM_isModule (mM_isModule (xl X) S x) rfl rfl ⟨Nat.le_of_ble_eq_true rfl, Nat.le_of_ble_eq_true rfl⟩ (Nat.le_of_ble_eq_true rfl) dX1_address_2 (fun r S' hp => ?_)
    obtain ⟨rfl, rfl⟩ := hp
    rw [e]
    refine ig_top (nI (0)) rfl ?_
    refine ig_if_eq_T C 16 dX1_address_5 (by decide) (show nI (0) = 0 from by rw [show 0 = 0 by omega]; rfl) ?_
    refine ig_ic C dX1_address_16 ki_m1 ?_
    exact ig_ret C (nar_int _) dX1_address_17 ⟨by unfold q_address; rw [e], rfl⟩
  · refine ig_this C dX1_address_0 ?_
    refine ig_iln C 0 dX1_address_1 rfl rfl ?_
    refine ig_calli C kM_isModule (mM_isModule (xl X) S (nI j)) rfl rfl ⟨Nat.le_of_ble_eq_true rfl, Nat.le_of_ble_eq_true rfl⟩ (Nat.le_of_ble_eq_true rfl) dX1_address_2 (fun r S' hp => ?_)
    obtain ⟨rfl, rfl⟩ := hp
    rw [e]
    refine ig_top (nI (1)) rfl ?_
    refine ig_if_eq_F C 16 dX1_address_5 (by decide) (nI_ne0 (show 0 < 1 by omega) (by omega)) ?_
    refine ig_this C dX1_address_8 ?_
    refine ig_iln C 0 dX1_address_9 rfl rfl ?_
    refine ig_calli C kM_begin (mM_begin (xl X) S a hR j (by omega)) rfl rfl ⟨Nat.le_of_ble_eq_true rfl, Nat.le_of_ble_eq_true rfl⟩ (Nat.le_of_ble_eq_true rfl) dX1_address_10 (fun r S' hp => ?_)
    obtain ⟨rfl, rfl⟩ := hp
    refine ig_goto C 17 dX1_address_13 (by decide) ?_
    exact ig_ret C (nar_int _) dX1_address_17 ⟨by unfold q_address; rw [e], rfl⟩

theorem RM_app {a : il_A} {S : il_S} {j : Nat} {n : Option Nat} {v : Int32} (hR : RM a S) (hj : j < 6) (h8 : a.1 j < 8) (hn : ∀ s, n = some s → s < 10) : RM (a_im a j (a.1 j) n v) (sU (sU (sU S 0 (8 * j + a.1 j) (oI n)) 1 (8 * j + a.1 j) v) 2 j (nI (a.1 j + 1))) := by
  obtain ⟨hZ, hV, h2, h3, h01⟩ := hR
  refine ⟨vZ_im hZ h8 (Nat.le_refl _) hn hj, vD_im hV, fun m hm => ?_, fun m s hm hs => ?_, fun m w hm hw => ?_⟩
  · by_cases h : m = j
    · subst h; simp [sU, upd, a_im]
    · simp [sU, upd, a_im, h, h2 m hm]
  · simp [sU, a_im, h3 m s hm hs]
  · have hz := hZ.1 m hm
    by_cases h : m = j
    · subst h
      have hw : w < a.1 m + 1 := by simpa [a_im] using hw
      by_cases h4 : w = a.1 m
      · subst h4; simp [sU, upd, a_im]
      · have h5 : w < a.1 m := by omega
        simp [sU, upd, a_im, h4, h5, h01 m w hm h5]
    · have hw : w < a.1 m := by simpa [a_im, h] using hw
      have h5 : ¬ 8 * m + w = 8 * j + a.1 j := by omega
      simp [sU, upd, a_im, h, h5, h01 m w hm hw]
set_option maxHeartbeats 1000000 in
set_option maxRecDepth 100000 in
theorem mM_append (l : Launch) (S : il_S) (a : il_A) (hR : RM a S) (j : Nat) (hj : j < 6) (n : Option Nat) (hn : ∀ s, n = some s → s < 10) (v : Int32) : ig_Mi GM l yX1_append cX1_append 4 .int 0 0 [nI (j), oI (n), v] S (fun r S' => r = (sp_app a j n v).1 ∧ RM (sp_app a j n v).2 S') := by
  refine ig_Mi.of GM_ok (by decide) rfl (Nat.le_of_ble_eq_true rfl) (fun X C => ?_)
  have hR0 := hR
  obtain ⟨hZ, hV, h2, h3, h01⟩ := hR
  have hz8 := hZ.1 j hj
  by_cases h8 : a.1 j = 8
  · refine ig_this C dX1_append_0 ?_
    refine ig_get C fM_sizes dX1_append_1 ?_
    refine ig_iln C 0 dX1_append_4 rfl rfl ?_
    refine ig_ald C 2 rfl (show j < 6 by omega) (v := nI (a.1 j)) (h2 j (by omega)) dX1_append_5 ?_
    refine ig_bp C dX1_append_6 kb_8 ?_
    refine ig_icmp_ne_F C 14 dX1_append_8 (by decide) (congrArg nI (show a.1 j = 8 by omega)) ?_
    refine ig_bp C dX1_append_11 kb_m2 ?_
    exact ig_ret C (nar_int _) dX1_append_13 ⟨by unfold sp_app; rw [if_pos h8], by unfold sp_app; rw [if_pos h8]; exact hR0⟩
  · refine ig_this C dX1_append_0 ?_
    refine ig_get C fM_sizes dX1_append_1 ?_
    refine ig_iln C 0 dX1_append_4 rfl rfl ?_
    refine ig_ald C 2 rfl (show j < 6 by omega) (v := nI (a.1 j)) (h2 j (by omega)) dX1_append_5 ?_
    refine ig_bp C dX1_append_6 kb_8 ?_
    refine ig_icmp_ne_T C 14 dX1_append_8 (by decide) (fun q => absurd ((nI_eq (by omega) (by omega)).mp q) (show ¬ a.1 j = 8 by omega)) ?_
    refine ig_this C dX1_append_14 ?_
    refine ig_get C fM_names dX1_append_15 ?_
    refine ig_bp C dX1_append_18 kb_8 ?_
    refine ig_iln C 0 dX1_append_20 rfl rfl ?_
    refine ig_imulN C dX1_append_21 ?_
    refine ig_this C dX1_append_22 ?_
    refine ig_get C fM_sizes dX1_append_23 ?_
    refine ig_iln C 0 dX1_append_26 rfl rfl ?_
    refine ig_ald C 2 rfl (show j < 6 by omega) (v := nI (a.1 j)) (h2 j (by omega)) dX1_append_27 ?_
    refine ig_iaddN C dX1_append_28 ?_
    refine ig_iln C 1 dX1_append_29 rfl rfl ?_
    refine ig_ast C 0 rfl (show (8 * j) + (a.1 j) < 48 by omega) dX1_append_30 ?_
    refine ig_this C dX1_append_31 ?_
    refine ig_get C fM_numbers dX1_append_32 ?_
    refine ig_bp C dX1_append_35 kb_8 ?_
    refine ig_iln C 0 dX1_append_37 rfl rfl ?_
    refine ig_imulN C dX1_append_38 ?_
    refine ig_this C dX1_append_39 ?_
    refine ig_get C fM_sizes dX1_append_40 ?_
    refine ig_iln C 0 dX1_append_43 rfl rfl ?_
    refine ig_ald C 2 rfl (show j < 6 by omega) (v := nI (a.1 j)) (by simp [sU, h2 j hj]) dX1_append_44 ?_
    refine ig_iaddN C dX1_append_45 ?_
    refine ig_iln C 2 dX1_append_46 rfl rfl ?_
    refine ig_ast C 1 rfl (show (8 * j) + (a.1 j) < 48 by omega) dX1_append_47 ?_
    refine ig_this C dX1_append_48 ?_
    refine ig_get C fM_sizes dX1_append_49 ?_
    refine ig_iln C 0 dX1_append_52 rfl rfl ?_
    refine ig_dup2 C dX1_append_53 ?_
    refine ig_ald C 2 rfl (show j < 6 by omega) (v := nI (a.1 j)) (by simp [sU, h2 j hj]) dX1_append_54 ?_
    refine ig_ic C dX1_append_55 ki_1 ?_
    refine ig_iaddN C dX1_append_56 ?_
    refine ig_ast C 2 rfl (show j < 6 by omega) dX1_append_57 ?_
    refine ig_this C dX1_append_58 ?_
    refine ig_get C fM_sizes dX1_append_59 ?_
    refine ig_iln C 0 dX1_append_62 rfl rfl ?_
    refine ig_ald C 2 rfl (show j < 6 by omega) (v := nI (a.1 j + 1)) (by simp [sU, upd]) dX1_append_63 ?_
    exact ig_ret C (nar_int _) dX1_append_64 ⟨by unfold sp_app; rw [if_neg h8], by unfold sp_app; rw [if_neg h8]; exact RM_app hR0 hj (by omega) hn⟩

set_option maxHeartbeats 1000000 in
set_option maxRecDepth 100000 in
theorem mM_constant (l : Launch) (S : il_S) (a : il_A) (hR : RM a S) (x v : Int32) : ig_Mi GM l yX1_constant cX1_constant 3 .int 1 23 [x, v] S (fun r S' => r = (sp_constant a x v).1 ∧ RM (sp_constant a x v).2 S') := by
  refine ig_Mi.of GM_ok (by decide) rfl (Nat.le_of_ble_eq_true rfl) (fun X C => ?_)
  rcases il_cases x (n := 6) (by decide) with ⟨h, e⟩ | ⟨h, h6, e⟩ | ⟨j, hj, rfl, e⟩
  · refine ig_this C dX1_constant_0 ?_
    refine ig_iln C 0 dX1_constant_1 rfl rfl ?_
    refine ig_calli C kM_isModule (mM_isModule (xl X) S x) rfl rfl ⟨Nat.le_of_ble_eq_true rfl, Nat.le_of_ble_eq_true rfl⟩ (Nat.le_of_ble_eq_true rfl) dX1_constant_2 (fun r S' hp => ?_)
    obtain ⟨rfl, rfl⟩ := hp
    rw [e]
    refine ig_top (nI (0)) rfl ?_
    refine ig_if_eq_T C 19 dX1_constant_5 (by decide) (show nI (0) = 0 from by rw [show 0 = 0 by omega]; rfl) ?_
    refine ig_ic C dX1_constant_19 ki_m1 ?_
    exact ig_ret C (nar_int _) dX1_constant_20 ⟨by unfold sp_constant; rw [e], by unfold sp_constant; rw [e]; exact hR⟩
  · refine ig_this C dX1_constant_0 ?_
    refine ig_iln C 0 dX1_constant_1 rfl rfl ?_
    refine ig_calli C kM_isModule (mM_isModule (xl X) S x) rfl rfl ⟨Nat.le_of_ble_eq_true rfl, Nat.le_of_ble_eq_true rfl⟩ (Nat.le_of_ble_eq_true rfl) dX1_constant_2 (fun r S' hp => ?_)
    obtain ⟨rfl, rfl⟩ := hp
    rw [e]
    refine ig_top (nI (0)) rfl ?_
    refine ig_if_eq_T C 19 dX1_constant_5 (by decide) (show nI (0) = 0 from by rw [show 0 = 0 by omega]; rfl) ?_
    refine ig_ic C dX1_constant_19 ki_m1 ?_
    exact ig_ret C (nar_int _) dX1_constant_20 ⟨by unfold sp_constant; rw [e], by unfold sp_constant; rw [e]; exact hR⟩
  · refine ig_this C dX1_constant_0 ?_
    refine ig_iln C 0 dX1_constant_1 rfl rfl ?_
    refine ig_calli C kM_isModule (mM_isModule (xl X) S (nI j)) rfl rfl ⟨Nat.le_of_ble_eq_true rfl, Nat.le_of_ble_eq_true rfl⟩ (Nat.le_of_ble_eq_true rfl) dX1_constant_2 (fun r S' hp => ?_)
    obtain ⟨rfl, rfl⟩ := hp
    rw [e]
    refine ig_top (nI (1)) rfl ?_
    refine ig_if_eq_F C 19 dX1_constant_5 (by decide) (nI_ne0 (show 0 < 1 by omega) (by omega)) ?_
    refine ig_this C dX1_constant_8 ?_
    refine ig_iln C 0 dX1_constant_9 rfl rfl ?_
    refine ig_bp C dX1_constant_10 kb_m4 ?_
    refine ig_iln C 1 dX1_constant_12 rfl rfl ?_
    refine ig_calli C kM_append (mM_append (xl X) S a hR j hj none (fun s q => by cases q) v) rfl rfl ⟨Nat.le_of_ble_eq_true rfl, Nat.le_of_ble_eq_true rfl⟩ (Nat.le_of_ble_eq_true rfl) dX1_constant_13 (fun r S' hp => ?_)
    refine ig_goto C 20 dX1_constant_16 (by decide) ?_
    exact ig_ret C (nar_int _) dX1_constant_20 ⟨by unfold sp_constant; rw [e]; exact hp.1, by unfold sp_constant; rw [e]; exact hp.2⟩

set_option maxHeartbeats 1000000 in
set_option maxRecDepth 100000 in
theorem mM_reference (l : Launch) (S : il_S) (a : il_A) (hR : RM a S) (x y v : Int32) : ig_Mi GM l yX1_reference cX1_reference 5 .int 1 23 [x, y, v] S (fun r S' => r = (sp_reference a x y v).1 ∧ RM (sp_reference a x y v).2 S') := by
  refine ig_Mi.of GM_ok (by decide) rfl (Nat.le_of_ble_eq_true rfl) (fun X C => ?_)
  rcases il_cases x (n := 6) (by decide) with ⟨h, e⟩ | ⟨h, h6, e⟩ | ⟨j, hj, rfl, e⟩
  · refine ig_this C dX1_reference_0 ?_
    refine ig_iln C 0 dX1_reference_1 rfl rfl ?_
    refine ig_calli C kM_isModule (mM_isModule (xl X) S x) rfl rfl ⟨Nat.le_of_ble_eq_true rfl, Nat.le_of_ble_eq_true rfl⟩ (Nat.le_of_ble_eq_true rfl) dX1_reference_2 (fun r S' hp => ?_)
    obtain ⟨rfl, rfl⟩ := hp
    rw [e]
    refine ig_top (nI (0)) rfl ?_
    refine ig_if_eq_T C 32 dX1_reference_5 (by decide) (show nI (0) = 0 from by rw [show 0 = 0 by omega]; rfl) ?_
    refine ig_ic C dX1_reference_32 ki_0 ?_
    refine ig_is C 3 [x, y, v, nI (0)] dX1_reference_33 rfl rfl rfl ?_
    refine ig_il C 3 dX1_reference_35 rfl ?_
    refine ig_if_eq_T C 50 dX1_reference_37 (by decide) (show nI (0) = 0 from by rw [show 0 = 0 by omega]; rfl) ?_
    refine ig_ic C dX1_reference_50 ki_m1 ?_
    exact ig_ret C (nar_int _) dX1_reference_51 ⟨by unfold sp_reference; rw [e], by unfold sp_reference; rw [e]; exact hR⟩
  · refine ig_this C dX1_reference_0 ?_
    refine ig_iln C 0 dX1_reference_1 rfl rfl ?_
    refine ig_calli C kM_isModule (mM_isModule (xl X) S x) rfl rfl ⟨Nat.le_of_ble_eq_true rfl, Nat.le_of_ble_eq_true rfl⟩ (Nat.le_of_ble_eq_true rfl) dX1_reference_2 (fun r S' hp => ?_)
    obtain ⟨rfl, rfl⟩ := hp
    rw [e]
    refine ig_top (nI (0)) rfl ?_
    refine ig_if_eq_T C 32 dX1_reference_5 (by decide) (show nI (0) = 0 from by rw [show 0 = 0 by omega]; rfl) ?_
    refine ig_ic C dX1_reference_32 ki_0 ?_
    refine ig_is C 3 [x, y, v, nI (0)] dX1_reference_33 rfl rfl rfl ?_
    refine ig_il C 3 dX1_reference_35 rfl ?_
    refine ig_if_eq_T C 50 dX1_reference_37 (by decide) (show nI (0) = 0 from by rw [show 0 = 0 by omega]; rfl) ?_
    refine ig_ic C dX1_reference_50 ki_m1 ?_
    exact ig_ret C (nar_int _) dX1_reference_51 ⟨by unfold sp_reference; rw [e], by unfold sp_reference; rw [e]; exact hR⟩
  · rcases il_cases y (n := 10) (by decide) with ⟨h, e2⟩ | ⟨h, h6, e2⟩ | ⟨s, hs, rfl, e2⟩
    · refine ig_this C dX1_reference_0 ?_
      refine ig_iln C 0 dX1_reference_1 rfl rfl ?_
      refine ig_calli C kM_isModule (mM_isModule (xl X) S (nI j)) rfl rfl ⟨Nat.le_of_ble_eq_true rfl, Nat.le_of_ble_eq_true rfl⟩ (Nat.le_of_ble_eq_true rfl) dX1_reference_2 (fun r S' hp => ?_)
      obtain ⟨rfl, rfl⟩ := hp
      rw [e]
      refine ig_top (nI (1)) rfl ?_
      refine ig_if_eq_F C 32 dX1_reference_5 (by decide) (nI_ne0 (show 0 < 1 by omega) (by omega)) ?_
      refine ig_this C dX1_reference_8 ?_
      refine ig_iln C 1 dX1_reference_9 rfl rfl ?_
      refine ig_calli C kM_isName (mM_isName (xl X) S y) rfl rfl ⟨Nat.le_of_ble_eq_true rfl, Nat.le_of_ble_eq_true rfl⟩ (Nat.le_of_ble_eq_true rfl) dX1_reference_10 (fun r S' hp => ?_)
      obtain ⟨rfl, rfl⟩ := hp
      rw [e2]
      refine ig_top (nI (0)) rfl ?_
      refine ig_if_eq_T C 32 dX1_reference_13 (by decide) (show nI (0) = 0 from by rw [show 0 = 0 by omega]; rfl) ?_
      refine ig_ic C dX1_reference_32 ki_0 ?_
      refine ig_is C 3 [nI (j), y, v, nI (0)] dX1_reference_33 rfl rfl rfl ?_
      refine ig_il C 3 dX1_reference_35 rfl ?_
      refine ig_if_eq_T C 50 dX1_reference_37 (by decide) (show nI (0) = 0 from by rw [show 0 = 0 by omega]; rfl) ?_
      refine ig_ic C dX1_reference_50 ki_m1 ?_
      exact ig_ret C (nar_int _) dX1_reference_51 ⟨by unfold sp_reference; rw [e]; dsimp only; rw [e2], by unfold sp_reference; rw [e]; dsimp only; rw [e2]; exact hR⟩
    · refine ig_this C dX1_reference_0 ?_
      refine ig_iln C 0 dX1_reference_1 rfl rfl ?_
      refine ig_calli C kM_isModule (mM_isModule (xl X) S (nI j)) rfl rfl ⟨Nat.le_of_ble_eq_true rfl, Nat.le_of_ble_eq_true rfl⟩ (Nat.le_of_ble_eq_true rfl) dX1_reference_2 (fun r S' hp => ?_)
      obtain ⟨rfl, rfl⟩ := hp
      rw [e]
      refine ig_top (nI (1)) rfl ?_
      refine ig_if_eq_F C 32 dX1_reference_5 (by decide) (nI_ne0 (show 0 < 1 by omega) (by omega)) ?_
      refine ig_this C dX1_reference_8 ?_
      refine ig_iln C 1 dX1_reference_9 rfl rfl ?_
      refine ig_calli C kM_isName (mM_isName (xl X) S y) rfl rfl ⟨Nat.le_of_ble_eq_true rfl, Nat.le_of_ble_eq_true rfl⟩ (Nat.le_of_ble_eq_true rfl) dX1_reference_10 (fun r S' hp => ?_)
      obtain ⟨rfl, rfl⟩ := hp
      rw [e2]
      refine ig_top (nI (0)) rfl ?_
      refine ig_if_eq_T C 32 dX1_reference_13 (by decide) (show nI (0) = 0 from by rw [show 0 = 0 by omega]; rfl) ?_
      refine ig_ic C dX1_reference_32 ki_0 ?_
      refine ig_is C 3 [nI (j), y, v, nI (0)] dX1_reference_33 rfl rfl rfl ?_
      refine ig_il C 3 dX1_reference_35 rfl ?_
      refine ig_if_eq_T C 50 dX1_reference_37 (by decide) (show nI (0) = 0 from by rw [show 0 = 0 by omega]; rfl) ?_
      refine ig_ic C dX1_reference_50 ki_m1 ?_
      exact ig_ret C (nar_int _) dX1_reference_51 ⟨by unfold sp_reference; rw [e]; dsimp only; rw [e2], by unfold sp_reference; rw [e]; dsimp only; rw [e2]; exact hR⟩
    · by_cases h1 : v < -100
      · refine ig_this C dX1_reference_0 ?_
        refine ig_iln C 0 dX1_reference_1 rfl rfl ?_
        refine ig_calli C kM_isModule (mM_isModule (xl X) S (nI j)) rfl rfl ⟨Nat.le_of_ble_eq_true rfl, Nat.le_of_ble_eq_true rfl⟩ (Nat.le_of_ble_eq_true rfl) dX1_reference_2 (fun r S' hp => ?_)
        obtain ⟨rfl, rfl⟩ := hp
        rw [e]
        refine ig_top (nI (1)) rfl ?_
        refine ig_if_eq_F C 32 dX1_reference_5 (by decide) (nI_ne0 (show 0 < 1 by omega) (by omega)) ?_
        refine ig_this C dX1_reference_8 ?_
        refine ig_iln C 1 dX1_reference_9 rfl rfl ?_
        refine ig_calli C kM_isName (mM_isName (xl X) S (nI s)) rfl rfl ⟨Nat.le_of_ble_eq_true rfl, Nat.le_of_ble_eq_true rfl⟩ (Nat.le_of_ble_eq_true rfl) dX1_reference_10 (fun r S' hp => ?_)
        obtain ⟨rfl, rfl⟩ := hp
        rw [e2]
        refine ig_top (nI (1)) rfl ?_
        refine ig_if_eq_F C 32 dX1_reference_13 (by decide) (nI_ne0 (show 0 < 1 by omega) (by omega)) ?_
        refine ig_iln C 2 dX1_reference_16 rfl rfl ?_
        refine ig_bp C dX1_reference_17 kb_m100 ?_
        refine ig_icmp_lt_T C 32 dX1_reference_19 (by decide) h1 ?_
        refine ig_ic C dX1_reference_32 ki_0 ?_
        refine ig_is C 3 [nI (j), nI (s), v, nI (0)] dX1_reference_33 rfl rfl rfl ?_
        refine ig_il C 3 dX1_reference_35 rfl ?_
        refine ig_if_eq_T C 50 dX1_reference_37 (by decide) (show nI (0) = 0 from by rw [show 0 = 0 by omega]; rfl) ?_
        refine ig_ic C dX1_reference_50 ki_m1 ?_
        exact ig_ret C (nar_int _) dX1_reference_51 ⟨by unfold sp_reference; rw [e]; dsimp only; rw [e2]; dsimp only; rw [if_pos h1], by unfold sp_reference; rw [e]; dsimp only; rw [e2]; dsimp only; rw [if_pos h1]; exact hR⟩
      · by_cases h2 : nI 100 < v
        · refine ig_this C dX1_reference_0 ?_
          refine ig_iln C 0 dX1_reference_1 rfl rfl ?_
          refine ig_calli C kM_isModule (mM_isModule (xl X) S (nI j)) rfl rfl ⟨Nat.le_of_ble_eq_true rfl, Nat.le_of_ble_eq_true rfl⟩ (Nat.le_of_ble_eq_true rfl) dX1_reference_2 (fun r S' hp => ?_)
          obtain ⟨rfl, rfl⟩ := hp
          rw [e]
          refine ig_top (nI (1)) rfl ?_
          refine ig_if_eq_F C 32 dX1_reference_5 (by decide) (nI_ne0 (show 0 < 1 by omega) (by omega)) ?_
          refine ig_this C dX1_reference_8 ?_
          refine ig_iln C 1 dX1_reference_9 rfl rfl ?_
          refine ig_calli C kM_isName (mM_isName (xl X) S (nI s)) rfl rfl ⟨Nat.le_of_ble_eq_true rfl, Nat.le_of_ble_eq_true rfl⟩ (Nat.le_of_ble_eq_true rfl) dX1_reference_10 (fun r S' hp => ?_)
          obtain ⟨rfl, rfl⟩ := hp
          rw [e2]
          refine ig_top (nI (1)) rfl ?_
          refine ig_if_eq_F C 32 dX1_reference_13 (by decide) (nI_ne0 (show 0 < 1 by omega) (by omega)) ?_
          refine ig_iln C 2 dX1_reference_16 rfl rfl ?_
          refine ig_bp C dX1_reference_17 kb_m100 ?_
          refine ig_icmp_lt_F C 32 dX1_reference_19 (by decide) h1 ?_
          refine ig_iln C 2 dX1_reference_22 rfl rfl ?_
          refine ig_bp C dX1_reference_23 kb_100 ?_
          refine ig_icmp_gt_T C 32 dX1_reference_25 (by decide) h2 ?_
          refine ig_ic C dX1_reference_32 ki_0 ?_
          refine ig_is C 3 [nI (j), nI (s), v, nI (0)] dX1_reference_33 rfl rfl rfl ?_
          refine ig_il C 3 dX1_reference_35 rfl ?_
          refine ig_if_eq_T C 50 dX1_reference_37 (by decide) (show nI (0) = 0 from by rw [show 0 = 0 by omega]; rfl) ?_
          refine ig_ic C dX1_reference_50 ki_m1 ?_
          exact ig_ret C (nar_int _) dX1_reference_51 ⟨by unfold sp_reference; rw [e]; dsimp only; rw [e2]; dsimp only; rw [if_neg h1, if_pos h2], by unfold sp_reference; rw [e]; dsimp only; rw [e2]; dsimp only; rw [if_neg h1, if_pos h2]; exact hR⟩
        · refine ig_this C dX1_reference_0 ?_
          refine ig_iln C 0 dX1_reference_1 rfl rfl ?_
          refine ig_calli C kM_isModule (mM_isModule (xl X) S (nI j)) rfl rfl ⟨Nat.le_of_ble_eq_true rfl, Nat.le_of_ble_eq_true rfl⟩ (Nat.le_of_ble_eq_true rfl) dX1_reference_2 (fun r S' hp => ?_)
          obtain ⟨rfl, rfl⟩ := hp
          rw [e]
          refine ig_top (nI (1)) rfl ?_
          refine ig_if_eq_F C 32 dX1_reference_5 (by decide) (nI_ne0 (show 0 < 1 by omega) (by omega)) ?_
          refine ig_this C dX1_reference_8 ?_
          refine ig_iln C 1 dX1_reference_9 rfl rfl ?_
          refine ig_calli C kM_isName (mM_isName (xl X) S (nI s)) rfl rfl ⟨Nat.le_of_ble_eq_true rfl, Nat.le_of_ble_eq_true rfl⟩ (Nat.le_of_ble_eq_true rfl) dX1_reference_10 (fun r S' hp => ?_)
          obtain ⟨rfl, rfl⟩ := hp
          rw [e2]
          refine ig_top (nI (1)) rfl ?_
          refine ig_if_eq_F C 32 dX1_reference_13 (by decide) (nI_ne0 (show 0 < 1 by omega) (by omega)) ?_
          refine ig_iln C 2 dX1_reference_16 rfl rfl ?_
          refine ig_bp C dX1_reference_17 kb_m100 ?_
          refine ig_icmp_lt_F C 32 dX1_reference_19 (by decide) h1 ?_
          refine ig_iln C 2 dX1_reference_22 rfl rfl ?_
          refine ig_bp C dX1_reference_23 kb_100 ?_
          refine ig_icmp_gt_F C 32 dX1_reference_25 (by decide) h2 ?_
          refine ig_ic C dX1_reference_28 ki_1 ?_
          refine ig_goto C 33 dX1_reference_29 (by decide) ?_
          refine ig_is C 3 [nI (j), nI (s), v, nI (1)] dX1_reference_33 rfl rfl rfl ?_
          refine ig_il C 3 dX1_reference_35 rfl ?_
          refine ig_if_eq_F C 50 dX1_reference_37 (by decide) (nI_ne0 (show 0 < 1 by omega) (by omega)) ?_
          refine ig_this C dX1_reference_40 ?_
          refine ig_iln C 0 dX1_reference_41 rfl rfl ?_
          refine ig_iln C 1 dX1_reference_42 rfl rfl ?_
          refine ig_iln C 2 dX1_reference_43 rfl rfl ?_
          refine ig_calli C kM_append (mM_append (xl X) S a hR j hj (some s) (fun t q => by cases q; exact hs) v) rfl rfl ⟨Nat.le_of_ble_eq_true rfl, Nat.le_of_ble_eq_true rfl⟩ (Nat.le_of_ble_eq_true rfl) dX1_reference_44 (fun r S' hp => ?_)
          refine ig_goto C 51 dX1_reference_47 (by decide) ?_
          exact ig_ret C (nar_int _) dX1_reference_51 ⟨by unfold sp_reference; rw [e]; dsimp only; rw [e2]; dsimp only; rw [if_neg h1, if_neg h2]; exact hp.1, by unfold sp_reference; rw [e]; dsimp only; rw [e2]; dsimp only; rw [if_neg h1, if_neg h2]; exact hp.2⟩
end
section
/-! THE MODEL, writers -/
theorem RM_patch {a : il_A} {S : il_S} {j i : Nat} {v : Int32} (hR : RM a S) (hj : j < 6) (hi : i < a.1 j) : RM (a_patch a j i v) (sU (sU S 0 (8 * j + i) (-4)) 1 (8 * j + i) v) := by
  obtain ⟨hZ, hV, h2, h3, h01⟩ := hR
  refine ⟨vZ_patch hZ, hV, fun m hm => ?_, fun m s hm hs => ?_, fun m w hm hw => ?_⟩
  · simp [sU, a_patch, h2 m hm]
  · simp [sU, a_patch, h3 m s hm hs]
  · have hz := hZ.1 m hm
    have hzj := hZ.1 j hj
    have hw : w < a.1 m := hw
    by_cases h : m = j ∧ w = i
    · obtain ⟨rfl, rfl⟩ := h
      simp [sU, upd, a_patch, oI]
    · have h5 : ¬ 8 * m + w = 8 * j + i := by omega
      simp [sU, upd, a_patch, h, h5, h01 m w hm hw]
theorem RM_def {a : il_A} {S : il_S} {j s : Nat} {o : Option Nat} (hR : RM a S) (hj : j < 6) (hs : s < 10) (ho : ∀ i, o = some i → i ≤ a.1 j) : RM (a_df a (d_st a.2.2.2 j s o)) (sU S 3 (10 * j + s) (oI o)) := by
  obtain ⟨hZ, hV, h2, h3, h01⟩ := hR
  refine ⟨hZ, vD_st (i := 0) hV ho, fun m hm => ?_, fun m t hm ht => ?_, fun m w hm hw => ?_⟩
  · simp [sU, a_df, h2 m hm]
  · by_cases h : m = j ∧ t = s
    · obtain ⟨rfl, rfl⟩ := h
      simp [sU, upd, a_df, d_st]
    · have h5 : ¬ 10 * m + t = 10 * j + s := by omega
      simp [sU, upd, a_df, d_st, h, h5, h3 m t hm ht]
  · have hw : w < a.1 m := hw
    simp [sU, a_df, h01 m w hm hw]
/-- array k between lo and t mapped by f -/
def mapF (S : il_S) (k : Nat) (f : Int32 → Int32) (lo t : Nat) : il_S := fun a => if a = k then (fun q => if lo ≤ q ∧ q < t then f (S k q) else S k q) else S a
theorem mapF_0 {S : il_S} {k lo : Nat} {f : Int32 → Int32} : mapF S k f lo lo = S := by
  funext a
  unfold mapF
  by_cases h : a = k
  · subst h
    rw [if_pos rfl]
    funext q
    rw [if_neg (by omega)]
  · rw [if_neg h]
theorem mapF_s {S : il_S} {k lo t : Nat} {f : Int32 → Int32} (h : lo ≤ t) : sU (mapF S k f lo t) k t (f (S k t)) = mapF S k f lo (t + 1) := by
  funext a
  unfold sU mapF
  by_cases ha : a = k
  · subst ha
    simp only [if_true]
    funext q
    unfold upd
    by_cases hq : q = t
    · subst hq
      rw [if_pos rfl, if_pos (by omega)]
    · rw [if_neg hq]
      by_cases h1 : lo ≤ q ∧ q < t
      · dsimp only
        rw [if_pos h1, if_pos (by omega)]
      · dsimp only
        rw [if_neg h1, if_neg (by omega)]
  · simp only [if_neg ha]
theorem mapF_n {S : il_S} {k lo t q : Nat} {f : Int32 → Int32} (h : t ≤ q) : mapF S k f lo t k q = S k q := by
  unfold mapF
  rw [if_pos rfl]
  exact if_neg (by omega)
theorem mapF_k {S : il_S} {k lo t a : Nat} {f : Int32 → Int32} (h : a ≠ k) : mapF S k f lo t a = S a := if_neg h
theorem mapF_in {S : il_S} {k lo t q : Nat} {f : Int32 → Int32} (h1 : lo ≤ q) (h2 : q < t) : mapF S k f lo t k q = f (S k q) := by
  unfold mapF
  rw [if_pos rfl]
  exact if_pos ⟨h1, h2⟩
theorem mapF_out {S : il_S} {k lo t q : Nat} {f : Int32 → Int32} (h : q < lo ∨ t ≤ q) : mapF S k f lo t k q = S k q := by
  unfold mapF
  rw [if_pos rfl]
  exact if_neg (by omega)
/-- arrays 0 and 1: the places above t, up to hi, moved up by one -/
def shU (S : il_S) (t hi : Nat) : il_S := fun a => if a < 2 then (fun q => if t < q ∧ q ≤ hi then S a (q - 1) else S a q) else S a
theorem shU_0 {S : il_S} {hi : Nat} : shU S hi hi = S := by
  funext a
  unfold shU
  by_cases h : a < 2
  · rw [if_pos h]
    funext q
    rw [if_neg (by omega)]
  · rw [if_neg h]
theorem shU_at {S : il_S} {t hi k q : Nat} (hk : k < 2) (h : q ≤ t) : shU S t hi k q = S k q := by
  unfold shU
  rw [if_pos hk]
  exact if_neg (by omega)
theorem shU_2 {S : il_S} {t hi k : Nat} (hk : ¬ k < 2) : shU S t hi k = S k := if_neg hk
theorem shU_s {S : il_S} {t hi : Nat} (h : t < hi) : sU (sU (shU S (t + 1) hi) 0 (t + 1) (S 0 t)) 1 (t + 1) (S 1 t) = shU S t hi := by
  funext a q
  by_cases h0 : a = 0
  · subst h0
    by_cases hq : q = t + 1
    · subst hq
      simp [sU, upd, shU]
      intro h1; omega
    · by_cases h1 : t < q ∧ q ≤ hi
      · have h2 : t + 1 < q ∧ q ≤ hi := by omega
        simp [sU, upd, shU, hq, h1, h2]
      · have h2 : ¬ (t + 1 < q ∧ q ≤ hi) := by omega
        simp only [sU, upd, shU, hq]
        simp [upd, h1, h2, hq]
  · by_cases h0' : a = 1
    · subst h0'
      by_cases hq : q = t + 1
      · subst hq
        simp [sU, upd, shU]
        intro h1; omega
      · by_cases h1 : t < q ∧ q ≤ hi
        · have h2 : t + 1 < q ∧ q ≤ hi := by omega
          simp [sU, upd, shU, hq, h1, h2]
        · have h2 : ¬ (t + 1 < q ∧ q ≤ hi) := by omega
          simp only [sU, upd, shU, hq]
          simp [upd, h1, h2, hq]
    · have h2 : ¬ a < 2 := by omega
      simp [sU, shU, h0, h0', h2]
/-- arrays 0 and 1: the places from lo below t filled from the next one -/
def shD (S : il_S) (lo t : Nat) : il_S := fun a => if a < 2 then (fun q => if lo ≤ q ∧ q < t then S a (q + 1) else S a q) else S a
theorem shD_0 {S : il_S} {lo : Nat} : shD S lo lo = S := by
  funext a
  unfold shD
  by_cases h : a < 2
  · rw [if_pos h]
    funext q
    rw [if_neg (by omega)]
  · rw [if_neg h]
theorem shD_at {S : il_S} {lo t k q : Nat} (hk : k < 2) (h : t ≤ q) : shD S lo t k q = S k q := by
  unfold shD
  rw [if_pos hk]
  exact if_neg (by omega)
theorem shD_2 {S : il_S} {lo t k : Nat} (hk : ¬ k < 2) : shD S lo t k = S k := if_neg hk
theorem shD_s {S : il_S} {lo t : Nat} (h : lo ≤ t) : sU (sU (shD S lo t) 0 t (S 0 (t + 1))) 1 t (S 1 (t + 1)) = shD S lo (t + 1) := by
  funext a q
  by_cases h0 : a = 0
  · subst h0
    by_cases hq : q = t
    · subst hq
      simp [sU, upd, shD, h]
    · by_cases h1 : lo ≤ q ∧ q < t
      · have h2 : lo ≤ q ∧ q < t + 1 := by omega
        simp [sU, upd, shD, hq, h1, h2]
      · have h2 : ¬ (lo ≤ q ∧ q < t + 1) := by omega
        simp only [sU, upd, shD, hq]
        simp [upd, h1, h2, hq]
  · by_cases h0' : a = 1
    · subst h0'
      by_cases hq : q = t
      · subst hq
        simp [sU, upd, shD, h]
      · by_cases h1 : lo ≤ q ∧ q < t
        · have h2 : lo ≤ q ∧ q < t + 1 := by omega
          simp [sU, upd, shD, hq, h1, h2]
        · have h2 : ¬ (lo ≤ q ∧ q < t + 1) := by omega
          simp only [sU, upd, shD, hq]
          simp [upd, h1, h2, hq]
    · have h2 : ¬ a < 2 := by omega
      simp [sU, shD, h0, h0', h2]
def fUp (i : Nat) (v : Int32) : Int32 := if v < nI i then v else v + nI 1
def fDn (i : Nat) (v : Int32) : Int32 := if v ≤ nI i then v else v - nI 1
theorem fUp_o {i : Nat} (hi : i < 2 ^ 30) {o : Option Nat} (ho : ∀ n, o = some n → n < 2 ^ 30) : fUp i (oI o) = oI (oUp i o) := by
  unfold fUp
  cases o with
  | none => exact if_pos (il_neg_lt (by omega) (by decide))
  | some w =>
    have hw := ho w rfl
    show (if nI w < nI i then nI w else nI w + nI 1) = nI (if i ≤ w then w + 1 else w)
    by_cases h : i ≤ w
    · rw [if_neg (nI_nlt h (by omega)), if_pos h, nI_add]
    · rw [if_pos (nI_lt (by omega) (by omega)), if_neg h]
theorem il_m4le {i : Nat} (hi : i < 2 ^ 31) : (-4 : Int32) ≤ nI i := by
  refine Int32.le_iff_toInt_le.mpr ?_
  rw [nI_toInt hi]
  have h2 : (-4 : Int32).toInt = -4 := by decide
  rw [h2]
  omega
theorem fDn_o {i : Nat} (hi : i < 2 ^ 30) {o : Option Nat} (ho : ∀ n, o = some n → n < 2 ^ 30) : fDn i (oI o) = oI (oDn i o) := by
  unfold fDn
  cases o with
  | none => exact if_pos (il_m4le (by omega))
  | some w =>
    have hw := ho w rfl
    show (if nI w ≤ nI i then nI w else nI w - nI 1) = nI (if i < w then w - 1 else w)
    by_cases h : i < w
    · rw [if_neg (nI_ge h (by omega)), if_pos h, pk_sub (by omega)]
    · rw [if_pos (nI_le (by omega) (by omega)), if_neg h]
theorem vA_d30 {a : il_A} (hZ : vZ a) (hD : vD a) {m s : Nat} (hm : m < 6) (hs : s < 10) : ∀ n, a.2.2.2 m s = some n → n < 2 ^ 30 := by
  intro n e
  have h1 := hD m s n hm hs e
  have h2 := hZ.1 m hm
  omega
theorem RM_ins {a : il_A} {S : il_S} {j i : Nat} {v : Int32} (hR : RM a S) (hj : j < 6) (h8 : a.1 j < 8) (hi : i ≤ a.1 j) : RM (a_df (a_im a j i none v) (d_up a.2.2.2 j i)) (sU (mapF (sU (sU (shU S (8 * j + i) (8 * j + a.1 j)) 0 (8 * j + i) (-4)) 1 (8 * j + i) v) 3 (fUp i) (10 * j) (10 * j + 10)) 2 j (nI (a.1 j + 1))) := by
  obtain ⟨hZ, hV, h2, h3, h01⟩ := hR
  refine ⟨vZ_df (vZ_im hZ h8 hi (fun s q => by cases q) hj), vD_up hV, fun m hm => ?_, fun m s hm hs => ?_, fun m w hm hw => ?_⟩
  · by_cases h : m = j
    · subst h; simp [sU, upd, a_im, a_df]
    · simp [sU, upd, a_im, a_df, h, mapF, shU, h2 m hm]
  · have e1 := h3 m s hm hs
    rw [sU_k (by decide)]
    show mapF _ 3 _ _ _ 3 _ = oI (d_up a.2.2.2 j i m s)
    by_cases h : m = j
    · subst h
      rw [mapF_in (by omega) (by omega), sU_k (by decide), sU_k (by decide), shU_2 (by decide), e1, fUp_o (by omega) (vA_d30 hZ hV hm hs)]
      simp [d_up]
    · rw [mapF_out (by omega), sU_k (by decide), sU_k (by decide), shU_2 (by decide), e1]
      simp [d_up, h]
  · have hz := hZ.1 m hm
    have hzj := hZ.1 j hj
    rw [sU_k (by decide), sU_k (by decide), mapF_k (by decide), mapF_k (by decide)]
    by_cases h : m = j
    · subst h
      have hw : w < a.1 m + 1 := by simpa [a_im, a_df] using hw
      by_cases h4 : w = i
      · subst h4
        simp [sU, upd, a_im, a_df, oI]
      · have h5 : ¬ 8 * m + w = 8 * m + i := by omega
        by_cases h6 : w < i
        · have h7 : ¬ (8 * m + i < 8 * m + w ∧ 8 * m + w ≤ 8 * m + a.1 m) := by omega
          have h9 := h01 m w hm (by omega)
          simp only [sU, upd, a_im, a_df, shU]
          simp [upd, h4, h6, h9, show ¬ i < w by omega]
        · have h9 := h01 m (w - 1) hm (by omega)
          have h10 : 8 * m + w - 1 = 8 * m + (w - 1) := by omega
          simp only [sU, upd, a_im, a_df, shU]
          simp [upd, h4, h6, h10, h9, show i < w by omega, show w ≤ a.1 m by omega]
    · have hw : w < a.1 m := by simpa [a_im, a_df, h] using hw
      have h5 : ¬ 8 * m + w = 8 * j + i := by omega
      have h7 : ¬ (8 * j + i < 8 * m + w ∧ 8 * m + w ≤ 8 * j + a.1 j) := by omega
      have h9 := h01 m w hm hw
      simp only [sU, upd, a_im, a_df, shU]
      simp [upd, h, h5, h7, h9]
theorem RM_del {a : il_A} {S : il_S} {j i : Nat} (hR : RM a S) (hj : j < 6) (hi : i < a.1 j) : RM (a_df (a_rm a j i) (d_dn a.2.2.2 j i)) (mapF (shD (sU S 2 j (nI (a.1 j - 1))) (8 * j + i) (8 * j + (a.1 j - 1))) 3 (fDn i) (10 * j) (10 * j + 10)) := by
  obtain ⟨hZ, hV, h2, h3, h01⟩ := hR
  have hzj := hZ.1 j hj
  refine ⟨vZ_df (vZ_rm hZ hj hi), vD_dn hV hi, fun m hm => ?_, fun m s hm hs => ?_, fun m w hm hw => ?_⟩
  · rw [mapF_k (by decide), shD_2 (by decide)]
    by_cases h : m = j
    · subst h; simp [sU, upd, a_rm, a_df]
    · simp [sU, upd, a_rm, a_df, h, h2 m hm]
  · have e1 := h3 m s hm hs
    show mapF _ 3 _ _ _ 3 _ = oI (d_dn a.2.2.2 j i m s)
    by_cases h : m = j
    · subst h
      rw [mapF_in (by omega) (by omega), shD_2 (by decide), sU_k (by decide), e1, fDn_o (by omega) (vA_d30 hZ hV hm hs)]
      simp [d_dn]
    · rw [mapF_out (by omega), shD_2 (by decide), sU_k (by decide), e1]
      simp [d_dn, h]
  · have hz := hZ.1 m hm
    rw [mapF_k (by decide), mapF_k (by decide)]
    by_cases h : m = j
    · subst h
      have hw : w < a.1 m - 1 := by simpa [a_rm, a_df] using hw
      by_cases h6 : w < i
      · have h9 := h01 m w hm (by omega)
        simp only [sU, upd, a_rm, a_df, shD]
        simp [h6, h9, show ¬ i ≤ w by omega]
      · have h9 := h01 m (w + 1) hm (by omega)
        simp only [sU, upd, a_rm, a_df, shD]
        simp [h6, hw, show i ≤ w by omega, Nat.add_assoc, h9]
    · have hw : w < a.1 m := by simpa [a_rm, a_df, h] using hw
      have h7 : ¬ (8 * j + i ≤ 8 * m + w ∧ 8 * m + w < 8 * j + (a.1 j - 1)) := by omega
      have h9 := h01 m w hm hw
      simp only [sU, upd, a_rm, a_df, shD]
      simp [h, h7, h9]
theorem RM_unl {a : il_A} {S : il_S} {j : Nat} (hR : RM a S) (hj : j < 6) : RM (a_unl a j) (mapF (sU S 2 j (nI 0)) 3 (fun _ => -4) (10 * j) (10 * j + 10)) := by
  obtain ⟨hZ, hV, h2, h3, h01⟩ := hR
  refine ⟨vZ_unl hZ, vD_cl hV, fun m hm => ?_, fun m s hm hs => ?_, fun m w hm hw => ?_⟩
  · rw [mapF_k (by decide)]
    by_cases h : m = j
    · subst h; simp [sU, upd, a_unl]
    · simp [sU, upd, a_unl, h, h2 m hm]
  · show mapF _ 3 _ _ _ 3 _ = oI (d_cl a.2.2.2 j m s)
    by_cases h : m = j
    · subst h
      rw [mapF_in (by omega) (by omega)]
      simp [d_cl, oI]
    · rw [mapF_out (by omega), sU_k (by decide), h3 m s hm hs]
      simp [d_cl, h]
  · rw [mapF_k (by decide), mapF_k (by decide)]
    by_cases h : m = j
    · subst h
      have hw : w < 0 := by simpa [a_unl] using hw
      omega
    · have hw : w < a.1 m := by simpa [a_unl, h] using hw
      simp [sU, a_unl, h01 m w hm hw]
set_option maxHeartbeats 1000000 in
set_option maxRecDepth 100000 in
theorem mM_patch (l : Launch) (S : il_S) (a : il_A) (hR : RM a S) (x y v : Int32) : ig_Mi GM l yX1_patch cX1_patch 5 .int 1 22 [x, y, v] S (fun r S' => r = (sp_patch a x y v).1 ∧ RM (sp_patch a x y v).2 S') := by
  refine ig_Mi.of GM_ok (by decide) rfl (Nat.le_of_ble_eq_true rfl) (fun X C => ?_)
  rcases il_cases x (n := 6) (by decide) with ⟨h, e⟩ | ⟨h, h6, e⟩ | ⟨j, hj, rfl, e⟩
  · refine ig_this C dX1_patch_0 ?_
    refine ig_iln C 0 dX1_patch_1 rfl rfl ?_
    refine ig_calli C kM_isModule (mM_isModule (xl X) S x) rfl rfl ⟨Nat.le_of_ble_eq_true rfl, Nat.le_of_ble_eq_true rfl⟩ (Nat.le_of_ble_eq_true rfl) dX1_patch_2 (fun r S' hp => ?_)
    obtain ⟨rfl, rfl⟩ := hp
    rw [e]
    refine ig_top (nI (0)) rfl ?_
    refine ig_if_ne_F C 10 dX1_patch_5 (by decide) (show nI (0) = 0 from by rw [show 0 = 0 by omega]; rfl) ?_
    refine ig_ic C dX1_patch_8 ki_m1 ?_
    exact ig_ret C (nar_int _) dX1_patch_9 ⟨by unfold sp_patch; rw [e], by unfold sp_patch; rw [e]; exact hR⟩
  · refine ig_this C dX1_patch_0 ?_
    refine ig_iln C 0 dX1_patch_1 rfl rfl ?_
    refine ig_calli C kM_isModule (mM_isModule (xl X) S x) rfl rfl ⟨Nat.le_of_ble_eq_true rfl, Nat.le_of_ble_eq_true rfl⟩ (Nat.le_of_ble_eq_true rfl) dX1_patch_2 (fun r S' hp => ?_)
    obtain ⟨rfl, rfl⟩ := hp
    rw [e]
    refine ig_top (nI (0)) rfl ?_
    refine ig_if_ne_F C 10 dX1_patch_5 (by decide) (show nI (0) = 0 from by rw [show 0 = 0 by omega]; rfl) ?_
    refine ig_ic C dX1_patch_8 ki_m1 ?_
    exact ig_ret C (nar_int _) dX1_patch_9 ⟨by unfold sp_patch; rw [e], by unfold sp_patch; rw [e]; exact hR⟩
  · have hR0 := hR
    obtain ⟨hZ, hV, h2, h3, h01⟩ := hR
    have hz8 := hZ.1 j hj
    rcases il_cases y (n := a.1 j) (by omega) with ⟨h, e2⟩ | ⟨h, h6, e2⟩ | ⟨i, hi, rfl, e2⟩
    · refine ig_this C dX1_patch_0 ?_
      refine ig_iln C 0 dX1_patch_1 rfl rfl ?_
      refine ig_calli C kM_isModule (mM_isModule (xl X) S (nI j)) rfl rfl ⟨Nat.le_of_ble_eq_true rfl, Nat.le_of_ble_eq_true rfl⟩ (Nat.le_of_ble_eq_true rfl) dX1_patch_2 (fun r S' hp => ?_)
      obtain ⟨rfl, rfl⟩ := hp
      rw [e]
      refine ig_top (nI (1)) rfl ?_
      refine ig_if_ne_T C 10 dX1_patch_5 (by decide) (nI_ne0 (show 0 < 1 by omega) (by omega)) ?_
      refine ig_this C dX1_patch_10 ?_
      refine ig_iln C 0 dX1_patch_11 rfl rfl ?_
      refine ig_iln C 1 dX1_patch_12 rfl rfl ?_
      refine ig_calli C kM_isWord (mM_isWord (xl X) S a hR0 j hj y) rfl rfl ⟨Nat.le_of_ble_eq_true rfl, Nat.le_of_ble_eq_true rfl⟩ (Nat.le_of_ble_eq_true rfl) dX1_patch_13 (fun r S' hp => ?_)
      obtain ⟨rfl, rfl⟩ := hp
      rw [e2]
      refine ig_top (nI (0)) rfl ?_
      refine ig_if_ne_F C 22 dX1_patch_16 (by decide) (show nI (0) = 0 from by rw [show 0 = 0 by omega]; rfl) ?_
      refine ig_bp C dX1_patch_19 kb_m4 ?_
      exact ig_ret C (nar_int _) dX1_patch_21 ⟨by unfold sp_patch; rw [e]; dsimp only; rw [e2], by unfold sp_patch; rw [e]; dsimp only; rw [e2]; exact hR0⟩
    · refine ig_this C dX1_patch_0 ?_
      refine ig_iln C 0 dX1_patch_1 rfl rfl ?_
      refine ig_calli C kM_isModule (mM_isModule (xl X) S (nI j)) rfl rfl ⟨Nat.le_of_ble_eq_true rfl, Nat.le_of_ble_eq_true rfl⟩ (Nat.le_of_ble_eq_true rfl) dX1_patch_2 (fun r S' hp => ?_)
      obtain ⟨rfl, rfl⟩ := hp
      rw [e]
      refine ig_top (nI (1)) rfl ?_
      refine ig_if_ne_T C 10 dX1_patch_5 (by decide) (nI_ne0 (show 0 < 1 by omega) (by omega)) ?_
      refine ig_this C dX1_patch_10 ?_
      refine ig_iln C 0 dX1_patch_11 rfl rfl ?_
      refine ig_iln C 1 dX1_patch_12 rfl rfl ?_
      refine ig_calli C kM_isWord (mM_isWord (xl X) S a hR0 j hj y) rfl rfl ⟨Nat.le_of_ble_eq_true rfl, Nat.le_of_ble_eq_true rfl⟩ (Nat.le_of_ble_eq_true rfl) dX1_patch_13 (fun r S' hp => ?_)
      obtain ⟨rfl, rfl⟩ := hp
      rw [e2]
      refine ig_top (nI (0)) rfl ?_
      refine ig_if_ne_F C 22 dX1_patch_16 (by decide) (show nI (0) = 0 from by rw [show 0 = 0 by omega]; rfl) ?_
      refine ig_bp C dX1_patch_19 kb_m4 ?_
      exact ig_ret C (nar_int _) dX1_patch_21 ⟨by unfold sp_patch; rw [e]; dsimp only; rw [e2], by unfold sp_patch; rw [e]; dsimp only; rw [e2]; exact hR0⟩
    · have hnm := (h01 j i hj hi).1
      cases hn : a.2.1 j i with
      | none =>
        rw [hn] at hnm
        refine ig_this C dX1_patch_0 ?_
        refine ig_iln C 0 dX1_patch_1 rfl rfl ?_
        refine ig_calli C kM_isModule (mM_isModule (xl X) S (nI j)) rfl rfl ⟨Nat.le_of_ble_eq_true rfl, Nat.le_of_ble_eq_true rfl⟩ (Nat.le_of_ble_eq_true rfl) dX1_patch_2 (fun r S' hp => ?_)
        obtain ⟨rfl, rfl⟩ := hp
        rw [e]
        refine ig_top (nI (1)) rfl ?_
        refine ig_if_ne_T C 10 dX1_patch_5 (by decide) (nI_ne0 (show 0 < 1 by omega) (by omega)) ?_
        refine ig_this C dX1_patch_10 ?_
        refine ig_iln C 0 dX1_patch_11 rfl rfl ?_
        refine ig_iln C 1 dX1_patch_12 rfl rfl ?_
        refine ig_calli C kM_isWord (mM_isWord (xl X) S a hR0 j hj (nI i)) rfl rfl ⟨Nat.le_of_ble_eq_true rfl, Nat.le_of_ble_eq_true rfl⟩ (Nat.le_of_ble_eq_true rfl) dX1_patch_13 (fun r S' hp => ?_)
        obtain ⟨rfl, rfl⟩ := hp
        rw [e2]
        refine ig_top (nI (1)) rfl ?_
        refine ig_if_ne_T C 22 dX1_patch_16 (by decide) (nI_ne0 (show 0 < 1 by omega) (by omega)) ?_
        refine ig_this C dX1_patch_22 ?_
        refine ig_get C fM_names dX1_patch_23 ?_
        refine ig_bp C dX1_patch_26 kb_8 ?_
        refine ig_iln C 0 dX1_patch_28 rfl rfl ?_
        refine ig_imulN C dX1_patch_29 ?_
        refine ig_iln C 1 dX1_patch_30 rfl rfl ?_
        refine ig_iaddN C dX1_patch_31 ?_
        refine ig_ald C 0 rfl (show (8 * j) + i < 48 by omega) (v := (-4)) hnm dX1_patch_32 ?_
        refine ig_bp C dX1_patch_33 kb_m4 ?_
        refine ig_icmp_ne_F C 42 dX1_patch_35 (by decide) rfl ?_
        refine ig_ic C dX1_patch_38 ki_0 ?_
        refine ig_goto C 43 dX1_patch_39 (by decide) ?_
        refine ig_is C 3 [nI (j), nI (i), v, nI (0)] dX1_patch_43 rfl rfl rfl ?_
        refine ig_this C dX1_patch_45 ?_
        refine ig_get C fM_names dX1_patch_46 ?_
        refine ig_bp C dX1_patch_49 kb_8 ?_
        refine ig_iln C 0 dX1_patch_51 rfl rfl ?_
        refine ig_imulN C dX1_patch_52 ?_
        refine ig_iln C 1 dX1_patch_53 rfl rfl ?_
        refine ig_iaddN C dX1_patch_54 ?_
        refine ig_bp C dX1_patch_55 kb_m4 ?_
        refine ig_ast C 0 rfl (show (8 * j) + i < 48 by omega) dX1_patch_57 ?_
        refine ig_this C dX1_patch_58 ?_
        refine ig_get C fM_numbers dX1_patch_59 ?_
        refine ig_bp C dX1_patch_62 kb_8 ?_
        refine ig_iln C 0 dX1_patch_64 rfl rfl ?_
        refine ig_imulN C dX1_patch_65 ?_
        refine ig_iln C 1 dX1_patch_66 rfl rfl ?_
        refine ig_iaddN C dX1_patch_67 ?_
        refine ig_iln C 2 dX1_patch_68 rfl rfl ?_
        refine ig_ast C 1 rfl (show (8 * j) + i < 48 by omega) dX1_patch_69 ?_
        refine ig_il C 3 dX1_patch_70 rfl ?_
        exact ig_ret C (nar_int _) dX1_patch_72 ⟨by unfold sp_patch; rw [e]; dsimp only; rw [e2]; show nI 0 = if a.2.1 j i = none then nI 0 else nI 1; rw [if_pos hn], by unfold sp_patch; rw [e]; dsimp only; rw [e2]; exact RM_patch hR0 hj hi⟩
      | some s =>
        rw [hn] at hnm
        have hs := hZ.2 j i s hj hi hn
        refine ig_this C dX1_patch_0 ?_
        refine ig_iln C 0 dX1_patch_1 rfl rfl ?_
        refine ig_calli C kM_isModule (mM_isModule (xl X) S (nI j)) rfl rfl ⟨Nat.le_of_ble_eq_true rfl, Nat.le_of_ble_eq_true rfl⟩ (Nat.le_of_ble_eq_true rfl) dX1_patch_2 (fun r S' hp => ?_)
        obtain ⟨rfl, rfl⟩ := hp
        rw [e]
        refine ig_top (nI (1)) rfl ?_
        refine ig_if_ne_T C 10 dX1_patch_5 (by decide) (nI_ne0 (show 0 < 1 by omega) (by omega)) ?_
        refine ig_this C dX1_patch_10 ?_
        refine ig_iln C 0 dX1_patch_11 rfl rfl ?_
        refine ig_iln C 1 dX1_patch_12 rfl rfl ?_
        refine ig_calli C kM_isWord (mM_isWord (xl X) S a hR0 j hj (nI i)) rfl rfl ⟨Nat.le_of_ble_eq_true rfl, Nat.le_of_ble_eq_true rfl⟩ (Nat.le_of_ble_eq_true rfl) dX1_patch_13 (fun r S' hp => ?_)
        obtain ⟨rfl, rfl⟩ := hp
        rw [e2]
        refine ig_top (nI (1)) rfl ?_
        refine ig_if_ne_T C 22 dX1_patch_16 (by decide) (nI_ne0 (show 0 < 1 by omega) (by omega)) ?_
        refine ig_this C dX1_patch_22 ?_
        refine ig_get C fM_names dX1_patch_23 ?_
        refine ig_bp C dX1_patch_26 kb_8 ?_
        refine ig_iln C 0 dX1_patch_28 rfl rfl ?_
        refine ig_imulN C dX1_patch_29 ?_
        refine ig_iln C 1 dX1_patch_30 rfl rfl ?_
        refine ig_iaddN C dX1_patch_31 ?_
        refine ig_ald C 0 rfl (show (8 * j) + i < 48 by omega) (v := nI (s)) hnm dX1_patch_32 ?_
        refine ig_bp C dX1_patch_33 kb_m4 ?_
        refine ig_icmp_ne_T C 42 dX1_patch_35 (by decide) (nI_ne4 (by omega)) ?_
        refine ig_ic C dX1_patch_42 ki_1 ?_
        refine ig_is C 3 [nI (j), nI (i), v, nI (1)] dX1_patch_43 rfl rfl rfl ?_
        refine ig_this C dX1_patch_45 ?_
        refine ig_get C fM_names dX1_patch_46 ?_
        refine ig_bp C dX1_patch_49 kb_8 ?_
        refine ig_iln C 0 dX1_patch_51 rfl rfl ?_
        refine ig_imulN C dX1_patch_52 ?_
        refine ig_iln C 1 dX1_patch_53 rfl rfl ?_
        refine ig_iaddN C dX1_patch_54 ?_
        refine ig_bp C dX1_patch_55 kb_m4 ?_
        refine ig_ast C 0 rfl (show (8 * j) + i < 48 by omega) dX1_patch_57 ?_
        refine ig_this C dX1_patch_58 ?_
        refine ig_get C fM_numbers dX1_patch_59 ?_
        refine ig_bp C dX1_patch_62 kb_8 ?_
        refine ig_iln C 0 dX1_patch_64 rfl rfl ?_
        refine ig_imulN C dX1_patch_65 ?_
        refine ig_iln C 1 dX1_patch_66 rfl rfl ?_
        refine ig_iaddN C dX1_patch_67 ?_
        refine ig_iln C 2 dX1_patch_68 rfl rfl ?_
        refine ig_ast C 1 rfl (show (8 * j) + i < 48 by omega) dX1_patch_69 ?_
        refine ig_il C 3 dX1_patch_70 rfl ?_
        exact ig_ret C (nar_int _) dX1_patch_72 ⟨by unfold sp_patch; rw [e]; dsimp only; rw [e2]; show nI 1 = if a.2.1 j i = none then nI 0 else nI 1; rw [if_neg (by rw [hn]; exact fun q => by cases q)], by unfold sp_patch; rw [e]; dsimp only; rw [e2]; exact RM_patch hR0 hj hi⟩

set_option maxHeartbeats 1000000 in
set_option maxRecDepth 100000 in
theorem mM_define (l : Launch) (S : il_S) (a : il_A) (hR : RM a S) (x y v : Int32) : ig_Mi GM l yX1_define cX1_define 5 .int 1 21 [x, y, v] S (fun r S' => r = (sp_define a x y v).1 ∧ RM (sp_define a x y v).2 S') := by
  refine ig_Mi.of GM_ok (by decide) rfl (Nat.le_of_ble_eq_true rfl) (fun X C => ?_)
  rcases il_cases x (n := 6) (by decide) with ⟨h, e⟩ | ⟨h, h6, e⟩ | ⟨j, hj, rfl, e⟩
  · refine ig_this C dX1_define_0 ?_
    refine ig_iln C 0 dX1_define_1 rfl rfl ?_
    refine ig_calli C kM_isModule (mM_isModule (xl X) S x) rfl rfl ⟨Nat.le_of_ble_eq_true rfl, Nat.le_of_ble_eq_true rfl⟩ (Nat.le_of_ble_eq_true rfl) dX1_define_2 (fun r S' hp => ?_)
    obtain ⟨rfl, rfl⟩ := hp
    rw [e]
    refine ig_top (nI (0)) rfl ?_
    refine ig_if_eq_T C 16 dX1_define_5 (by decide) (show nI (0) = 0 from by rw [show 0 = 0 by omega]; rfl) ?_
    refine ig_ic C dX1_define_16 ki_m1 ?_
    exact ig_ret C (nar_int _) dX1_define_17 ⟨by unfold sp_define; rw [e], by unfold sp_define; rw [e]; exact hR⟩
  · refine ig_this C dX1_define_0 ?_
    refine ig_iln C 0 dX1_define_1 rfl rfl ?_
    refine ig_calli C kM_isModule (mM_isModule (xl X) S x) rfl rfl ⟨Nat.le_of_ble_eq_true rfl, Nat.le_of_ble_eq_true rfl⟩ (Nat.le_of_ble_eq_true rfl) dX1_define_2 (fun r S' hp => ?_)
    obtain ⟨rfl, rfl⟩ := hp
    rw [e]
    refine ig_top (nI (0)) rfl ?_
    refine ig_if_eq_T C 16 dX1_define_5 (by decide) (show nI (0) = 0 from by rw [show 0 = 0 by omega]; rfl) ?_
    refine ig_ic C dX1_define_16 ki_m1 ?_
    exact ig_ret C (nar_int _) dX1_define_17 ⟨by unfold sp_define; rw [e], by unfold sp_define; rw [e]; exact hR⟩
  · have hR0 := hR
    obtain ⟨hZ, hV, h2, h3, h01⟩ := hR
    have hz8 := hZ.1 j hj
    rcases il_cases y (n := 10) (by decide) with ⟨h, e2⟩ | ⟨h, h6, e2⟩ | ⟨s, hs, rfl, e2⟩
    · refine ig_this C dX1_define_0 ?_
      refine ig_iln C 0 dX1_define_1 rfl rfl ?_
      refine ig_calli C kM_isModule (mM_isModule (xl X) S (nI j)) rfl rfl ⟨Nat.le_of_ble_eq_true rfl, Nat.le_of_ble_eq_true rfl⟩ (Nat.le_of_ble_eq_true rfl) dX1_define_2 (fun r S' hp => ?_)
      obtain ⟨rfl, rfl⟩ := hp
      rw [e]
      refine ig_top (nI (1)) rfl ?_
      refine ig_if_eq_F C 16 dX1_define_5 (by decide) (nI_ne0 (show 0 < 1 by omega) (by omega)) ?_
      refine ig_this C dX1_define_8 ?_
      refine ig_iln C 1 dX1_define_9 rfl rfl ?_
      refine ig_calli C kM_isName (mM_isName (xl X) S y) rfl rfl ⟨Nat.le_of_ble_eq_true rfl, Nat.le_of_ble_eq_true rfl⟩ (Nat.le_of_ble_eq_true rfl) dX1_define_10 (fun r S' hp => ?_)
      obtain ⟨rfl, rfl⟩ := hp
      rw [e2]
      refine ig_top (nI (0)) rfl ?_
      refine ig_if_ne_F C 18 dX1_define_13 (by decide) (show nI (0) = 0 from by rw [show 0 = 0 by omega]; rfl) ?_
      refine ig_ic C dX1_define_16 ki_m1 ?_
      exact ig_ret C (nar_int _) dX1_define_17 ⟨by unfold sp_define; rw [e]; dsimp only; rw [e2], by unfold sp_define; rw [e]; dsimp only; rw [e2]; exact hR0⟩
    · refine ig_this C dX1_define_0 ?_
      refine ig_iln C 0 dX1_define_1 rfl rfl ?_
      refine ig_calli C kM_isModule (mM_isModule (xl X) S (nI j)) rfl rfl ⟨Nat.le_of_ble_eq_true rfl, Nat.le_of_ble_eq_true rfl⟩ (Nat.le_of_ble_eq_true rfl) dX1_define_2 (fun r S' hp => ?_)
      obtain ⟨rfl, rfl⟩ := hp
      rw [e]
      refine ig_top (nI (1)) rfl ?_
      refine ig_if_eq_F C 16 dX1_define_5 (by decide) (nI_ne0 (show 0 < 1 by omega) (by omega)) ?_
      refine ig_this C dX1_define_8 ?_
      refine ig_iln C 1 dX1_define_9 rfl rfl ?_
      refine ig_calli C kM_isName (mM_isName (xl X) S y) rfl rfl ⟨Nat.le_of_ble_eq_true rfl, Nat.le_of_ble_eq_true rfl⟩ (Nat.le_of_ble_eq_true rfl) dX1_define_10 (fun r S' hp => ?_)
      obtain ⟨rfl, rfl⟩ := hp
      rw [e2]
      refine ig_top (nI (0)) rfl ?_
      refine ig_if_ne_F C 18 dX1_define_13 (by decide) (show nI (0) = 0 from by rw [show 0 = 0 by omega]; rfl) ?_
      refine ig_ic C dX1_define_16 ki_m1 ?_
      exact ig_ret C (nar_int _) dX1_define_17 ⟨by unfold sp_define; rw [e]; dsimp only; rw [e2], by unfold sp_define; rw [e]; dsimp only; rw [e2]; exact hR0⟩
    · rcases il_cases v (n := a.1 j + 1) (by omega) with ⟨h, e3⟩ | ⟨h, h6, e3⟩ | ⟨i, hi, rfl, e3⟩
      · refine ig_this C dX1_define_0 ?_
        refine ig_iln C 0 dX1_define_1 rfl rfl ?_
        refine ig_calli C kM_isModule (mM_isModule (xl X) S (nI j)) rfl rfl ⟨Nat.le_of_ble_eq_true rfl, Nat.le_of_ble_eq_true rfl⟩ (Nat.le_of_ble_eq_true rfl) dX1_define_2 (fun r S' hp => ?_)
        obtain ⟨rfl, rfl⟩ := hp
        rw [e]
        refine ig_top (nI (1)) rfl ?_
        refine ig_if_eq_F C 16 dX1_define_5 (by decide) (nI_ne0 (show 0 < 1 by omega) (by omega)) ?_
        refine ig_this C dX1_define_8 ?_
        refine ig_iln C 1 dX1_define_9 rfl rfl ?_
        refine ig_calli C kM_isName (mM_isName (xl X) S (nI s)) rfl rfl ⟨Nat.le_of_ble_eq_true rfl, Nat.le_of_ble_eq_true rfl⟩ (Nat.le_of_ble_eq_true rfl) dX1_define_10 (fun r S' hp => ?_)
        obtain ⟨rfl, rfl⟩ := hp
        rw [e2]
        refine ig_top (nI (1)) rfl ?_
        refine ig_if_ne_T C 18 dX1_define_13 (by decide) (nI_ne0 (show 0 < 1 by omega) (by omega)) ?_
        refine ig_iln C 2 dX1_define_18 rfl rfl ?_
        refine ig_if_lt_T C 32 dX1_define_19 (by decide) h ?_
        refine ig_bp C dX1_define_32 kb_m4 ?_
        exact ig_ret C (nar_int _) dX1_define_34 ⟨by unfold sp_define; rw [e]; dsimp only; rw [e2]; dsimp only; rw [e3], by unfold sp_define; rw [e]; dsimp only; rw [e2]; dsimp only; rw [e3]; exact hR0⟩
      · refine ig_this C dX1_define_0 ?_
        refine ig_iln C 0 dX1_define_1 rfl rfl ?_
        refine ig_calli C kM_isModule (mM_isModule (xl X) S (nI j)) rfl rfl ⟨Nat.le_of_ble_eq_true rfl, Nat.le_of_ble_eq_true rfl⟩ (Nat.le_of_ble_eq_true rfl) dX1_define_2 (fun r S' hp => ?_)
        obtain ⟨rfl, rfl⟩ := hp
        rw [e]
        refine ig_top (nI (1)) rfl ?_
        refine ig_if_eq_F C 16 dX1_define_5 (by decide) (nI_ne0 (show 0 < 1 by omega) (by omega)) ?_
        refine ig_this C dX1_define_8 ?_
        refine ig_iln C 1 dX1_define_9 rfl rfl ?_
        refine ig_calli C kM_isName (mM_isName (xl X) S (nI s)) rfl rfl ⟨Nat.le_of_ble_eq_true rfl, Nat.le_of_ble_eq_true rfl⟩ (Nat.le_of_ble_eq_true rfl) dX1_define_10 (fun r S' hp => ?_)
        obtain ⟨rfl, rfl⟩ := hp
        rw [e2]
        refine ig_top (nI (1)) rfl ?_
        refine ig_if_ne_T C 18 dX1_define_13 (by decide) (nI_ne0 (show 0 < 1 by omega) (by omega)) ?_
        refine ig_iln C 2 dX1_define_18 rfl rfl ?_
        refine ig_if_lt_F C 32 dX1_define_19 (by decide) h ?_
        refine ig_iln C 2 dX1_define_22 rfl rfl ?_
        refine ig_this C dX1_define_23 ?_
        refine ig_get C fM_sizes dX1_define_24 ?_
        refine ig_iln C 0 dX1_define_27 rfl rfl ?_
        refine ig_ald C 2 rfl (show j < 6 by omega) (v := nI (a.1 j)) (h2 j (by omega)) dX1_define_28 ?_
        refine ig_icmp_le_F C 35 dX1_define_29 (by decide) (il_nle (show a.1 j < a.1 j + 1 by omega) (by omega) h6) ?_
        refine ig_bp C dX1_define_32 kb_m4 ?_
        exact ig_ret C (nar_int _) dX1_define_34 ⟨by unfold sp_define; rw [e]; dsimp only; rw [e2]; dsimp only; rw [e3], by unfold sp_define; rw [e]; dsimp only; rw [e2]; dsimp only; rw [e3]; exact hR0⟩
      · have hd := h3 j s hj hs
        have hdl := vA_dlt hZ hV hj hs
        cases hn : a.2.2.2 j s with
        | none =>
          rw [hn] at hd
          refine ig_this C dX1_define_0 ?_
          refine ig_iln C 0 dX1_define_1 rfl rfl ?_
          refine ig_calli C kM_isModule (mM_isModule (xl X) S (nI j)) rfl rfl ⟨Nat.le_of_ble_eq_true rfl, Nat.le_of_ble_eq_true rfl⟩ (Nat.le_of_ble_eq_true rfl) dX1_define_2 (fun r S' hp => ?_)
          obtain ⟨rfl, rfl⟩ := hp
          rw [e]
          refine ig_top (nI (1)) rfl ?_
          refine ig_if_eq_F C 16 dX1_define_5 (by decide) (nI_ne0 (show 0 < 1 by omega) (by omega)) ?_
          refine ig_this C dX1_define_8 ?_
          refine ig_iln C 1 dX1_define_9 rfl rfl ?_
          refine ig_calli C kM_isName (mM_isName (xl X) S (nI s)) rfl rfl ⟨Nat.le_of_ble_eq_true rfl, Nat.le_of_ble_eq_true rfl⟩ (Nat.le_of_ble_eq_true rfl) dX1_define_10 (fun r S' hp => ?_)
          obtain ⟨rfl, rfl⟩ := hp
          rw [e2]
          refine ig_top (nI (1)) rfl ?_
          refine ig_if_ne_T C 18 dX1_define_13 (by decide) (nI_ne0 (show 0 < 1 by omega) (by omega)) ?_
          refine ig_iln C 2 dX1_define_18 rfl rfl ?_
          refine ig_if_lt_F C 32 dX1_define_19 (by decide) (nI_pos (show i < 2 ^ 31 by omega)) ?_
          refine ig_iln C 2 dX1_define_22 rfl rfl ?_
          refine ig_this C dX1_define_23 ?_
          refine ig_get C fM_sizes dX1_define_24 ?_
          refine ig_iln C 0 dX1_define_27 rfl rfl ?_
          refine ig_ald C 2 rfl (show j < 6 by omega) (v := nI (a.1 j)) (h2 j (by omega)) dX1_define_28 ?_
          refine ig_icmp_le_T C 35 dX1_define_29 (by decide) (nI_le (show i ≤ a.1 j by omega) (by omega)) ?_
          refine ig_this C dX1_define_35 ?_
          refine ig_get C fM_defined dX1_define_36 ?_
          refine ig_bp C dX1_define_39 kb_10 ?_
          refine ig_iln C 0 dX1_define_41 rfl rfl ?_
          refine ig_imulN C dX1_define_42 ?_
          refine ig_iln C 1 dX1_define_43 rfl rfl ?_
          refine ig_iaddN C dX1_define_44 ?_
          refine ig_ald C 3 rfl (show (10 * j) + s < 60 by omega) (v := (-4)) hd dX1_define_45 ?_
          refine ig_bp C dX1_define_46 kb_m4 ?_
          refine ig_icmp_ne_F C 55 dX1_define_48 (by decide) rfl ?_
          refine ig_ic C dX1_define_51 ki_0 ?_
          refine ig_goto C 56 dX1_define_52 (by decide) ?_
          refine ig_is C 3 [nI (j), nI (s), nI (i), nI (0)] dX1_define_56 rfl rfl rfl ?_
          refine ig_this C dX1_define_58 ?_
          refine ig_get C fM_defined dX1_define_59 ?_
          refine ig_bp C dX1_define_62 kb_10 ?_
          refine ig_iln C 0 dX1_define_64 rfl rfl ?_
          refine ig_imulN C dX1_define_65 ?_
          refine ig_iln C 1 dX1_define_66 rfl rfl ?_
          refine ig_iaddN C dX1_define_67 ?_
          refine ig_iln C 2 dX1_define_68 rfl rfl ?_
          refine ig_ast C 3 rfl (show (10 * j) + s < 60 by omega) dX1_define_69 ?_
          refine ig_il C 3 dX1_define_70 rfl ?_
          exact ig_ret C (nar_int _) dX1_define_72 ⟨by unfold sp_define; rw [e]; dsimp only; rw [e2]; dsimp only; rw [e3]; show nI 0 = if a.2.2.2 j s = none then nI 0 else nI 1; rw [if_pos hn], by unfold sp_define; rw [e]; dsimp only; rw [e2]; dsimp only; rw [e3]; exact RM_def (o := some i) hR0 hj hs (fun t q => by cases q; omega)⟩
        | some u =>
          rw [hn] at hd
          have hu := hdl u hn
          refine ig_this C dX1_define_0 ?_
          refine ig_iln C 0 dX1_define_1 rfl rfl ?_
          refine ig_calli C kM_isModule (mM_isModule (xl X) S (nI j)) rfl rfl ⟨Nat.le_of_ble_eq_true rfl, Nat.le_of_ble_eq_true rfl⟩ (Nat.le_of_ble_eq_true rfl) dX1_define_2 (fun r S' hp => ?_)
          obtain ⟨rfl, rfl⟩ := hp
          rw [e]
          refine ig_top (nI (1)) rfl ?_
          refine ig_if_eq_F C 16 dX1_define_5 (by decide) (nI_ne0 (show 0 < 1 by omega) (by omega)) ?_
          refine ig_this C dX1_define_8 ?_
          refine ig_iln C 1 dX1_define_9 rfl rfl ?_
          refine ig_calli C kM_isName (mM_isName (xl X) S (nI s)) rfl rfl ⟨Nat.le_of_ble_eq_true rfl, Nat.le_of_ble_eq_true rfl⟩ (Nat.le_of_ble_eq_true rfl) dX1_define_10 (fun r S' hp => ?_)
          obtain ⟨rfl, rfl⟩ := hp
          rw [e2]
          refine ig_top (nI (1)) rfl ?_
          refine ig_if_ne_T C 18 dX1_define_13 (by decide) (nI_ne0 (show 0 < 1 by omega) (by omega)) ?_
          refine ig_iln C 2 dX1_define_18 rfl rfl ?_
          refine ig_if_lt_F C 32 dX1_define_19 (by decide) (nI_pos (show i < 2 ^ 31 by omega)) ?_
          refine ig_iln C 2 dX1_define_22 rfl rfl ?_
          refine ig_this C dX1_define_23 ?_
          refine ig_get C fM_sizes dX1_define_24 ?_
          refine ig_iln C 0 dX1_define_27 rfl rfl ?_
          refine ig_ald C 2 rfl (show j < 6 by omega) (v := nI (a.1 j)) (h2 j (by omega)) dX1_define_28 ?_
          refine ig_icmp_le_T C 35 dX1_define_29 (by decide) (nI_le (show i ≤ a.1 j by omega) (by omega)) ?_
          refine ig_this C dX1_define_35 ?_
          refine ig_get C fM_defined dX1_define_36 ?_
          refine ig_bp C dX1_define_39 kb_10 ?_
          refine ig_iln C 0 dX1_define_41 rfl rfl ?_
          refine ig_imulN C dX1_define_42 ?_
          refine ig_iln C 1 dX1_define_43 rfl rfl ?_
          refine ig_iaddN C dX1_define_44 ?_
          refine ig_ald C 3 rfl (show (10 * j) + s < 60 by omega) (v := nI (u)) hd dX1_define_45 ?_
          refine ig_bp C dX1_define_46 kb_m4 ?_
          refine ig_icmp_ne_T C 55 dX1_define_48 (by decide) (nI_ne4 hu) ?_
          refine ig_ic C dX1_define_55 ki_1 ?_
          refine ig_is C 3 [nI (j), nI (s), nI (i), nI (1)] dX1_define_56 rfl rfl rfl ?_
          refine ig_this C dX1_define_58 ?_
          refine ig_get C fM_defined dX1_define_59 ?_
          refine ig_bp C dX1_define_62 kb_10 ?_
          refine ig_iln C 0 dX1_define_64 rfl rfl ?_
          refine ig_imulN C dX1_define_65 ?_
          refine ig_iln C 1 dX1_define_66 rfl rfl ?_
          refine ig_iaddN C dX1_define_67 ?_
          refine ig_iln C 2 dX1_define_68 rfl rfl ?_
          refine ig_ast C 3 rfl (show (10 * j) + s < 60 by omega) dX1_define_69 ?_
          refine ig_il C 3 dX1_define_70 rfl ?_
          exact ig_ret C (nar_int _) dX1_define_72 ⟨by unfold sp_define; rw [e]; dsimp only; rw [e2]; dsimp only; rw [e3]; show nI 1 = if a.2.2.2 j s = none then nI 0 else nI 1; rw [if_neg (by rw [hn]; exact fun q => by cases q)], by unfold sp_define; rw [e]; dsimp only; rw [e2]; dsimp only; rw [e3]; exact RM_def (o := some i) hR0 hj hs (fun t q => by cases q; omega)⟩

set_option maxHeartbeats 1000000 in
set_option maxRecDepth 100000 in
theorem mM_undefine (l : Launch) (S : il_S) (a : il_A) (hR : RM a S) (x y : Int32) : ig_Mi GM l yX1_undefine cX1_undefine 4 .int 1 21 [x, y] S (fun r S' => r = (sp_undefine a x y).1 ∧ RM (sp_undefine a x y).2 S') := by
  refine ig_Mi.of GM_ok (by decide) rfl (Nat.le_of_ble_eq_true rfl) (fun X C => ?_)
  rcases il_cases x (n := 6) (by decide) with ⟨h, e⟩ | ⟨h, h6, e⟩ | ⟨j, hj, rfl, e⟩
  · refine ig_this C dX1_undefine_0 ?_
    refine ig_iln C 0 dX1_undefine_1 rfl rfl ?_
    refine ig_calli C kM_isModule (mM_isModule (xl X) S x) rfl rfl ⟨Nat.le_of_ble_eq_true rfl, Nat.le_of_ble_eq_true rfl⟩ (Nat.le_of_ble_eq_true rfl) dX1_undefine_2 (fun r S' hp => ?_)
    obtain ⟨rfl, rfl⟩ := hp
    rw [e]
    refine ig_top (nI (0)) rfl ?_
    refine ig_if_eq_T C 16 dX1_undefine_5 (by decide) (show nI (0) = 0 from by rw [show 0 = 0 by omega]; rfl) ?_
    refine ig_ic C dX1_undefine_16 ki_m1 ?_
    exact ig_ret C (nar_int _) dX1_undefine_17 ⟨by unfold sp_undefine; rw [e], by unfold sp_undefine; rw [e]; exact hR⟩
  · refine ig_this C dX1_undefine_0 ?_
    refine ig_iln C 0 dX1_undefine_1 rfl rfl ?_
    refine ig_calli C kM_isModule (mM_isModule (xl X) S x) rfl rfl ⟨Nat.le_of_ble_eq_true rfl, Nat.le_of_ble_eq_true rfl⟩ (Nat.le_of_ble_eq_true rfl) dX1_undefine_2 (fun r S' hp => ?_)
    obtain ⟨rfl, rfl⟩ := hp
    rw [e]
    refine ig_top (nI (0)) rfl ?_
    refine ig_if_eq_T C 16 dX1_undefine_5 (by decide) (show nI (0) = 0 from by rw [show 0 = 0 by omega]; rfl) ?_
    refine ig_ic C dX1_undefine_16 ki_m1 ?_
    exact ig_ret C (nar_int _) dX1_undefine_17 ⟨by unfold sp_undefine; rw [e], by unfold sp_undefine; rw [e]; exact hR⟩
  · have hR0 := hR
    obtain ⟨hZ, hV, h2, h3, h01⟩ := hR
    rcases il_cases y (n := 10) (by decide) with ⟨h, e2⟩ | ⟨h, h6, e2⟩ | ⟨s, hs, rfl, e2⟩
    · refine ig_this C dX1_undefine_0 ?_
      refine ig_iln C 0 dX1_undefine_1 rfl rfl ?_
      refine ig_calli C kM_isModule (mM_isModule (xl X) S (nI j)) rfl rfl ⟨Nat.le_of_ble_eq_true rfl, Nat.le_of_ble_eq_true rfl⟩ (Nat.le_of_ble_eq_true rfl) dX1_undefine_2 (fun r S' hp => ?_)
      obtain ⟨rfl, rfl⟩ := hp
      rw [e]
      refine ig_top (nI (1)) rfl ?_
      refine ig_if_eq_F C 16 dX1_undefine_5 (by decide) (nI_ne0 (show 0 < 1 by omega) (by omega)) ?_
      refine ig_this C dX1_undefine_8 ?_
      refine ig_iln C 1 dX1_undefine_9 rfl rfl ?_
      refine ig_calli C kM_isName (mM_isName (xl X) S y) rfl rfl ⟨Nat.le_of_ble_eq_true rfl, Nat.le_of_ble_eq_true rfl⟩ (Nat.le_of_ble_eq_true rfl) dX1_undefine_10 (fun r S' hp => ?_)
      obtain ⟨rfl, rfl⟩ := hp
      rw [e2]
      refine ig_top (nI (0)) rfl ?_
      refine ig_if_ne_F C 18 dX1_undefine_13 (by decide) (show nI (0) = 0 from by rw [show 0 = 0 by omega]; rfl) ?_
      refine ig_ic C dX1_undefine_16 ki_m1 ?_
      exact ig_ret C (nar_int _) dX1_undefine_17 ⟨by unfold sp_undefine; rw [e]; dsimp only; rw [e2], by unfold sp_undefine; rw [e]; dsimp only; rw [e2]; exact hR0⟩
    · refine ig_this C dX1_undefine_0 ?_
      refine ig_iln C 0 dX1_undefine_1 rfl rfl ?_
      refine ig_calli C kM_isModule (mM_isModule (xl X) S (nI j)) rfl rfl ⟨Nat.le_of_ble_eq_true rfl, Nat.le_of_ble_eq_true rfl⟩ (Nat.le_of_ble_eq_true rfl) dX1_undefine_2 (fun r S' hp => ?_)
      obtain ⟨rfl, rfl⟩ := hp
      rw [e]
      refine ig_top (nI (1)) rfl ?_
      refine ig_if_eq_F C 16 dX1_undefine_5 (by decide) (nI_ne0 (show 0 < 1 by omega) (by omega)) ?_
      refine ig_this C dX1_undefine_8 ?_
      refine ig_iln C 1 dX1_undefine_9 rfl rfl ?_
      refine ig_calli C kM_isName (mM_isName (xl X) S y) rfl rfl ⟨Nat.le_of_ble_eq_true rfl, Nat.le_of_ble_eq_true rfl⟩ (Nat.le_of_ble_eq_true rfl) dX1_undefine_10 (fun r S' hp => ?_)
      obtain ⟨rfl, rfl⟩ := hp
      rw [e2]
      refine ig_top (nI (0)) rfl ?_
      refine ig_if_ne_F C 18 dX1_undefine_13 (by decide) (show nI (0) = 0 from by rw [show 0 = 0 by omega]; rfl) ?_
      refine ig_ic C dX1_undefine_16 ki_m1 ?_
      exact ig_ret C (nar_int _) dX1_undefine_17 ⟨by unfold sp_undefine; rw [e]; dsimp only; rw [e2], by unfold sp_undefine; rw [e]; dsimp only; rw [e2]; exact hR0⟩
    · refine ig_this C dX1_undefine_0 ?_
      refine ig_iln C 0 dX1_undefine_1 rfl rfl ?_
      refine ig_calli C kM_isModule (mM_isModule (xl X) S (nI j)) rfl rfl ⟨Nat.le_of_ble_eq_true rfl, Nat.le_of_ble_eq_true rfl⟩ (Nat.le_of_ble_eq_true rfl) dX1_undefine_2 (fun r S' hp => ?_)
      obtain ⟨rfl, rfl⟩ := hp
      rw [e]
      refine ig_top (nI (1)) rfl ?_
      refine ig_if_eq_F C 16 dX1_undefine_5 (by decide) (nI_ne0 (show 0 < 1 by omega) (by omega)) ?_
      refine ig_this C dX1_undefine_8 ?_
      refine ig_iln C 1 dX1_undefine_9 rfl rfl ?_
      refine ig_calli C kM_isName (mM_isName (xl X) S (nI s)) rfl rfl ⟨Nat.le_of_ble_eq_true rfl, Nat.le_of_ble_eq_true rfl⟩ (Nat.le_of_ble_eq_true rfl) dX1_undefine_10 (fun r S' hp => ?_)
      obtain ⟨rfl, rfl⟩ := hp
      rw [e2]
      refine ig_top (nI (1)) rfl ?_
      refine ig_if_ne_T C 18 dX1_undefine_13 (by decide) (nI_ne0 (show 0 < 1 by omega) (by omega)) ?_
      refine ig_this C dX1_undefine_18 ?_
      refine ig_get C fM_defined dX1_undefine_19 ?_
      refine ig_bp C dX1_undefine_22 kb_10 ?_
      refine ig_iln C 0 dX1_undefine_24 rfl rfl ?_
      refine ig_imulN C dX1_undefine_25 ?_
      refine ig_iln C 1 dX1_undefine_26 rfl rfl ?_
      refine ig_iaddN C dX1_undefine_27 ?_
      refine ig_ald C 3 rfl (show (10 * j) + s < 60 by omega) (v := oI (a.2.2.2 j s)) (h3 j s hj hs) dX1_undefine_28 ?_
      refine ig_isn C 2 [nI (j), nI (s), oI (a.2.2.2 j s)] dX1_undefine_29 rfl rfl rfl rfl ?_
      refine ig_this C dX1_undefine_30 ?_
      refine ig_get C fM_defined dX1_undefine_31 ?_
      refine ig_bp C dX1_undefine_34 kb_10 ?_
      refine ig_iln C 0 dX1_undefine_36 rfl rfl ?_
      refine ig_imulN C dX1_undefine_37 ?_
      refine ig_iln C 1 dX1_undefine_38 rfl rfl ?_
      refine ig_iaddN C dX1_undefine_39 ?_
      refine ig_bp C dX1_undefine_40 kb_m4 ?_
      refine ig_ast C 3 rfl (show (10 * j) + s < 60 by omega) dX1_undefine_42 ?_
      refine ig_iln C 2 dX1_undefine_43 rfl rfl ?_
      exact ig_ret C (nar_int _) dX1_undefine_44 ⟨by unfold sp_undefine; rw [e]; dsimp only; rw [e2], by unfold sp_undefine; rw [e]; dsimp only; rw [e2]; exact RM_def (o := none) hR0 hj hs (fun t q => by cases q)⟩

set_option maxHeartbeats 1000000 in
set_option maxRecDepth 100000 in
theorem mM_unload_loop {X : il_X} (C : ig_C GM cX1_unload 4 ({ frames := 1, cells := 0, slots := 0, locals := 21 }) (some .int) X) {Q : State → Prop} {S : il_S} {j : Nat} (hj : j < 6) {zz : Int32} (kk : ig_W GM 4 X Q (mapF S 3 (fun _ => -4) (10 * j) (10 * j + 10)) 54 [nI (j), zz, nI (10 * j + 10)] []) :
    ∀ (n t : Nat), t + n = 10 * j + 10 → 10 * j ≤ t → ig_W GM 4 X Q (mapF S 3 (fun _ => -4) (10 * j) t) 29 [nI (j), zz, nI (t)] [] := by
  intro n
  induction n with
  | zero =>
    intro t ht hl
    have ht : t = 10 * j + 10 := by omega
    subst ht
    refine ig_iln C 2 dX1_unload_29 rfl rfl ?_
    refine ig_bp C dX1_unload_30 kb_10 ?_
    refine ig_iln C 0 dX1_unload_32 rfl rfl ?_
    refine ig_imulN C dX1_unload_33 ?_
    refine ig_bp C dX1_unload_34 kb_10 ?_
    refine ig_iaddN C dX1_unload_36 ?_
    refine ig_icmp_ge_T C 54 dX1_unload_37 (by decide) (nI_le (show (10 * j) + 10 ≤ 10 * j + 10 by omega) (by omega)) ?_
    exact kk
  | succ n ih =>
    intro t ht hl
    refine ig_iln C 2 dX1_unload_29 rfl rfl ?_
    refine ig_bp C dX1_unload_30 kb_10 ?_
    refine ig_iln C 0 dX1_unload_32 rfl rfl ?_
    refine ig_imulN C dX1_unload_33 ?_
    refine ig_bp C dX1_unload_34 kb_10 ?_
    refine ig_iaddN C dX1_unload_36 ?_
    refine ig_icmp_ge_F C 54 dX1_unload_37 (by decide) (nI_ge (show t < (10 * j) + 10 by omega) (by omega)) ?_
    refine ig_this C dX1_unload_40 ?_
    refine ig_get C fM_defined dX1_unload_41 ?_
    refine ig_iln C 2 dX1_unload_44 rfl rfl ?_
    refine ig_bp C dX1_unload_45 kb_m4 ?_
    refine ig_ast C 3 rfl (show t < 60 by omega) dX1_unload_47 ?_
    refine ig_st (mapF_s (f := fun _ => -4) hl) ?_
    refine ig_inc C 2 (nI (t + 1)) [nI (j), zz, nI (t + 1)] dX1_unload_48 rfl (il_inc1 _) rfl rfl ?_
    refine ig_goto C 29 dX1_unload_51 (by decide) ?_
    exact ih (t + 1) (by omega) (by omega)
set_option maxHeartbeats 1000000 in
set_option maxRecDepth 100000 in
theorem mM_unload (l : Launch) (S : il_S) (a : il_A) (hR : RM a S) (x : Int32) : ig_Mi GM l yX1_unload cX1_unload 4 .int 1 21 [x] S (fun r S' => r = (sp_unload a x).1 ∧ RM (sp_unload a x).2 S') := by
  refine ig_Mi.of GM_ok (by decide) rfl (Nat.le_of_ble_eq_true rfl) (fun X C => ?_)
  rcases il_cases x (n := 6) (by decide) with ⟨h, e⟩ | ⟨h, h6, e⟩ | ⟨j, hj, rfl, e⟩
  · refine ig_this C dX1_unload_0 ?_
    refine ig_iln C 0 dX1_unload_1 rfl rfl ?_
    refine ig_calli C kM_isModule (mM_isModule (xl X) S x) rfl rfl ⟨Nat.le_of_ble_eq_true rfl, Nat.le_of_ble_eq_true rfl⟩ (Nat.le_of_ble_eq_true rfl) dX1_unload_2 (fun r S' hp => ?_)
    obtain ⟨rfl, rfl⟩ := hp
    rw [e]
    refine ig_top (nI (0)) rfl ?_
    refine ig_if_ne_F C 10 dX1_unload_5 (by decide) (show nI (0) = 0 from by rw [show 0 = 0 by omega]; rfl) ?_
    refine ig_ic C dX1_unload_8 ki_m1 ?_
    exact ig_ret C (nar_int _) dX1_unload_9 ⟨by unfold sp_unload; rw [e], by unfold sp_unload; rw [e]; exact hR⟩
  · refine ig_this C dX1_unload_0 ?_
    refine ig_iln C 0 dX1_unload_1 rfl rfl ?_
    refine ig_calli C kM_isModule (mM_isModule (xl X) S x) rfl rfl ⟨Nat.le_of_ble_eq_true rfl, Nat.le_of_ble_eq_true rfl⟩ (Nat.le_of_ble_eq_true rfl) dX1_unload_2 (fun r S' hp => ?_)
    obtain ⟨rfl, rfl⟩ := hp
    rw [e]
    refine ig_top (nI (0)) rfl ?_
    refine ig_if_ne_F C 10 dX1_unload_5 (by decide) (show nI (0) = 0 from by rw [show 0 = 0 by omega]; rfl) ?_
    refine ig_ic C dX1_unload_8 ki_m1 ?_
    exact ig_ret C (nar_int _) dX1_unload_9 ⟨by unfold sp_unload; rw [e], by unfold sp_unload; rw [e]; exact hR⟩
  · have hR0 := hR
    obtain ⟨hZ, hV, h2, h3, h01⟩ := hR
    refine ig_this C dX1_unload_0 ?_
    refine ig_iln C 0 dX1_unload_1 rfl rfl ?_
    refine ig_calli C kM_isModule (mM_isModule (xl X) S (nI j)) rfl rfl ⟨Nat.le_of_ble_eq_true rfl, Nat.le_of_ble_eq_true rfl⟩ (Nat.le_of_ble_eq_true rfl) dX1_unload_2 (fun r S' hp => ?_)
    obtain ⟨rfl, rfl⟩ := hp
    rw [e]
    refine ig_top (nI (1)) rfl ?_
    refine ig_if_ne_T C 10 dX1_unload_5 (by decide) (nI_ne0 (show 0 < 1 by omega) (by omega)) ?_
    refine ig_this C dX1_unload_10 ?_
    refine ig_get C fM_sizes dX1_unload_11 ?_
    refine ig_iln C 0 dX1_unload_14 rfl rfl ?_
    refine ig_ald C 2 rfl (show j < 6 by omega) (v := nI (a.1 j)) (h2 j (by omega)) dX1_unload_15 ?_
    refine ig_isn C 1 [nI (j), nI (a.1 j)] dX1_unload_16 rfl rfl rfl rfl ?_
    refine ig_this C dX1_unload_17 ?_
    refine ig_get C fM_sizes dX1_unload_18 ?_
    refine ig_iln C 0 dX1_unload_21 rfl rfl ?_
    refine ig_ic C dX1_unload_22 ki_0 ?_
    refine ig_ast C 2 rfl (show j < 6 by omega) dX1_unload_23 ?_
    refine ig_bp C dX1_unload_24 kb_10 ?_
    refine ig_iln C 0 dX1_unload_26 rfl rfl ?_
    refine ig_imulN C dX1_unload_27 ?_
    refine ig_isn C 2 [nI (j), nI (a.1 j), nI (10 * j)] dX1_unload_28 rfl rfl rfl rfl ?_
    refine ig_st (S' := mapF (sU S 2 j (nI 0)) 3 (fun _ => -4) (10 * j) (10 * j)) mapF_0.symm ?_
    refine mM_unload_loop C hj ?_ 10 (10 * j) rfl (Nat.le_refl _)
    refine ig_iln C 1 dX1_unload_54 rfl rfl ?_
    exact ig_ret C (nar_int _) dX1_unload_55 ⟨by unfold sp_unload; rw [e], by unfold sp_unload; rw [e]; exact RM_unl hR0 hj⟩

set_option maxHeartbeats 1000000 in
set_option maxRecDepth 100000 in
theorem mM_insert_sh {X : il_X} (C : ig_C GM cX1_insert 5 ({ frames := 1, cells := 0, slots := 0, locals := 21 }) (some .int) X) {Q : State → Prop} {S : il_S} {j i hi : Nat} (hj : j < 6) (hh : hi < 8 * j + 8) {v : Int32} (kk : ig_W GM 5 X Q (shU S (8 * j + i) hi) 103 [nI (j), nI (i), v, nI (8 * j + i)] []) :
    ∀ (n t : Nat), t = 8 * j + i + n → t ≤ hi → ig_W GM 5 X Q (shU S t hi) 54 [nI (j), nI (i), v, nI (t)] [] := by
  intro n
  induction n with
  | zero =>
    intro t ht hl
    have ht : t = 8 * j + i := by omega
    subst ht
    refine ig_il C 3 dX1_insert_54 rfl ?_
    refine ig_bp C dX1_insert_56 kb_8 ?_
    refine ig_iln C 0 dX1_insert_58 rfl rfl ?_
    refine ig_imulN C dX1_insert_59 ?_
    refine ig_iln C 1 dX1_insert_60 rfl rfl ?_
    refine ig_iaddN C dX1_insert_61 ?_
    refine ig_icmp_le_T C 103 dX1_insert_62 (by decide) (nI_le (show 8 * j + i ≤ (8 * j) + i by omega) (by omega)) ?_
    exact kk
  | succ n ih =>
    intro t ht hl
    obtain ⟨u, rfl⟩ : ∃ u, t = u + 1 := ⟨t - 1, by omega⟩
    refine ig_il C 3 dX1_insert_54 rfl ?_
    refine ig_bp C dX1_insert_56 kb_8 ?_
    refine ig_iln C 0 dX1_insert_58 rfl rfl ?_
    refine ig_imulN C dX1_insert_59 ?_
    refine ig_iln C 1 dX1_insert_60 rfl rfl ?_
    refine ig_iaddN C dX1_insert_61 ?_
    refine ig_icmp_le_F C 103 dX1_insert_62 (by decide) (nI_ge (show (8 * j) + i < u + 1 by omega) (by omega)) ?_
    refine ig_this C dX1_insert_65 ?_
    refine ig_get C fM_names dX1_insert_66 ?_
    refine ig_il C 3 dX1_insert_69 rfl ?_
    refine ig_this C dX1_insert_71 ?_
    refine ig_get C fM_names dX1_insert_72 ?_
    refine ig_il C 3 dX1_insert_75 rfl ?_
    refine ig_ic C dX1_insert_77 ki_1 ?_
    refine ig_isub C dX1_insert_78 ?_
    refine ig_top (nI (u)) (nI_pred u) ?_
    refine ig_ald C 0 rfl (show u < 48 by omega) (v := (S 0 u)) (shU_at (by decide) (by omega)) dX1_insert_79 ?_
    refine ig_ast C 0 rfl (show u + 1 < 48 by omega) dX1_insert_80 ?_
    refine ig_this C dX1_insert_81 ?_
    refine ig_get C fM_numbers dX1_insert_82 ?_
    refine ig_il C 3 dX1_insert_85 rfl ?_
    refine ig_this C dX1_insert_87 ?_
    refine ig_get C fM_numbers dX1_insert_88 ?_
    refine ig_il C 3 dX1_insert_91 rfl ?_
    refine ig_ic C dX1_insert_93 ki_1 ?_
    refine ig_isub C dX1_insert_94 ?_
    refine ig_top (nI (u)) (nI_pred u) ?_
    refine ig_ald C 1 rfl (show u < 48 by omega) (v := (S 1 u)) (by rw [sU_k (by decide)]; exact shU_at (by decide) (by omega)) dX1_insert_95 ?_
    refine ig_ast C 1 rfl (show u + 1 < 48 by omega) dX1_insert_96 ?_
    refine ig_st (shU_s (by omega)) ?_
    refine ig_inc C 3 (nI (u)) [nI (j), nI (i), v, nI (u)] dX1_insert_97 rfl (pk_m1 u) rfl rfl ?_
    refine ig_goto C 54 dX1_insert_100 (by decide) ?_
    exact ih u (by omega) (by omega)
set_option maxHeartbeats 1000000 in
set_option maxRecDepth 100000 in
theorem mM_insert_df {X : il_X} (C : ig_C GM cX1_insert 5 ({ frames := 1, cells := 0, slots := 0, locals := 21 }) (some .int) X) {Q : State → Prop} {S : il_S} {j i : Nat} (hj : j < 6) {v : Int32} (kk : ig_W GM 5 X Q (mapF S 3 (fUp i) (10 * j) (10 * j + 10)) 189 [nI (j), nI (i), v, nI (10 * j + 10)] []) :
    ∀ (n t : Nat), t + n = 10 * j + 10 → 10 * j ≤ t → ig_W GM 5 X Q (mapF S 3 (fUp i) (10 * j) t) 134 [nI (j), nI (i), v, nI (t)] [] := by
  intro n
  induction n with
  | zero =>
    intro t ht hl
    have ht : t = 10 * j + 10 := by omega
    subst ht
    refine ig_il C 3 dX1_insert_134 rfl ?_
    refine ig_bp C dX1_insert_136 kb_10 ?_
    refine ig_iln C 0 dX1_insert_138 rfl rfl ?_
    refine ig_imulN C dX1_insert_139 ?_
    refine ig_bp C dX1_insert_140 kb_10 ?_
    refine ig_iaddN C dX1_insert_142 ?_
    refine ig_icmp_ge_T C 189 dX1_insert_143 (by decide) (nI_le (show (10 * j) + 10 ≤ 10 * j + 10 by omega) (by omega)) ?_
    exact kk
  | succ n ih =>
    intro t ht hl
    have hst : sU (mapF S 3 (fUp i) (10 * j) t) 3 t (fUp i (S 3 t)) = _ := mapF_s hl
    by_cases hc : S 3 t < nI i
    · have hf : fUp i (S 3 t) = S 3 t := if_pos hc
      rw [hf] at hst
      refine ig_il C 3 dX1_insert_134 rfl ?_
      refine ig_bp C dX1_insert_136 kb_10 ?_
      refine ig_iln C 0 dX1_insert_138 rfl rfl ?_
      refine ig_imulN C dX1_insert_139 ?_
      refine ig_bp C dX1_insert_140 kb_10 ?_
      refine ig_iaddN C dX1_insert_142 ?_
      refine ig_icmp_ge_F C 189 dX1_insert_143 (by decide) (nI_ge (show t < (10 * j) + 10 by omega) (by omega)) ?_
      refine ig_this C dX1_insert_146 ?_
      refine ig_get C fM_defined dX1_insert_147 ?_
      refine ig_il C 3 dX1_insert_150 rfl ?_
      refine ig_this C dX1_insert_152 ?_
      refine ig_get C fM_defined dX1_insert_153 ?_
      refine ig_il C 3 dX1_insert_156 rfl ?_
      refine ig_ald C 3 rfl (show t < 60 by omega) (v := (S 3 t)) (mapF_n (Nat.le_refl t)) dX1_insert_158 ?_
      refine ig_iln C 1 dX1_insert_159 rfl rfl ?_
      refine ig_icmp_lt_T C 175 dX1_insert_160 (by decide) hc ?_
      refine ig_this C dX1_insert_175 ?_
      refine ig_get C fM_defined dX1_insert_176 ?_
      refine ig_il C 3 dX1_insert_179 rfl ?_
      refine ig_ald C 3 rfl (show t < 60 by omega) (v := (S 3 t)) (mapF_n (Nat.le_refl t)) dX1_insert_181 ?_
      refine ig_ast C 3 rfl (show t < 60 by omega) dX1_insert_182 ?_
      refine ig_st hst ?_
      refine ig_inc C 3 (nI (t + 1)) [nI (j), nI (i), v, nI (t + 1)] dX1_insert_183 rfl (il_inc1 _) rfl rfl ?_
      refine ig_goto C 134 dX1_insert_186 (by decide) ?_
      exact ih (t + 1) (by omega) (by omega)
    · have hf : fUp i (S 3 t) = S 3 t + nI 1 := if_neg hc
      rw [hf] at hst
      refine ig_il C 3 dX1_insert_134 rfl ?_
      refine ig_bp C dX1_insert_136 kb_10 ?_
      refine ig_iln C 0 dX1_insert_138 rfl rfl ?_
      refine ig_imulN C dX1_insert_139 ?_
      refine ig_bp C dX1_insert_140 kb_10 ?_
      refine ig_iaddN C dX1_insert_142 ?_
      refine ig_icmp_ge_F C 189 dX1_insert_143 (by decide) (nI_ge (show t < (10 * j) + 10 by omega) (by omega)) ?_
      refine ig_this C dX1_insert_146 ?_
      refine ig_get C fM_defined dX1_insert_147 ?_
      refine ig_il C 3 dX1_insert_150 rfl ?_
      refine ig_this C dX1_insert_152 ?_
      refine ig_get C fM_defined dX1_insert_153 ?_
      refine ig_il C 3 dX1_insert_156 rfl ?_
      refine ig_ald C 3 rfl (show t < 60 by omega) (v := (S 3 t)) (mapF_n (Nat.le_refl t)) dX1_insert_158 ?_
      refine ig_iln C 1 dX1_insert_159 rfl rfl ?_
      refine ig_icmp_lt_F C 175 dX1_insert_160 (by decide) hc ?_
      refine ig_this C dX1_insert_163 ?_
      refine ig_get C fM_defined dX1_insert_164 ?_
      refine ig_il C 3 dX1_insert_167 rfl ?_
      refine ig_ald C 3 rfl (show t < 60 by omega) (v := (S 3 t)) (mapF_n (Nat.le_refl t)) dX1_insert_169 ?_
      refine ig_ic C dX1_insert_170 ki_1 ?_
      refine ig_iadd C dX1_insert_171 ?_
      refine ig_goto C 182 dX1_insert_172 (by decide) ?_
      refine ig_ast C 3 rfl (show t < 60 by omega) dX1_insert_182 ?_
      refine ig_st hst ?_
      refine ig_inc C 3 (nI (t + 1)) [nI (j), nI (i), v, nI (t + 1)] dX1_insert_183 rfl (il_inc1 _) rfl rfl ?_
      refine ig_goto C 134 dX1_insert_186 (by decide) ?_
      exact ih (t + 1) (by omega) (by omega)
set_option maxHeartbeats 1000000 in
set_option maxRecDepth 100000 in
theorem mM_insert (l : Launch) (S : il_S) (a : il_A) (hR : RM a S) (x y v : Int32) : ig_Mi GM l yX1_insert cX1_insert 5 .int 1 21 [x, y, v] S (fun r S' => r = (sp_insert a x y v).1 ∧ RM (sp_insert a x y v).2 S') := by
  refine ig_Mi.of GM_ok (by decide) rfl (Nat.le_of_ble_eq_true rfl) (fun X C => ?_)
  rcases il_cases x (n := 6) (by decide) with ⟨h, e⟩ | ⟨h, h6, e⟩ | ⟨j, hj, rfl, e⟩
  · refine ig_this C dX1_insert_0 ?_
    refine ig_iln C 0 dX1_insert_1 rfl rfl ?_
    refine ig_calli C kM_isModule (mM_isModule (xl X) S x) rfl rfl ⟨Nat.le_of_ble_eq_true rfl, Nat.le_of_ble_eq_true rfl⟩ (Nat.le_of_ble_eq_true rfl) dX1_insert_2 (fun r S' hp => ?_)
    obtain ⟨rfl, rfl⟩ := hp
    rw [e]
    refine ig_top (nI (0)) rfl ?_
    refine ig_if_ne_F C 10 dX1_insert_5 (by decide) (show nI (0) = 0 from by rw [show 0 = 0 by omega]; rfl) ?_
    refine ig_ic C dX1_insert_8 ki_m1 ?_
    exact ig_ret C (nar_int _) dX1_insert_9 ⟨by unfold sp_insert; rw [e], by unfold sp_insert; rw [e]; exact hR⟩
  · refine ig_this C dX1_insert_0 ?_
    refine ig_iln C 0 dX1_insert_1 rfl rfl ?_
    refine ig_calli C kM_isModule (mM_isModule (xl X) S x) rfl rfl ⟨Nat.le_of_ble_eq_true rfl, Nat.le_of_ble_eq_true rfl⟩ (Nat.le_of_ble_eq_true rfl) dX1_insert_2 (fun r S' hp => ?_)
    obtain ⟨rfl, rfl⟩ := hp
    rw [e]
    refine ig_top (nI (0)) rfl ?_
    refine ig_if_ne_F C 10 dX1_insert_5 (by decide) (show nI (0) = 0 from by rw [show 0 = 0 by omega]; rfl) ?_
    refine ig_ic C dX1_insert_8 ki_m1 ?_
    exact ig_ret C (nar_int _) dX1_insert_9 ⟨by unfold sp_insert; rw [e], by unfold sp_insert; rw [e]; exact hR⟩
  · have hR0 := hR
    obtain ⟨hZ, hV, h2, h3, h01⟩ := hR
    have hz8 := hZ.1 j hj
    rcases il_cases y (n := a.1 j + 1) (by omega) with ⟨h, e2⟩ | ⟨h, h6, e2⟩ | ⟨i, hi, rfl, e2⟩
    · refine ig_this C dX1_insert_0 ?_
      refine ig_iln C 0 dX1_insert_1 rfl rfl ?_
      refine ig_calli C kM_isModule (mM_isModule (xl X) S (nI j)) rfl rfl ⟨Nat.le_of_ble_eq_true rfl, Nat.le_of_ble_eq_true rfl⟩ (Nat.le_of_ble_eq_true rfl) dX1_insert_2 (fun r S' hp => ?_)
      obtain ⟨rfl, rfl⟩ := hp
      rw [e]
      refine ig_top (nI (1)) rfl ?_
      refine ig_if_ne_T C 10 dX1_insert_5 (by decide) (nI_ne0 (show 0 < 1 by omega) (by omega)) ?_
      refine ig_iln C 1 dX1_insert_10 rfl rfl ?_
      refine ig_if_lt_T C 24 dX1_insert_11 (by decide) h ?_
      refine ig_bp C dX1_insert_24 kb_m4 ?_
      exact ig_ret C (nar_int _) dX1_insert_26 ⟨by unfold sp_insert; rw [e]; dsimp only; rw [e2], by unfold sp_insert; rw [e]; dsimp only; rw [e2]; exact hR0⟩
    · refine ig_this C dX1_insert_0 ?_
      refine ig_iln C 0 dX1_insert_1 rfl rfl ?_
      refine ig_calli C kM_isModule (mM_isModule (xl X) S (nI j)) rfl rfl ⟨Nat.le_of_ble_eq_true rfl, Nat.le_of_ble_eq_true rfl⟩ (Nat.le_of_ble_eq_true rfl) dX1_insert_2 (fun r S' hp => ?_)
      obtain ⟨rfl, rfl⟩ := hp
      rw [e]
      refine ig_top (nI (1)) rfl ?_
      refine ig_if_ne_T C 10 dX1_insert_5 (by decide) (nI_ne0 (show 0 < 1 by omega) (by omega)) ?_
      refine ig_iln C 1 dX1_insert_10 rfl rfl ?_
      refine ig_if_lt_F C 24 dX1_insert_11 (by decide) h ?_
      refine ig_iln C 1 dX1_insert_14 rfl rfl ?_
      refine ig_this C dX1_insert_15 ?_
      refine ig_get C fM_sizes dX1_insert_16 ?_
      refine ig_iln C 0 dX1_insert_19 rfl rfl ?_
      refine ig_ald C 2 rfl (show j < 6 by omega) (v := nI (a.1 j)) (h2 j (by omega)) dX1_insert_20 ?_
      refine ig_icmp_le_F C 27 dX1_insert_21 (by decide) (il_nle (show a.1 j < a.1 j + 1 by omega) (by omega) h6) ?_
      refine ig_bp C dX1_insert_24 kb_m4 ?_
      exact ig_ret C (nar_int _) dX1_insert_26 ⟨by unfold sp_insert; rw [e]; dsimp only; rw [e2], by unfold sp_insert; rw [e]; dsimp only; rw [e2]; exact hR0⟩
    · by_cases h8 : a.1 j = 8
      · refine ig_this C dX1_insert_0 ?_
        refine ig_iln C 0 dX1_insert_1 rfl rfl ?_
        refine ig_calli C kM_isModule (mM_isModule (xl X) S (nI j)) rfl rfl ⟨Nat.le_of_ble_eq_true rfl, Nat.le_of_ble_eq_true rfl⟩ (Nat.le_of_ble_eq_true rfl) dX1_insert_2 (fun r S' hp => ?_)
        obtain ⟨rfl, rfl⟩ := hp
        rw [e]
        refine ig_top (nI (1)) rfl ?_
        refine ig_if_ne_T C 10 dX1_insert_5 (by decide) (nI_ne0 (show 0 < 1 by omega) (by omega)) ?_
        refine ig_iln C 1 dX1_insert_10 rfl rfl ?_
        refine ig_if_lt_F C 24 dX1_insert_11 (by decide) (nI_pos (show i < 2 ^ 31 by omega)) ?_
        refine ig_iln C 1 dX1_insert_14 rfl rfl ?_
        refine ig_this C dX1_insert_15 ?_
        refine ig_get C fM_sizes dX1_insert_16 ?_
        refine ig_iln C 0 dX1_insert_19 rfl rfl ?_
        refine ig_ald C 2 rfl (show j < 6 by omega) (v := nI (a.1 j)) (h2 j (by omega)) dX1_insert_20 ?_
        refine ig_icmp_le_T C 27 dX1_insert_21 (by decide) (nI_le (show i ≤ a.1 j by omega) (by omega)) ?_
        refine ig_this C dX1_insert_27 ?_
        refine ig_get C fM_sizes dX1_insert_28 ?_
        refine ig_iln C 0 dX1_insert_31 rfl rfl ?_
        refine ig_ald C 2 rfl (show j < 6 by omega) (v := nI (a.1 j)) (h2 j (by omega)) dX1_insert_32 ?_
        refine ig_bp C dX1_insert_33 kb_8 ?_
        refine ig_icmp_ne_F C 41 dX1_insert_35 (by decide) (congrArg nI (show a.1 j = 8 by omega)) ?_
        refine ig_bp C dX1_insert_38 kb_m2 ?_
        exact ig_ret C (nar_int _) dX1_insert_40 ⟨by unfold sp_insert; rw [e]; dsimp only; rw [e2]; dsimp only; rw [if_pos h8], by unfold sp_insert; rw [e]; dsimp only; rw [e2]; dsimp only; rw [if_pos h8]; exact hR0⟩
      · refine ig_this C dX1_insert_0 ?_
        refine ig_iln C 0 dX1_insert_1 rfl rfl ?_
        refine ig_calli C kM_isModule (mM_isModule (xl X) S (nI j)) rfl rfl ⟨Nat.le_of_ble_eq_true rfl, Nat.le_of_ble_eq_true rfl⟩ (Nat.le_of_ble_eq_true rfl) dX1_insert_2 (fun r S' hp => ?_)
        obtain ⟨rfl, rfl⟩ := hp
        rw [e]
        refine ig_top (nI (1)) rfl ?_
        refine ig_if_ne_T C 10 dX1_insert_5 (by decide) (nI_ne0 (show 0 < 1 by omega) (by omega)) ?_
        refine ig_iln C 1 dX1_insert_10 rfl rfl ?_
        refine ig_if_lt_F C 24 dX1_insert_11 (by decide) (nI_pos (show i < 2 ^ 31 by omega)) ?_
        refine ig_iln C 1 dX1_insert_14 rfl rfl ?_
        refine ig_this C dX1_insert_15 ?_
        refine ig_get C fM_sizes dX1_insert_16 ?_
        refine ig_iln C 0 dX1_insert_19 rfl rfl ?_
        refine ig_ald C 2 rfl (show j < 6 by omega) (v := nI (a.1 j)) (h2 j (by omega)) dX1_insert_20 ?_
        refine ig_icmp_le_T C 27 dX1_insert_21 (by decide) (nI_le (show i ≤ a.1 j by omega) (by omega)) ?_
        refine ig_this C dX1_insert_27 ?_
        refine ig_get C fM_sizes dX1_insert_28 ?_
        refine ig_iln C 0 dX1_insert_31 rfl rfl ?_
        refine ig_ald C 2 rfl (show j < 6 by omega) (v := nI (a.1 j)) (h2 j (by omega)) dX1_insert_32 ?_
        refine ig_bp C dX1_insert_33 kb_8 ?_
        refine ig_icmp_ne_T C 41 dX1_insert_35 (by decide) (fun q => absurd ((nI_eq (by omega) (by omega)).mp q) (show ¬ a.1 j = 8 by omega)) ?_
        refine ig_bp C dX1_insert_41 kb_8 ?_
        refine ig_iln C 0 dX1_insert_43 rfl rfl ?_
        refine ig_imulN C dX1_insert_44 ?_
        refine ig_this C dX1_insert_45 ?_
        refine ig_get C fM_sizes dX1_insert_46 ?_
        refine ig_iln C 0 dX1_insert_49 rfl rfl ?_
        refine ig_ald C 2 rfl (show j < 6 by omega) (v := nI (a.1 j)) (h2 j (by omega)) dX1_insert_50 ?_
        refine ig_iaddN C dX1_insert_51 ?_
        refine ig_is C 3 [nI (j), nI (i), v, nI ((8 * j) + (a.1 j))] dX1_insert_52 rfl rfl rfl ?_
        refine ig_st (S' := shU S (8 * j + a.1 j) (8 * j + a.1 j)) shU_0.symm ?_
        refine mM_insert_sh (i := i) C hj (by omega) ?_ (a.1 j - i) _ (by omega) (Nat.le_refl _)
        refine ig_this C dX1_insert_103 ?_
        refine ig_get C fM_names dX1_insert_104 ?_
        refine ig_bp C dX1_insert_107 kb_8 ?_
        refine ig_iln C 0 dX1_insert_109 rfl rfl ?_
        refine ig_imulN C dX1_insert_110 ?_
        refine ig_iln C 1 dX1_insert_111 rfl rfl ?_
        refine ig_iaddN C dX1_insert_112 ?_
        refine ig_bp C dX1_insert_113 kb_m4 ?_
        refine ig_ast C 0 rfl (show (8 * j) + i < 48 by omega) dX1_insert_115 ?_
        refine ig_this C dX1_insert_116 ?_
        refine ig_get C fM_numbers dX1_insert_117 ?_
        refine ig_bp C dX1_insert_120 kb_8 ?_
        refine ig_iln C 0 dX1_insert_122 rfl rfl ?_
        refine ig_imulN C dX1_insert_123 ?_
        refine ig_iln C 1 dX1_insert_124 rfl rfl ?_
        refine ig_iaddN C dX1_insert_125 ?_
        refine ig_iln C 2 dX1_insert_126 rfl rfl ?_
        refine ig_ast C 1 rfl (show (8 * j) + i < 48 by omega) dX1_insert_127 ?_
        refine ig_bp C dX1_insert_128 kb_10 ?_
        refine ig_iln C 0 dX1_insert_130 rfl rfl ?_
        refine ig_imulN C dX1_insert_131 ?_
        refine ig_is C 3 [nI (j), nI (i), v, nI (10 * j)] dX1_insert_132 rfl rfl rfl ?_
        refine ig_st (mapF_0 (k := 3) (lo := 10 * j) (f := fUp i)).symm ?_
        refine mM_insert_df C hj ?_ 10 (10 * j) rfl (Nat.le_refl _)
        refine ig_this C dX1_insert_189 ?_
        refine ig_get C fM_sizes dX1_insert_190 ?_
        refine ig_iln C 0 dX1_insert_193 rfl rfl ?_
        refine ig_dup2 C dX1_insert_194 ?_
        refine ig_ald C 2 rfl (show j < 6 by omega) (v := nI (a.1 j)) (by rw [mapF_k (by decide), sU_k (by decide), sU_k (by decide), shU_2 (by decide)]; exact h2 j hj) dX1_insert_195 ?_
        refine ig_ic C dX1_insert_196 ki_1 ?_
        refine ig_iaddN C dX1_insert_197 ?_
        refine ig_ast C 2 rfl (show j < 6 by omega) dX1_insert_198 ?_
        refine ig_this C dX1_insert_199 ?_
        refine ig_get C fM_sizes dX1_insert_200 ?_
        refine ig_iln C 0 dX1_insert_203 rfl rfl ?_
        refine ig_ald C 2 rfl (show j < 6 by omega) (v := nI (a.1 j + 1)) sU_s dX1_insert_204 ?_
        exact ig_ret C (nar_int _) dX1_insert_205 ⟨by unfold sp_insert; rw [e]; dsimp only; rw [e2]; dsimp only; rw [if_neg h8], by unfold sp_insert; rw [e]; dsimp only; rw [e2]; dsimp only; rw [if_neg h8]; exact RM_ins hR0 hj (by omega) (by omega)⟩

set_option maxHeartbeats 1000000 in
set_option maxRecDepth 100000 in
theorem mM_delete_sh {X : il_X} (C : ig_C GM cX1_delete 4 ({ frames := 1, cells := 0, slots := 0, locals := 22 }) (some .int) X) {Q : State → Prop} {S : il_S} {j i z : Nat} (hj : j < 6) (hz : z < 8) (hS : S 2 j = nI z) (hi : i ≤ z) (kk : ig_W GM 4 X Q (shD S (8 * j + i) (8 * j + z)) 88 [nI (j), nI (i), nI (8 * j + z)] []) :
    ∀ (n t : Nat), t + n = 8 * j + z → 8 * j + i ≤ t → ig_W GM 4 X Q (shD S (8 * j + i) t) 39 [nI (j), nI (i), nI (t)] [] := by
  intro n
  induction n with
  | zero =>
    intro t ht hl
    have ht : t = 8 * j + z := by omega
    subst ht
    refine ig_iln C 2 dX1_delete_39 rfl rfl ?_
    refine ig_bp C dX1_delete_40 kb_8 ?_
    refine ig_iln C 0 dX1_delete_42 rfl rfl ?_
    refine ig_imulN C dX1_delete_43 ?_
    refine ig_this C dX1_delete_44 ?_
    refine ig_get C fM_sizes dX1_delete_45 ?_
    refine ig_iln C 0 dX1_delete_48 rfl rfl ?_
    refine ig_ald C 2 rfl (show j < 6 by omega) (v := nI (z)) (by rw [shD_2 (by decide)]; exact hS) dX1_delete_49 ?_
    refine ig_iaddN C dX1_delete_50 ?_
    refine ig_icmp_ge_T C 88 dX1_delete_51 (by decide) (nI_le (show (8 * j) + z ≤ 8 * j + z by omega) (by omega)) ?_
    exact kk
  | succ n ih =>
    intro t ht hl
    refine ig_iln C 2 dX1_delete_39 rfl rfl ?_
    refine ig_bp C dX1_delete_40 kb_8 ?_
    refine ig_iln C 0 dX1_delete_42 rfl rfl ?_
    refine ig_imulN C dX1_delete_43 ?_
    refine ig_this C dX1_delete_44 ?_
    refine ig_get C fM_sizes dX1_delete_45 ?_
    refine ig_iln C 0 dX1_delete_48 rfl rfl ?_
    refine ig_ald C 2 rfl (show j < 6 by omega) (v := nI (z)) (by rw [shD_2 (by decide)]; exact hS) dX1_delete_49 ?_
    refine ig_iaddN C dX1_delete_50 ?_
    refine ig_icmp_ge_F C 88 dX1_delete_51 (by decide) (nI_ge (show t < (8 * j) + z by omega) (by omega)) ?_
    refine ig_this C dX1_delete_54 ?_
    refine ig_get C fM_names dX1_delete_55 ?_
    refine ig_iln C 2 dX1_delete_58 rfl rfl ?_
    refine ig_this C dX1_delete_59 ?_
    refine ig_get C fM_names dX1_delete_60 ?_
    refine ig_iln C 2 dX1_delete_63 rfl rfl ?_
    refine ig_ic C dX1_delete_64 ki_1 ?_
    refine ig_iaddN C dX1_delete_65 ?_
    refine ig_ald C 0 rfl (show t + 1 < 48 by omega) (v := (S 0 (t + 1))) (shD_at (by decide) (by omega)) dX1_delete_66 ?_
    refine ig_ast C 0 rfl (show t < 48 by omega) dX1_delete_67 ?_
    refine ig_this C dX1_delete_68 ?_
    refine ig_get C fM_numbers dX1_delete_69 ?_
    refine ig_iln C 2 dX1_delete_72 rfl rfl ?_
    refine ig_this C dX1_delete_73 ?_
    refine ig_get C fM_numbers dX1_delete_74 ?_
    refine ig_iln C 2 dX1_delete_77 rfl rfl ?_
    refine ig_ic C dX1_delete_78 ki_1 ?_
    refine ig_iaddN C dX1_delete_79 ?_
    refine ig_ald C 1 rfl (show t + 1 < 48 by omega) (v := (S 1 (t + 1))) (by rw [sU_k (by decide)]; exact shD_at (by decide) (by omega)) dX1_delete_80 ?_
    refine ig_ast C 1 rfl (show t < 48 by omega) dX1_delete_81 ?_
    refine ig_st (shD_s hl) ?_
    refine ig_inc C 2 (nI (t + 1)) [nI (j), nI (i), nI (t + 1)] dX1_delete_82 rfl (il_inc1 _) rfl rfl ?_
    refine ig_goto C 39 dX1_delete_85 (by decide) ?_
    exact ih (t + 1) (by omega) (by omega)
set_option maxHeartbeats 1000000 in
set_option maxRecDepth 100000 in
theorem mM_delete_df {X : il_X} (C : ig_C GM cX1_delete 4 ({ frames := 1, cells := 0, slots := 0, locals := 22 }) (some .int) X) {Q : State → Prop} {S : il_S} {j i : Nat} (hj : j < 6) (kk : ig_W GM 4 X Q (mapF S 3 (fDn i) (10 * j) (10 * j + 10)) 143 [nI (j), nI (i), nI (10 * j + 10)] []) :
    ∀ (n t : Nat), t + n = 10 * j + 10 → 10 * j ≤ t → ig_W GM 4 X Q (mapF S 3 (fDn i) (10 * j) t) 93 [nI (j), nI (i), nI (t)] [] := by
  intro n
  induction n with
  | zero =>
    intro t ht hl
    have ht : t = 10 * j + 10 := by omega
    subst ht
    refine ig_iln C 2 dX1_delete_93 rfl rfl ?_
    refine ig_bp C dX1_delete_94 kb_10 ?_
    refine ig_iln C 0 dX1_delete_96 rfl rfl ?_
    refine ig_imulN C dX1_delete_97 ?_
    refine ig_bp C dX1_delete_98 kb_10 ?_
    refine ig_iaddN C dX1_delete_100 ?_
    refine ig_icmp_ge_T C 143 dX1_delete_101 (by decide) (nI_le (show (10 * j) + 10 ≤ 10 * j + 10 by omega) (by omega)) ?_
    exact kk
  | succ n ih =>
    intro t ht hl
    have hst : sU (mapF S 3 (fDn i) (10 * j) t) 3 t (fDn i (S 3 t)) = _ := mapF_s hl
    by_cases hc : S 3 t ≤ nI i
    · have hf : fDn i (S 3 t) = S 3 t := if_pos hc
      rw [hf] at hst
      refine ig_iln C 2 dX1_delete_93 rfl rfl ?_
      refine ig_bp C dX1_delete_94 kb_10 ?_
      refine ig_iln C 0 dX1_delete_96 rfl rfl ?_
      refine ig_imulN C dX1_delete_97 ?_
      refine ig_bp C dX1_delete_98 kb_10 ?_
      refine ig_iaddN C dX1_delete_100 ?_
      refine ig_icmp_ge_F C 143 dX1_delete_101 (by decide) (nI_ge (show t < (10 * j) + 10 by omega) (by omega)) ?_
      refine ig_this C dX1_delete_104 ?_
      refine ig_get C fM_defined dX1_delete_105 ?_
      refine ig_iln C 2 dX1_delete_108 rfl rfl ?_
      refine ig_this C dX1_delete_109 ?_
      refine ig_get C fM_defined dX1_delete_110 ?_
      refine ig_iln C 2 dX1_delete_113 rfl rfl ?_
      refine ig_ald C 3 rfl (show t < 60 by omega) (v := (S 3 t)) (mapF_n (Nat.le_refl t)) dX1_delete_114 ?_
      refine ig_iln C 1 dX1_delete_115 rfl rfl ?_
      refine ig_icmp_le_T C 130 dX1_delete_116 (by decide) hc ?_
      refine ig_this C dX1_delete_130 ?_
      refine ig_get C fM_defined dX1_delete_131 ?_
      refine ig_iln C 2 dX1_delete_134 rfl rfl ?_
      refine ig_ald C 3 rfl (show t < 60 by omega) (v := (S 3 t)) (mapF_n (Nat.le_refl t)) dX1_delete_135 ?_
      refine ig_ast C 3 rfl (show t < 60 by omega) dX1_delete_136 ?_
      refine ig_st hst ?_
      refine ig_inc C 2 (nI (t + 1)) [nI (j), nI (i), nI (t + 1)] dX1_delete_137 rfl (il_inc1 _) rfl rfl ?_
      refine ig_goto C 93 dX1_delete_140 (by decide) ?_
      exact ih (t + 1) (by omega) (by omega)
    · have hf : fDn i (S 3 t) = S 3 t - nI 1 := if_neg hc
      rw [hf] at hst
      refine ig_iln C 2 dX1_delete_93 rfl rfl ?_
      refine ig_bp C dX1_delete_94 kb_10 ?_
      refine ig_iln C 0 dX1_delete_96 rfl rfl ?_
      refine ig_imulN C dX1_delete_97 ?_
      refine ig_bp C dX1_delete_98 kb_10 ?_
      refine ig_iaddN C dX1_delete_100 ?_
      refine ig_icmp_ge_F C 143 dX1_delete_101 (by decide) (nI_ge (show t < (10 * j) + 10 by omega) (by omega)) ?_
      refine ig_this C dX1_delete_104 ?_
      refine ig_get C fM_defined dX1_delete_105 ?_
      refine ig_iln C 2 dX1_delete_108 rfl rfl ?_
      refine ig_this C dX1_delete_109 ?_
      refine ig_get C fM_defined dX1_delete_110 ?_
      refine ig_iln C 2 dX1_delete_113 rfl rfl ?_
      refine ig_ald C 3 rfl (show t < 60 by omega) (v := (S 3 t)) (mapF_n (Nat.le_refl t)) dX1_delete_114 ?_
      refine ig_iln C 1 dX1_delete_115 rfl rfl ?_
      refine ig_icmp_le_F C 130 dX1_delete_116 (by decide) hc ?_
      refine ig_this C dX1_delete_119 ?_
      refine ig_get C fM_defined dX1_delete_120 ?_
      refine ig_iln C 2 dX1_delete_123 rfl rfl ?_
      refine ig_ald C 3 rfl (show t < 60 by omega) (v := (S 3 t)) (mapF_n (Nat.le_refl t)) dX1_delete_124 ?_
      refine ig_ic C dX1_delete_125 ki_1 ?_
      refine ig_isub C dX1_delete_126 ?_
      refine ig_goto C 136 dX1_delete_127 (by decide) ?_
      refine ig_ast C 3 rfl (show t < 60 by omega) dX1_delete_136 ?_
      refine ig_st hst ?_
      refine ig_inc C 2 (nI (t + 1)) [nI (j), nI (i), nI (t + 1)] dX1_delete_137 rfl (il_inc1 _) rfl rfl ?_
      refine ig_goto C 93 dX1_delete_140 (by decide) ?_
      exact ih (t + 1) (by omega) (by omega)
set_option maxHeartbeats 1000000 in
set_option maxRecDepth 100000 in
theorem mM_delete (l : Launch) (S : il_S) (a : il_A) (hR : RM a S) (x y : Int32) : ig_Mi GM l yX1_delete cX1_delete 4 .int 1 22 [x, y] S (fun r S' => r = (sp_delete a x y).1 ∧ RM (sp_delete a x y).2 S') := by
  refine ig_Mi.of GM_ok (by decide) rfl (Nat.le_of_ble_eq_true rfl) (fun X C => ?_)
  rcases il_cases x (n := 6) (by decide) with ⟨h, e⟩ | ⟨h, h6, e⟩ | ⟨j, hj, rfl, e⟩
  · refine ig_this C dX1_delete_0 ?_
    refine ig_iln C 0 dX1_delete_1 rfl rfl ?_
    refine ig_calli C kM_isModule (mM_isModule (xl X) S x) rfl rfl ⟨Nat.le_of_ble_eq_true rfl, Nat.le_of_ble_eq_true rfl⟩ (Nat.le_of_ble_eq_true rfl) dX1_delete_2 (fun r S' hp => ?_)
    obtain ⟨rfl, rfl⟩ := hp
    rw [e]
    refine ig_top (nI (0)) rfl ?_
    refine ig_if_ne_F C 10 dX1_delete_5 (by decide) (show nI (0) = 0 from by rw [show 0 = 0 by omega]; rfl) ?_
    refine ig_ic C dX1_delete_8 ki_m1 ?_
    exact ig_ret C (nar_int _) dX1_delete_9 ⟨by unfold sp_delete; rw [e], by unfold sp_delete; rw [e]; exact hR⟩
  · refine ig_this C dX1_delete_0 ?_
    refine ig_iln C 0 dX1_delete_1 rfl rfl ?_
    refine ig_calli C kM_isModule (mM_isModule (xl X) S x) rfl rfl ⟨Nat.le_of_ble_eq_true rfl, Nat.le_of_ble_eq_true rfl⟩ (Nat.le_of_ble_eq_true rfl) dX1_delete_2 (fun r S' hp => ?_)
    obtain ⟨rfl, rfl⟩ := hp
    rw [e]
    refine ig_top (nI (0)) rfl ?_
    refine ig_if_ne_F C 10 dX1_delete_5 (by decide) (show nI (0) = 0 from by rw [show 0 = 0 by omega]; rfl) ?_
    refine ig_ic C dX1_delete_8 ki_m1 ?_
    exact ig_ret C (nar_int _) dX1_delete_9 ⟨by unfold sp_delete; rw [e], by unfold sp_delete; rw [e]; exact hR⟩
  · have hR0 := hR
    obtain ⟨hZ, hV, h2, h3, h01⟩ := hR
    have hz8 := hZ.1 j hj
    rcases il_cases y (n := a.1 j) (by omega) with ⟨h, e2⟩ | ⟨h, h6, e2⟩ | ⟨i, hi, rfl, e2⟩
    · refine ig_this C dX1_delete_0 ?_
      refine ig_iln C 0 dX1_delete_1 rfl rfl ?_
      refine ig_calli C kM_isModule (mM_isModule (xl X) S (nI j)) rfl rfl ⟨Nat.le_of_ble_eq_true rfl, Nat.le_of_ble_eq_true rfl⟩ (Nat.le_of_ble_eq_true rfl) dX1_delete_2 (fun r S' hp => ?_)
      obtain ⟨rfl, rfl⟩ := hp
      rw [e]
      refine ig_top (nI (1)) rfl ?_
      refine ig_if_ne_T C 10 dX1_delete_5 (by decide) (nI_ne0 (show 0 < 1 by omega) (by omega)) ?_
      refine ig_this C dX1_delete_10 ?_
      refine ig_iln C 0 dX1_delete_11 rfl rfl ?_
      refine ig_iln C 1 dX1_delete_12 rfl rfl ?_
      refine ig_calli C kM_isWord (mM_isWord (xl X) S a hR0 j hj y) rfl rfl ⟨Nat.le_of_ble_eq_true rfl, Nat.le_of_ble_eq_true rfl⟩ (Nat.le_of_ble_eq_true rfl) dX1_delete_13 (fun r S' hp => ?_)
      obtain ⟨rfl, rfl⟩ := hp
      rw [e2]
      refine ig_top (nI (0)) rfl ?_
      refine ig_if_ne_F C 22 dX1_delete_16 (by decide) (show nI (0) = 0 from by rw [show 0 = 0 by omega]; rfl) ?_
      refine ig_bp C dX1_delete_19 kb_m4 ?_
      exact ig_ret C (nar_int _) dX1_delete_21 ⟨by unfold sp_delete; rw [e]; dsimp only; rw [e2], by unfold sp_delete; rw [e]; dsimp only; rw [e2]; exact hR0⟩
    · refine ig_this C dX1_delete_0 ?_
      refine ig_iln C 0 dX1_delete_1 rfl rfl ?_
      refine ig_calli C kM_isModule (mM_isModule (xl X) S (nI j)) rfl rfl ⟨Nat.le_of_ble_eq_true rfl, Nat.le_of_ble_eq_true rfl⟩ (Nat.le_of_ble_eq_true rfl) dX1_delete_2 (fun r S' hp => ?_)
      obtain ⟨rfl, rfl⟩ := hp
      rw [e]
      refine ig_top (nI (1)) rfl ?_
      refine ig_if_ne_T C 10 dX1_delete_5 (by decide) (nI_ne0 (show 0 < 1 by omega) (by omega)) ?_
      refine ig_this C dX1_delete_10 ?_
      refine ig_iln C 0 dX1_delete_11 rfl rfl ?_
      refine ig_iln C 1 dX1_delete_12 rfl rfl ?_
      refine ig_calli C kM_isWord (mM_isWord (xl X) S a hR0 j hj y) rfl rfl ⟨Nat.le_of_ble_eq_true rfl, Nat.le_of_ble_eq_true rfl⟩ (Nat.le_of_ble_eq_true rfl) dX1_delete_13 (fun r S' hp => ?_)
      obtain ⟨rfl, rfl⟩ := hp
      rw [e2]
      refine ig_top (nI (0)) rfl ?_
      refine ig_if_ne_F C 22 dX1_delete_16 (by decide) (show nI (0) = 0 from by rw [show 0 = 0 by omega]; rfl) ?_
      refine ig_bp C dX1_delete_19 kb_m4 ?_
      exact ig_ret C (nar_int _) dX1_delete_21 ⟨by unfold sp_delete; rw [e]; dsimp only; rw [e2], by unfold sp_delete; rw [e]; dsimp only; rw [e2]; exact hR0⟩
    · refine ig_this C dX1_delete_0 ?_
      refine ig_iln C 0 dX1_delete_1 rfl rfl ?_
      refine ig_calli C kM_isModule (mM_isModule (xl X) S (nI j)) rfl rfl ⟨Nat.le_of_ble_eq_true rfl, Nat.le_of_ble_eq_true rfl⟩ (Nat.le_of_ble_eq_true rfl) dX1_delete_2 (fun r S' hp => ?_)
      obtain ⟨rfl, rfl⟩ := hp
      rw [e]
      refine ig_top (nI (1)) rfl ?_
      refine ig_if_ne_T C 10 dX1_delete_5 (by decide) (nI_ne0 (show 0 < 1 by omega) (by omega)) ?_
      refine ig_this C dX1_delete_10 ?_
      refine ig_iln C 0 dX1_delete_11 rfl rfl ?_
      refine ig_iln C 1 dX1_delete_12 rfl rfl ?_
      refine ig_calli C kM_isWord (mM_isWord (xl X) S a hR0 j hj (nI i)) rfl rfl ⟨Nat.le_of_ble_eq_true rfl, Nat.le_of_ble_eq_true rfl⟩ (Nat.le_of_ble_eq_true rfl) dX1_delete_13 (fun r S' hp => ?_)
      obtain ⟨rfl, rfl⟩ := hp
      rw [e2]
      refine ig_top (nI (1)) rfl ?_
      refine ig_if_ne_T C 22 dX1_delete_16 (by decide) (nI_ne0 (show 0 < 1 by omega) (by omega)) ?_
      refine ig_this C dX1_delete_22 ?_
      refine ig_get C fM_sizes dX1_delete_23 ?_
      refine ig_iln C 0 dX1_delete_26 rfl rfl ?_
      refine ig_dup2 C dX1_delete_27 ?_
      refine ig_ald C 2 rfl (show j < 6 by omega) (v := nI (a.1 j)) (h2 j (by omega)) dX1_delete_28 ?_
      refine ig_ic C dX1_delete_29 ki_1 ?_
      refine ig_isubN C (show 1 ≤ a.1 j by omega) dX1_delete_30 ?_
      refine ig_ast C 2 rfl (show j < 6 by omega) dX1_delete_31 ?_
      refine ig_bp C dX1_delete_32 kb_8 ?_
      refine ig_iln C 0 dX1_delete_34 rfl rfl ?_
      refine ig_imulN C dX1_delete_35 ?_
      refine ig_iln C 1 dX1_delete_36 rfl rfl ?_
      refine ig_iaddN C dX1_delete_37 ?_
      refine ig_isn C 2 [nI (j), nI (i), nI ((8 * j) + i)] dX1_delete_38 rfl rfl rfl rfl ?_
      refine ig_st (shD_0 (lo := 8 * j + i)).symm ?_
      refine mM_delete_sh (z := a.1 j - 1) C hj (by omega) sU_s (by omega) ?_ (a.1 j - 1 - i) _ (by omega) (Nat.le_refl _)
      refine ig_bp C dX1_delete_88 kb_10 ?_
      refine ig_iln C 0 dX1_delete_90 rfl rfl ?_
      refine ig_imulN C dX1_delete_91 ?_
      refine ig_isn C 2 [nI (j), nI (i), nI (10 * j)] dX1_delete_92 rfl rfl rfl rfl ?_
      refine ig_st (mapF_0 (k := 3) (lo := 10 * j) (f := fDn i)).symm ?_
      refine mM_delete_df C hj ?_ 10 (10 * j) rfl (Nat.le_refl _)
      refine ig_this C dX1_delete_143 ?_
      refine ig_get C fM_sizes dX1_delete_144 ?_
      refine ig_iln C 0 dX1_delete_147 rfl rfl ?_
      refine ig_ald C 2 rfl (show j < 6 by omega) (v := nI (a.1 j - 1)) (by rw [mapF_k (by decide), shD_2 (by decide)]; exact sU_s) dX1_delete_148 ?_
      exact ig_ret C (nar_int _) dX1_delete_149 ⟨by unfold sp_delete; rw [e]; dsimp only; rw [e2], by unfold sp_delete; rw [e]; dsimp only; rw [e2]; exact RM_del hR0 hj hi⟩
end
section
/-! THE MODEL, counts -/
theorem cn_t {P : Nat → Bool} {t : Nat} (h : P t = true) : cn P (t + 1) = cn P t + 1 := by
  show cn P t + (if P t = true then 1 else 0) = cn P t + 1
  rw [if_pos h]
theorem cn_f {P : Nat → Bool} {t : Nat} (h : P t = false) : cn P (t + 1) = cn P t := by
  show cn P t + (if P t = true then 1 else 0) = cn P t
  rw [if_neg (by rw [h]; decide), Nat.add_zero]
theorem ou_t {P : Nat → Bool} {t : Nat} (h : P t = true) : ou P (t + 1) = ou P t ||| (nI 1 <<< (nI (t / 8) &&& 31)) := by
  show (if P t = true then ou P t ||| (nI 1 <<< (nI (t / 8) &&& 31)) else ou P t) = _
  rw [if_pos h]
theorem ou_f {P : Nat → Bool} {t : Nat} (h : P t = false) : ou P (t + 1) = ou P t := by
  show (if P t = true then ou P t ||| (nI 1 <<< (nI (t / 8) &&& 31)) else ou P t) = _
  rw [if_neg (by rw [h]; decide)]
theorem iw_out {a : il_A} {f : Option Nat → Bool} {t : Nat} (h : ¬ t % 8 < a.1 (t / 8)) : iw a f t = false := by simp [iw, h]
theorem iw_at {a : il_A} {f : Option Nat → Bool} {t : Nat} (h : t % 8 < a.1 (t / 8)) : iw a f t = f (a.2.1 (t / 8) (t % 8)) := by simp [iw, h]
theorem mf_lt {d : Nat → Nat → Option Nat} {s : Nat} : ∀ m, mf d s = some m → m < 6 := fun m h => (mf_some h).1
theorem q_value_nI {a : il_A} (hZ : vZ a) {t : Nat} (ht : t < 48) : q_value a (nI t) = vl a t := by
  have hb := bg_le hZ.1 6 (by omega)
  unfold q_value
  by_cases h : t < bg a.1 6
  · rw [il_ix_in h (by omega)]
  · rw [il_ix_big (by omega) (nI_le (by omega) (by omega)), vl_out (by omega)]
    exact nI_0
set_option maxHeartbeats 1000000 in
set_option maxRecDepth 100000 in
theorem mM_undefined_loop {X : il_X} (C : ig_C GM cX1_undefined 3 ({ frames := 1, cells := 0, slots := 0, locals := 22 }) (some .int) X) {Q : State → Prop} {S : il_S} {a : il_A} (hR : RM a S)  (kk : ig_W GM 3 X Q S 59 [nI (cn (iw a (f_und a)) 48), nI (48)] []) :
    ∀ (n t : Nat), t + n = 48 → ig_W GM 3 X Q S 4 [nI (cn (iw a (f_und a)) t), nI (t)] [] := by
  have hR0 := hR
  obtain ⟨hZ, hV, h2, h3, h01⟩ := hR
  intro n
  induction n with
  | zero =>
    intro t ht
    have ht : t = 48 := by omega
    subst ht
    refine ig_iln C 1 dX1_undefined_4 rfl rfl ?_
    refine ig_bp C dX1_undefined_5 kb_48 ?_
    refine ig_icmp_ge_T C 59 dX1_undefined_7 (by decide) (nI_le (show 48 ≤ 48 by omega) (by omega)) ?_
    exact kk
  | succ n ih =>
    intro t ht
    have hcn := cn_le (iw a (f_und a)) t
    have e8 : 8 * (t / 8) + t % 8 = t := by omega
    have hz8 := hZ.1 (t / 8) (by omega)
    by_cases hin : t % 8 < a.1 (t / 8)
    · have hnm := (h01 (t / 8) (t % 8) (by omega) hin).1
      rw [e8] at hnm
      cases hn : a.2.1 (t / 8) (t % 8) with
      | none =>
        rw [hn] at hnm
        refine ig_iln C 1 dX1_undefined_4 rfl rfl ?_
        refine ig_bp C dX1_undefined_5 kb_48 ?_
        refine ig_icmp_ge_F C 59 dX1_undefined_7 (by decide) (nI_ge (show t < 48 by omega) (by omega)) ?_
        refine ig_iln C 1 dX1_undefined_10 rfl rfl ?_
        refine ig_bp C dX1_undefined_11 kb_8 ?_
        refine ig_iremN C (by omega) (by omega) (by omega) dX1_undefined_13 ?_
        refine ig_this C dX1_undefined_14 ?_
        refine ig_get C fM_sizes dX1_undefined_15 ?_
        refine ig_iln C 1 dX1_undefined_18 rfl rfl ?_
        refine ig_bp C dX1_undefined_19 kb_8 ?_
        refine ig_idivN C (by omega) (by omega) (by omega) dX1_undefined_21 ?_
        refine ig_ald C 2 rfl (show t / 8 < 6 by omega) (v := nI (a.1 (t / 8))) (h2 (t / 8) (by omega)) dX1_undefined_22 ?_
        refine ig_icmp_ge_F C 53 dX1_undefined_23 (by decide) (nI_ge (show t % 8 < a.1 (t / 8) by omega) (by omega)) ?_
        refine ig_this C dX1_undefined_26 ?_
        refine ig_get C fM_names dX1_undefined_27 ?_
        refine ig_iln C 1 dX1_undefined_30 rfl rfl ?_
        refine ig_ald C 0 rfl (show t < 48 by omega) (v := (-4)) hnm dX1_undefined_31 ?_
        refine ig_bp C dX1_undefined_32 kb_m4 ?_
        refine ig_icmp_eq_T C 53 dX1_undefined_34 (by decide) rfl ?_
        refine ig_inc C 1 (nI (t + 1)) [nI (cn (iw a (f_und a)) t), nI (t + 1)] dX1_undefined_53 rfl (il_inc1 _) rfl rfl ?_
        refine ig_goto C 4 dX1_undefined_56 (by decide) ?_
        rw [← cn_f (P := iw a (f_und a)) (t := t) (by rw [iw_at hin, hn]; rfl)]
        exact ih (t + 1) (by omega)
      | some s =>
        rw [hn] at hnm
        have hs := hZ.2 (t / 8) (t % 8) s (by omega) hin hn
        refine ig_iln C 1 dX1_undefined_4 rfl rfl ?_
        refine ig_bp C dX1_undefined_5 kb_48 ?_
        refine ig_icmp_ge_F C 59 dX1_undefined_7 (by decide) (nI_ge (show t < 48 by omega) (by omega)) ?_
        refine ig_iln C 1 dX1_undefined_10 rfl rfl ?_
        refine ig_bp C dX1_undefined_11 kb_8 ?_
        refine ig_iremN C (by omega) (by omega) (by omega) dX1_undefined_13 ?_
        refine ig_this C dX1_undefined_14 ?_
        refine ig_get C fM_sizes dX1_undefined_15 ?_
        refine ig_iln C 1 dX1_undefined_18 rfl rfl ?_
        refine ig_bp C dX1_undefined_19 kb_8 ?_
        refine ig_idivN C (by omega) (by omega) (by omega) dX1_undefined_21 ?_
        refine ig_ald C 2 rfl (show t / 8 < 6 by omega) (v := nI (a.1 (t / 8))) (h2 (t / 8) (by omega)) dX1_undefined_22 ?_
        refine ig_icmp_ge_F C 53 dX1_undefined_23 (by decide) (nI_ge (show t % 8 < a.1 (t / 8) by omega) (by omega)) ?_
        refine ig_this C dX1_undefined_26 ?_
        refine ig_get C fM_names dX1_undefined_27 ?_
        refine ig_iln C 1 dX1_undefined_30 rfl rfl ?_
        refine ig_ald C 0 rfl (show t < 48 by omega) (v := nI (s)) hnm dX1_undefined_31 ?_
        refine ig_bp C dX1_undefined_32 kb_m4 ?_
        refine ig_icmp_eq_F C 53 dX1_undefined_34 (by decide) (nI_ne4 (by omega)) ?_
        refine ig_this C dX1_undefined_37 ?_
        refine ig_this C dX1_undefined_38 ?_
        refine ig_get C fM_names dX1_undefined_39 ?_
        refine ig_iln C 1 dX1_undefined_42 rfl rfl ?_
        refine ig_ald C 0 rfl (show t < 48 by omega) (v := nI (s)) hnm dX1_undefined_43 ?_
        refine ig_calli C kM_moduleFor (mM_moduleFor (xl X) S a hR0 s hs) rfl rfl ⟨Nat.le_of_ble_eq_true rfl, Nat.le_of_ble_eq_true rfl⟩ (Nat.le_of_ble_eq_true rfl) dX1_undefined_44 (fun r S' hp => ?_)
        obtain ⟨rfl, rfl⟩ := hp
        cases hm : mf a.2.2.2 s with
        | none =>
          refine ig_if_ge_F C 53 dX1_undefined_47 (by decide) (by decide) ?_
          refine ig_inc C 0 (nI (cn (iw a (f_und a)) t + 1)) [nI (cn (iw a (f_und a)) t + 1), nI (t)] dX1_undefined_50 rfl (il_inc1 _) rfl rfl ?_
          refine ig_inc C 1 (nI (t + 1)) [nI (cn (iw a (f_und a)) t + 1), nI (t + 1)] dX1_undefined_53 rfl (il_inc1 _) rfl rfl ?_
          refine ig_goto C 4 dX1_undefined_56 (by decide) ?_
          rw [← cn_t (P := iw a (f_und a)) (t := t) (by rw [iw_at hin, hn]; show (mf a.2.2.2 s).isNone = true; rw [hm]; rfl)]
          exact ih (t + 1) (by omega)
        | some m =>
          have hm6 := mf_lt m hm
          refine ig_if_ge_T C 53 dX1_undefined_47 (by decide) (nI_pos' (show m < 2 ^ 31 by omega)) ?_
          refine ig_inc C 1 (nI (t + 1)) [nI (cn (iw a (f_und a)) t), nI (t + 1)] dX1_undefined_53 rfl (il_inc1 _) rfl rfl ?_
          refine ig_goto C 4 dX1_undefined_56 (by decide) ?_
          rw [← cn_f (P := iw a (f_und a)) (t := t) (by rw [iw_at hin, hn]; show (mf a.2.2.2 s).isNone = false; rw [hm]; rfl)]
          exact ih (t + 1) (by omega)
    · refine ig_iln C 1 dX1_undefined_4 rfl rfl ?_
      refine ig_bp C dX1_undefined_5 kb_48 ?_
      refine ig_icmp_ge_F C 59 dX1_undefined_7 (by decide) (nI_ge (show t < 48 by omega) (by omega)) ?_
      refine ig_iln C 1 dX1_undefined_10 rfl rfl ?_
      refine ig_bp C dX1_undefined_11 kb_8 ?_
      refine ig_iremN C (by omega) (by omega) (by omega) dX1_undefined_13 ?_
      refine ig_this C dX1_undefined_14 ?_
      refine ig_get C fM_sizes dX1_undefined_15 ?_
      refine ig_iln C 1 dX1_undefined_18 rfl rfl ?_
      refine ig_bp C dX1_undefined_19 kb_8 ?_
      refine ig_idivN C (by omega) (by omega) (by omega) dX1_undefined_21 ?_
      refine ig_ald C 2 rfl (show t / 8 < 6 by omega) (v := nI (a.1 (t / 8))) (h2 (t / 8) (by omega)) dX1_undefined_22 ?_
      refine ig_icmp_ge_T C 53 dX1_undefined_23 (by decide) (nI_le (show a.1 (t / 8) ≤ t % 8 by omega) (by omega)) ?_
      refine ig_inc C 1 (nI (t + 1)) [nI (cn (iw a (f_und a)) t), nI (t + 1)] dX1_undefined_53 rfl (il_inc1 _) rfl rfl ?_
      refine ig_goto C 4 dX1_undefined_56 (by decide) ?_
      rw [← cn_f (P := iw a (f_und a)) (t := t) (iw_out hin)]
      exact ih (t + 1) (by omega)
set_option maxHeartbeats 1000000 in
set_option maxRecDepth 100000 in
theorem mM_undefined (l : Launch) (S : il_S) (a : il_A) (hR : RM a S) : ig_Mi GM l yX1_undefined cX1_undefined 3 .int 1 22 [] S (fun r S' => r = nI (cn (iw a (f_und a)) 48) ∧ S = S') := by
  refine ig_Mi.of GM_ok (by decide) rfl (Nat.le_of_ble_eq_true rfl) (fun X C => ?_)
  refine ig_ic C dX1_undefined_0 ki_0 ?_
  refine ig_isn C 0 [nI (0)] dX1_undefined_1 rfl rfl rfl rfl ?_
  refine ig_ic C dX1_undefined_2 ki_0 ?_
  refine ig_isn C 1 [nI (0), nI (0)] dX1_undefined_3 rfl rfl rfl rfl ?_
  refine mM_undefined_loop C hR ?_ 48 0 rfl
  refine ig_iln C 0 dX1_undefined_59 rfl rfl ?_
  exact ig_ret C (nar_int _) dX1_undefined_60 ⟨rfl, rfl⟩

set_option maxHeartbeats 1000000 in
set_option maxRecDepth 100000 in
theorem mM_uses_loop {X : il_X} (C : ig_C GM cX1_uses 4 ({ frames := 1, cells := 0, slots := 0, locals := 21 }) (some .int) X) {Q : State → Prop} {S : il_S} {a : il_A} (hR : RM a S) {s : Nat} (hs : s < 10) (kk : ig_W GM 4 X Q S 60 [nI (s), nI (cn (iw a (f_use s)) 48), nI (48)] []) :
    ∀ (n t : Nat), t + n = 48 → ig_W GM 4 X Q S 14 [nI (s), nI (cn (iw a (f_use s)) t), nI (t)] [] := by
  have hR0 := hR
  obtain ⟨hZ, hV, h2, h3, h01⟩ := hR
  intro n
  induction n with
  | zero =>
    intro t ht
    have ht : t = 48 := by omega
    subst ht
    refine ig_iln C 2 dX1_uses_14 rfl rfl ?_
    refine ig_bp C dX1_uses_15 kb_48 ?_
    refine ig_icmp_ge_T C 60 dX1_uses_17 (by decide) (nI_le (show 48 ≤ 48 by omega) (by omega)) ?_
    exact kk
  | succ n ih =>
    intro t ht
    have hcn := cn_le (iw a (f_use s)) t
    have e8 : 8 * (t / 8) + t % 8 = t := by omega
    have hz8 := hZ.1 (t / 8) (by omega)
    by_cases hin : t % 8 < a.1 (t / 8)
    · have hnm := (h01 (t / 8) (t % 8) (by omega) hin).1
      rw [e8] at hnm
      cases hn : a.2.1 (t / 8) (t % 8) with
      | none =>
        rw [hn] at hnm
        refine ig_iln C 2 dX1_uses_14 rfl rfl ?_
        refine ig_bp C dX1_uses_15 kb_48 ?_
        refine ig_icmp_ge_F C 60 dX1_uses_17 (by decide) (nI_ge (show t < 48 by omega) (by omega)) ?_
        refine ig_iln C 2 dX1_uses_20 rfl rfl ?_
        refine ig_bp C dX1_uses_21 kb_8 ?_
        refine ig_iremN C (by omega) (by omega) (by omega) dX1_uses_23 ?_
        refine ig_this C dX1_uses_24 ?_
        refine ig_get C fM_sizes dX1_uses_25 ?_
        refine ig_iln C 2 dX1_uses_28 rfl rfl ?_
        refine ig_bp C dX1_uses_29 kb_8 ?_
        refine ig_idivN C (by omega) (by omega) (by omega) dX1_uses_31 ?_
        refine ig_ald C 2 rfl (show t / 8 < 6 by omega) (v := nI (a.1 (t / 8))) (h2 (t / 8) (by omega)) dX1_uses_32 ?_
        refine ig_icmp_ge_F C 52 dX1_uses_33 (by decide) (nI_ge (show t % 8 < a.1 (t / 8) by omega) (by omega)) ?_
        refine ig_this C dX1_uses_36 ?_
        refine ig_get C fM_names dX1_uses_37 ?_
        refine ig_iln C 2 dX1_uses_40 rfl rfl ?_
        refine ig_ald C 0 rfl (show t < 48 by omega) (v := (-4)) hnm dX1_uses_41 ?_
        refine ig_iln C 0 dX1_uses_42 rfl rfl ?_
        refine ig_icmp_ne_T C 52 dX1_uses_43 (by decide) (fun q => nI_ne4 (show s < 2 ^ 31 by omega) q.symm) ?_
        refine ig_iln C 1 dX1_uses_52 rfl rfl ?_
        refine ig_isn C 1 [nI (s), nI (cn (iw a (f_use s)) t), nI (t)] dX1_uses_53 rfl rfl rfl rfl ?_
        refine ig_inc C 2 (nI (t + 1)) [nI (s), nI (cn (iw a (f_use s)) t), nI (t + 1)] dX1_uses_54 rfl (il_inc1 _) rfl rfl ?_
        refine ig_goto C 14 dX1_uses_57 (by decide) ?_
        rw [← cn_f (P := iw a (f_use s)) (t := t) (by rw [iw_at hin, hn]; rfl)]
        exact ih (t + 1) (by omega)
      | some u =>
        rw [hn] at hnm
        have hu := hZ.2 (t / 8) (t % 8) u (by omega) hin hn
        by_cases hus : u = s
        · refine ig_iln C 2 dX1_uses_14 rfl rfl ?_
          refine ig_bp C dX1_uses_15 kb_48 ?_
          refine ig_icmp_ge_F C 60 dX1_uses_17 (by decide) (nI_ge (show t < 48 by omega) (by omega)) ?_
          refine ig_iln C 2 dX1_uses_20 rfl rfl ?_
          refine ig_bp C dX1_uses_21 kb_8 ?_
          refine ig_iremN C (by omega) (by omega) (by omega) dX1_uses_23 ?_
          refine ig_this C dX1_uses_24 ?_
          refine ig_get C fM_sizes dX1_uses_25 ?_
          refine ig_iln C 2 dX1_uses_28 rfl rfl ?_
          refine ig_bp C dX1_uses_29 kb_8 ?_
          refine ig_idivN C (by omega) (by omega) (by omega) dX1_uses_31 ?_
          refine ig_ald C 2 rfl (show t / 8 < 6 by omega) (v := nI (a.1 (t / 8))) (h2 (t / 8) (by omega)) dX1_uses_32 ?_
          refine ig_icmp_ge_F C 52 dX1_uses_33 (by decide) (nI_ge (show t % 8 < a.1 (t / 8) by omega) (by omega)) ?_
          refine ig_this C dX1_uses_36 ?_
          refine ig_get C fM_names dX1_uses_37 ?_
          refine ig_iln C 2 dX1_uses_40 rfl rfl ?_
          refine ig_ald C 0 rfl (show t < 48 by omega) (v := nI (u)) hnm dX1_uses_41 ?_
          refine ig_iln C 0 dX1_uses_42 rfl rfl ?_
          refine ig_icmp_ne_F C 52 dX1_uses_43 (by decide) (congrArg nI (show u = s by omega)) ?_
          refine ig_iln C 1 dX1_uses_46 rfl rfl ?_
          refine ig_ic C dX1_uses_47 ki_1 ?_
          refine ig_iaddN C dX1_uses_48 ?_
          refine ig_goto C 53 dX1_uses_49 (by decide) ?_
          refine ig_isn C 1 [nI (s), nI ((cn (iw a (f_use s)) t) + 1), nI (t)] dX1_uses_53 rfl rfl rfl rfl ?_
          refine ig_inc C 2 (nI (t + 1)) [nI (s), nI ((cn (iw a (f_use s)) t) + 1), nI (t + 1)] dX1_uses_54 rfl (il_inc1 _) rfl rfl ?_
          refine ig_goto C 14 dX1_uses_57 (by decide) ?_
          rw [← cn_t (P := iw a (f_use s)) (t := t) (by rw [iw_at hin, hn, hus]; exact decide_eq_true rfl)]
          exact ih (t + 1) (by omega)
        · refine ig_iln C 2 dX1_uses_14 rfl rfl ?_
          refine ig_bp C dX1_uses_15 kb_48 ?_
          refine ig_icmp_ge_F C 60 dX1_uses_17 (by decide) (nI_ge (show t < 48 by omega) (by omega)) ?_
          refine ig_iln C 2 dX1_uses_20 rfl rfl ?_
          refine ig_bp C dX1_uses_21 kb_8 ?_
          refine ig_iremN C (by omega) (by omega) (by omega) dX1_uses_23 ?_
          refine ig_this C dX1_uses_24 ?_
          refine ig_get C fM_sizes dX1_uses_25 ?_
          refine ig_iln C 2 dX1_uses_28 rfl rfl ?_
          refine ig_bp C dX1_uses_29 kb_8 ?_
          refine ig_idivN C (by omega) (by omega) (by omega) dX1_uses_31 ?_
          refine ig_ald C 2 rfl (show t / 8 < 6 by omega) (v := nI (a.1 (t / 8))) (h2 (t / 8) (by omega)) dX1_uses_32 ?_
          refine ig_icmp_ge_F C 52 dX1_uses_33 (by decide) (nI_ge (show t % 8 < a.1 (t / 8) by omega) (by omega)) ?_
          refine ig_this C dX1_uses_36 ?_
          refine ig_get C fM_names dX1_uses_37 ?_
          refine ig_iln C 2 dX1_uses_40 rfl rfl ?_
          refine ig_ald C 0 rfl (show t < 48 by omega) (v := nI (u)) hnm dX1_uses_41 ?_
          refine ig_iln C 0 dX1_uses_42 rfl rfl ?_
          refine ig_icmp_ne_T C 52 dX1_uses_43 (by decide) (fun q => absurd ((nI_eq (by omega) (by omega)).mp q) (show ¬ u = s by omega)) ?_
          refine ig_iln C 1 dX1_uses_52 rfl rfl ?_
          refine ig_isn C 1 [nI (s), nI (cn (iw a (f_use s)) t), nI (t)] dX1_uses_53 rfl rfl rfl rfl ?_
          refine ig_inc C 2 (nI (t + 1)) [nI (s), nI (cn (iw a (f_use s)) t), nI (t + 1)] dX1_uses_54 rfl (il_inc1 _) rfl rfl ?_
          refine ig_goto C 14 dX1_uses_57 (by decide) ?_
          rw [← cn_f (P := iw a (f_use s)) (t := t) (by rw [iw_at hin, hn]; exact decide_eq_false (fun q => hus (Option.some.inj q)))]
          exact ih (t + 1) (by omega)
    · refine ig_iln C 2 dX1_uses_14 rfl rfl ?_
      refine ig_bp C dX1_uses_15 kb_48 ?_
      refine ig_icmp_ge_F C 60 dX1_uses_17 (by decide) (nI_ge (show t < 48 by omega) (by omega)) ?_
      refine ig_iln C 2 dX1_uses_20 rfl rfl ?_
      refine ig_bp C dX1_uses_21 kb_8 ?_
      refine ig_iremN C (by omega) (by omega) (by omega) dX1_uses_23 ?_
      refine ig_this C dX1_uses_24 ?_
      refine ig_get C fM_sizes dX1_uses_25 ?_
      refine ig_iln C 2 dX1_uses_28 rfl rfl ?_
      refine ig_bp C dX1_uses_29 kb_8 ?_
      refine ig_idivN C (by omega) (by omega) (by omega) dX1_uses_31 ?_
      refine ig_ald C 2 rfl (show t / 8 < 6 by omega) (v := nI (a.1 (t / 8))) (h2 (t / 8) (by omega)) dX1_uses_32 ?_
      refine ig_icmp_ge_T C 52 dX1_uses_33 (by decide) (nI_le (show a.1 (t / 8) ≤ t % 8 by omega) (by omega)) ?_
      refine ig_iln C 1 dX1_uses_52 rfl rfl ?_
      refine ig_isn C 1 [nI (s), nI (cn (iw a (f_use s)) t), nI (t)] dX1_uses_53 rfl rfl rfl rfl ?_
      refine ig_inc C 2 (nI (t + 1)) [nI (s), nI (cn (iw a (f_use s)) t), nI (t + 1)] dX1_uses_54 rfl (il_inc1 _) rfl rfl ?_
      refine ig_goto C 14 dX1_uses_57 (by decide) ?_
      rw [← cn_f (P := iw a (f_use s)) (t := t) (iw_out hin)]
      exact ih (t + 1) (by omega)
set_option maxHeartbeats 1000000 in
set_option maxRecDepth 100000 in
theorem mM_uses (l : Launch) (S : il_S) (a : il_A) (hR : RM a S) (x : Int32) : ig_Mi GM l yX1_uses cX1_uses 4 .int 1 21 [x] S (fun r S' => r = q_uses a x ∧ S = S') := by
  refine ig_Mi.of GM_ok (by decide) rfl (Nat.le_of_ble_eq_true rfl) (fun X C => ?_)
  rcases il_cases x (n := 10) (by decide) with ⟨h, e⟩ | ⟨h, h6, e⟩ | ⟨s, hs, rfl, e⟩
  · refine ig_this C dX1_uses_0 ?_
    refine ig_iln C 0 dX1_uses_1 rfl rfl ?_
    refine ig_calli C kM_isName (mM_isName (xl X) S x) rfl rfl ⟨Nat.le_of_ble_eq_true rfl, Nat.le_of_ble_eq_true rfl⟩ (Nat.le_of_ble_eq_true rfl) dX1_uses_2 (fun r S' hp => ?_)
    obtain ⟨rfl, rfl⟩ := hp
    rw [e]
    refine ig_top (nI (0)) rfl ?_
    refine ig_if_ne_F C 10 dX1_uses_5 (by decide) (show nI (0) = 0 from by rw [show 0 = 0 by omega]; rfl) ?_
    refine ig_ic C dX1_uses_8 ki_m1 ?_
    exact ig_ret C (nar_int _) dX1_uses_9 ⟨by unfold q_uses; rw [e], rfl⟩
  · refine ig_this C dX1_uses_0 ?_
    refine ig_iln C 0 dX1_uses_1 rfl rfl ?_
    refine ig_calli C kM_isName (mM_isName (xl X) S x) rfl rfl ⟨Nat.le_of_ble_eq_true rfl, Nat.le_of_ble_eq_true rfl⟩ (Nat.le_of_ble_eq_true rfl) dX1_uses_2 (fun r S' hp => ?_)
    obtain ⟨rfl, rfl⟩ := hp
    rw [e]
    refine ig_top (nI (0)) rfl ?_
    refine ig_if_ne_F C 10 dX1_uses_5 (by decide) (show nI (0) = 0 from by rw [show 0 = 0 by omega]; rfl) ?_
    refine ig_ic C dX1_uses_8 ki_m1 ?_
    exact ig_ret C (nar_int _) dX1_uses_9 ⟨by unfold q_uses; rw [e], rfl⟩
  · refine ig_this C dX1_uses_0 ?_
    refine ig_iln C 0 dX1_uses_1 rfl rfl ?_
    refine ig_calli C kM_isName (mM_isName (xl X) S (nI s)) rfl rfl ⟨Nat.le_of_ble_eq_true rfl, Nat.le_of_ble_eq_true rfl⟩ (Nat.le_of_ble_eq_true rfl) dX1_uses_2 (fun r S' hp => ?_)
    obtain ⟨rfl, rfl⟩ := hp
    rw [e]
    refine ig_top (nI (1)) rfl ?_
    refine ig_if_ne_T C 10 dX1_uses_5 (by decide) (nI_ne0 (show 0 < 1 by omega) (by omega)) ?_
    refine ig_ic C dX1_uses_10 ki_0 ?_
    refine ig_isn C 1 [nI (s), nI (0)] dX1_uses_11 rfl rfl rfl rfl ?_
    refine ig_ic C dX1_uses_12 ki_0 ?_
    refine ig_isn C 2 [nI (s), nI (0), nI (0)] dX1_uses_13 rfl rfl rfl rfl ?_
    refine mM_uses_loop C hR hs ?_ 48 0 rfl
    refine ig_iln C 1 dX1_uses_60 rfl rfl ?_
    exact ig_ret C (nar_int _) dX1_uses_61 ⟨by unfold q_uses; rw [e], rfl⟩

set_option maxHeartbeats 1000000 in
set_option maxRecDepth 100000 in
theorem mM_users_loop {X : il_X} (C : ig_C GM cX1_users 4 ({ frames := 1, cells := 0, slots := 0, locals := 22 }) (some .int) X) {Q : State → Prop} {S : il_S} {a : il_A} (hR : RM a S) {j : Nat} (hj : j < 6) (kk : ig_W GM 4 X Q S 76 [nI (j), (ou (iw a (f_usr a j)) 48), nI (48)] []) :
    ∀ (n t : Nat), t + n = 48 → ig_W GM 4 X Q S 14 [nI (j), (ou (iw a (f_usr a j)) t), nI (t)] [] := by
  have hR0 := hR
  obtain ⟨hZ, hV, h2, h3, h01⟩ := hR
  intro n
  induction n with
  | zero =>
    intro t ht
    have ht : t = 48 := by omega
    subst ht
    refine ig_iln C 2 dX1_users_14 rfl rfl ?_
    refine ig_bp C dX1_users_15 kb_48 ?_
    refine ig_icmp_ge_T C 76 dX1_users_17 (by decide) (nI_le (show 48 ≤ 48 by omega) (by omega)) ?_
    exact kk
  | succ n ih =>
    intro t ht
    have hcn := cn_le (iw a (f_usr a j)) t
    have e8 : 8 * (t / 8) + t % 8 = t := by omega
    have hz8 := hZ.1 (t / 8) (by omega)
    by_cases hin : t % 8 < a.1 (t / 8)
    · have hnm := (h01 (t / 8) (t % 8) (by omega) hin).1
      rw [e8] at hnm
      cases hn : a.2.1 (t / 8) (t % 8) with
      | none =>
        rw [hn] at hnm
        refine ig_iln C 2 dX1_users_14 rfl rfl ?_
        refine ig_bp C dX1_users_15 kb_48 ?_
        refine ig_icmp_ge_F C 76 dX1_users_17 (by decide) (nI_ge (show t < 48 by omega) (by omega)) ?_
        refine ig_iln C 2 dX1_users_20 rfl rfl ?_
        refine ig_bp C dX1_users_21 kb_8 ?_
        refine ig_iremN C (by omega) (by omega) (by omega) dX1_users_23 ?_
        refine ig_this C dX1_users_24 ?_
        refine ig_get C fM_sizes dX1_users_25 ?_
        refine ig_iln C 2 dX1_users_28 rfl rfl ?_
        refine ig_bp C dX1_users_29 kb_8 ?_
        refine ig_idivN C (by omega) (by omega) (by omega) dX1_users_31 ?_
        refine ig_ald C 2 rfl (show t / 8 < 6 by omega) (v := nI (a.1 (t / 8))) (h2 (t / 8) (by omega)) dX1_users_32 ?_
        refine ig_icmp_ge_F C 70 dX1_users_33 (by decide) (nI_ge (show t % 8 < a.1 (t / 8) by omega) (by omega)) ?_
        refine ig_this C dX1_users_36 ?_
        refine ig_get C fM_names dX1_users_37 ?_
        refine ig_iln C 2 dX1_users_40 rfl rfl ?_
        refine ig_ald C 0 rfl (show t < 48 by omega) (v := (-4)) hnm dX1_users_41 ?_
        refine ig_bp C dX1_users_42 kb_m4 ?_
        refine ig_icmp_eq_T C 70 dX1_users_44 (by decide) rfl ?_
        refine ig_inc C 2 (nI (t + 1)) [nI (j), (ou (iw a (f_usr a j)) t), nI (t + 1)] dX1_users_70 rfl (il_inc1 _) rfl rfl ?_
        refine ig_goto C 14 dX1_users_73 (by decide) ?_
        rw [← ou_f (P := iw a (f_usr a j)) (t := t) (by rw [iw_at hin, hn]; rfl)]
        exact ih (t + 1) (by omega)
      | some s =>
        rw [hn] at hnm
        have hs := hZ.2 (t / 8) (t % 8) s (by omega) hin hn
        refine ig_iln C 2 dX1_users_14 rfl rfl ?_
        refine ig_bp C dX1_users_15 kb_48 ?_
        refine ig_icmp_ge_F C 76 dX1_users_17 (by decide) (nI_ge (show t < 48 by omega) (by omega)) ?_
        refine ig_iln C 2 dX1_users_20 rfl rfl ?_
        refine ig_bp C dX1_users_21 kb_8 ?_
        refine ig_iremN C (by omega) (by omega) (by omega) dX1_users_23 ?_
        refine ig_this C dX1_users_24 ?_
        refine ig_get C fM_sizes dX1_users_25 ?_
        refine ig_iln C 2 dX1_users_28 rfl rfl ?_
        refine ig_bp C dX1_users_29 kb_8 ?_
        refine ig_idivN C (by omega) (by omega) (by omega) dX1_users_31 ?_
        refine ig_ald C 2 rfl (show t / 8 < 6 by omega) (v := nI (a.1 (t / 8))) (h2 (t / 8) (by omega)) dX1_users_32 ?_
        refine ig_icmp_ge_F C 70 dX1_users_33 (by decide) (nI_ge (show t % 8 < a.1 (t / 8) by omega) (by omega)) ?_
        refine ig_this C dX1_users_36 ?_
        refine ig_get C fM_names dX1_users_37 ?_
        refine ig_iln C 2 dX1_users_40 rfl rfl ?_
        refine ig_ald C 0 rfl (show t < 48 by omega) (v := nI (s)) hnm dX1_users_41 ?_
        refine ig_bp C dX1_users_42 kb_m4 ?_
        refine ig_icmp_eq_F C 70 dX1_users_44 (by decide) (nI_ne4 (by omega)) ?_
        refine ig_this C dX1_users_47 ?_
        refine ig_this C dX1_users_48 ?_
        refine ig_get C fM_names dX1_users_49 ?_
        refine ig_iln C 2 dX1_users_52 rfl rfl ?_
        refine ig_ald C 0 rfl (show t < 48 by omega) (v := nI (s)) hnm dX1_users_53 ?_
        refine ig_calli C kM_moduleFor (mM_moduleFor (xl X) S a hR0 s hs) rfl rfl ⟨Nat.le_of_ble_eq_true rfl, Nat.le_of_ble_eq_true rfl⟩ (Nat.le_of_ble_eq_true rfl) dX1_users_54 (fun r S' hp => ?_)
        obtain ⟨rfl, rfl⟩ := hp
        cases hm : mf a.2.2.2 s with
        | none =>
          refine ig_iln C 0 dX1_users_57 rfl rfl ?_
          refine ig_icmp_ne_T C 70 dX1_users_58 (by decide) (fun q => nI_ne4 (show j < 2 ^ 31 by omega) q.symm) ?_
          refine ig_inc C 2 (nI (t + 1)) [nI (j), (ou (iw a (f_usr a j)) t), nI (t + 1)] dX1_users_70 rfl (il_inc1 _) rfl rfl ?_
          refine ig_goto C 14 dX1_users_73 (by decide) ?_
          rw [← ou_f (P := iw a (f_usr a j)) (t := t) (by rw [iw_at hin, hn]; exact decide_eq_false (by rw [hm]; exact fun q => by cases q))]
          exact ih (t + 1) (by omega)
        | some m =>
          have hm6 := mf_lt m hm
          refine ig_top (nI m) rfl ?_
          by_cases hmj : m = j
          · refine ig_iln C 0 dX1_users_57 rfl rfl ?_
            refine ig_icmp_ne_F C 70 dX1_users_58 (by decide) (congrArg nI (show m = j by omega)) ?_
            refine ig_iln C 1 dX1_users_61 rfl rfl ?_
            refine ig_ic C dX1_users_62 ki_1 ?_
            refine ig_iln C 2 dX1_users_63 rfl rfl ?_
            refine ig_bp C dX1_users_64 kb_8 ?_
            refine ig_idivN C (by omega) (by omega) (by omega) dX1_users_66 ?_
            refine ig_ishl C dX1_users_67 ?_
            refine ig_ior C dX1_users_68 ?_
            refine ig_isn C 1 [nI (j), ((ou (iw a (f_usr a j)) t) ||| (nI (1) <<< (nI (t / 8) &&& 31))), nI (t)] dX1_users_69 rfl rfl rfl rfl ?_
            refine ig_inc C 2 (nI (t + 1)) [nI (j), ((ou (iw a (f_usr a j)) t) ||| (nI (1) <<< (nI (t / 8) &&& 31))), nI (t + 1)] dX1_users_70 rfl (il_inc1 _) rfl rfl ?_
            refine ig_goto C 14 dX1_users_73 (by decide) ?_
            rw [← ou_t (P := iw a (f_usr a j)) (t := t) (by rw [iw_at hin, hn]; exact decide_eq_true (by rw [hm, hmj]))]
            exact ih (t + 1) (by omega)
          · refine ig_iln C 0 dX1_users_57 rfl rfl ?_
            refine ig_icmp_ne_T C 70 dX1_users_58 (by decide) (fun q => absurd ((nI_eq (by omega) (by omega)).mp q) (show ¬ m = j by omega)) ?_
            refine ig_inc C 2 (nI (t + 1)) [nI (j), (ou (iw a (f_usr a j)) t), nI (t + 1)] dX1_users_70 rfl (il_inc1 _) rfl rfl ?_
            refine ig_goto C 14 dX1_users_73 (by decide) ?_
            rw [← ou_f (P := iw a (f_usr a j)) (t := t) (by rw [iw_at hin, hn]; exact decide_eq_false (by rw [hm]; exact fun q => hmj (Option.some.inj q)))]
            exact ih (t + 1) (by omega)
    · refine ig_iln C 2 dX1_users_14 rfl rfl ?_
      refine ig_bp C dX1_users_15 kb_48 ?_
      refine ig_icmp_ge_F C 76 dX1_users_17 (by decide) (nI_ge (show t < 48 by omega) (by omega)) ?_
      refine ig_iln C 2 dX1_users_20 rfl rfl ?_
      refine ig_bp C dX1_users_21 kb_8 ?_
      refine ig_iremN C (by omega) (by omega) (by omega) dX1_users_23 ?_
      refine ig_this C dX1_users_24 ?_
      refine ig_get C fM_sizes dX1_users_25 ?_
      refine ig_iln C 2 dX1_users_28 rfl rfl ?_
      refine ig_bp C dX1_users_29 kb_8 ?_
      refine ig_idivN C (by omega) (by omega) (by omega) dX1_users_31 ?_
      refine ig_ald C 2 rfl (show t / 8 < 6 by omega) (v := nI (a.1 (t / 8))) (h2 (t / 8) (by omega)) dX1_users_32 ?_
      refine ig_icmp_ge_T C 70 dX1_users_33 (by decide) (nI_le (show a.1 (t / 8) ≤ t % 8 by omega) (by omega)) ?_
      refine ig_inc C 2 (nI (t + 1)) [nI (j), (ou (iw a (f_usr a j)) t), nI (t + 1)] dX1_users_70 rfl (il_inc1 _) rfl rfl ?_
      refine ig_goto C 14 dX1_users_73 (by decide) ?_
      rw [← ou_f (P := iw a (f_usr a j)) (t := t) (iw_out hin)]
      exact ih (t + 1) (by omega)
set_option maxHeartbeats 1000000 in
set_option maxRecDepth 100000 in
theorem mM_users (l : Launch) (S : il_S) (a : il_A) (hR : RM a S) (x : Int32) : ig_Mi GM l yX1_users cX1_users 4 .int 1 22 [x] S (fun r S' => r = q_users a x ∧ S = S') := by
  refine ig_Mi.of GM_ok (by decide) rfl (Nat.le_of_ble_eq_true rfl) (fun X C => ?_)
  rcases il_cases x (n := 6) (by decide) with ⟨h, e⟩ | ⟨h, h6, e⟩ | ⟨j, hj, rfl, e⟩
  · refine ig_this C dX1_users_0 ?_
    refine ig_iln C 0 dX1_users_1 rfl rfl ?_
    refine ig_calli C kM_isModule (mM_isModule (xl X) S x) rfl rfl ⟨Nat.le_of_ble_eq_true rfl, Nat.le_of_ble_eq_true rfl⟩ (Nat.le_of_ble_eq_true rfl) dX1_users_2 (fun r S' hp => ?_)
    obtain ⟨rfl, rfl⟩ := hp
    rw [e]
    refine ig_top (nI (0)) rfl ?_
    refine ig_if_ne_F C 10 dX1_users_5 (by decide) (show nI (0) = 0 from by rw [show 0 = 0 by omega]; rfl) ?_
    refine ig_ic C dX1_users_8 ki_m1 ?_
    exact ig_ret C (nar_int _) dX1_users_9 ⟨by unfold q_users; rw [e], rfl⟩
  · refine ig_this C dX1_users_0 ?_
    refine ig_iln C 0 dX1_users_1 rfl rfl ?_
    refine ig_calli C kM_isModule (mM_isModule (xl X) S x) rfl rfl ⟨Nat.le_of_ble_eq_true rfl, Nat.le_of_ble_eq_true rfl⟩ (Nat.le_of_ble_eq_true rfl) dX1_users_2 (fun r S' hp => ?_)
    obtain ⟨rfl, rfl⟩ := hp
    rw [e]
    refine ig_top (nI (0)) rfl ?_
    refine ig_if_ne_F C 10 dX1_users_5 (by decide) (show nI (0) = 0 from by rw [show 0 = 0 by omega]; rfl) ?_
    refine ig_ic C dX1_users_8 ki_m1 ?_
    exact ig_ret C (nar_int _) dX1_users_9 ⟨by unfold q_users; rw [e], rfl⟩
  · refine ig_this C dX1_users_0 ?_
    refine ig_iln C 0 dX1_users_1 rfl rfl ?_
    refine ig_calli C kM_isModule (mM_isModule (xl X) S (nI j)) rfl rfl ⟨Nat.le_of_ble_eq_true rfl, Nat.le_of_ble_eq_true rfl⟩ (Nat.le_of_ble_eq_true rfl) dX1_users_2 (fun r S' hp => ?_)
    obtain ⟨rfl, rfl⟩ := hp
    rw [e]
    refine ig_top (nI (1)) rfl ?_
    refine ig_if_ne_T C 10 dX1_users_5 (by decide) (nI_ne0 (show 0 < 1 by omega) (by omega)) ?_
    refine ig_ic C dX1_users_10 ki_0 ?_
    refine ig_isn C 1 [nI (j), nI (0)] dX1_users_11 rfl rfl rfl rfl ?_
    refine ig_ic C dX1_users_12 ki_0 ?_
    refine ig_isn C 2 [nI (j), nI (0), nI (0)] dX1_users_13 rfl rfl rfl rfl ?_
    refine mM_users_loop C hR hj ?_ 48 0 rfl
    refine ig_iln C 1 dX1_users_76 rfl rfl ?_
    exact ig_ret C (nar_int _) dX1_users_77 ⟨by unfold q_users; rw [e], rfl⟩

set_option maxHeartbeats 1000000 in
set_option maxRecDepth 100000 in
theorem mM_idle_loop {X : il_X} (C : ig_C GM cX1_idle 3 ({ frames := 1, cells := 0, slots := 0, locals := 22 }) (some .int) X) {Q : State → Prop} {S : il_S} {a : il_A} (hR : RM a S)  (kk : ig_W GM 3 X Q S 45 [nI (cn (f_idl a) 60), nI (60)] []) :
    ∀ (n t : Nat), t + n = 60 → ig_W GM 3 X Q S 4 [nI (cn (f_idl a) t), nI (t)] [] := by
  have hR0 := hR
  obtain ⟨hZ, hV, h2, h3, h01⟩ := hR
  intro n
  induction n with
  | zero =>
    intro t ht
    have ht : t = 60 := by omega
    subst ht
    refine ig_iln C 1 dX1_idle_4 rfl rfl ?_
    refine ig_bp C dX1_idle_5 kb_60 ?_
    refine ig_icmp_ge_T C 45 dX1_idle_7 (by decide) (nI_le (show 60 ≤ 60 by omega) (by omega)) ?_
    exact kk
  | succ n ih =>
    intro t ht
    have hcn := cn_le (f_idl a) t
    have e8 : 10 * (t / 10) + t % 10 = t := by omega
    have hd := h3 (t / 10) (t % 10) (by omega) (by omega)
    rw [e8] at hd
    have hdl := vA_dlt hZ hV (show t / 10 < 6 by omega) (show t % 10 < 10 by omega)
    cases hn : a.2.2.2 (t / 10) (t % 10) with
    | none =>
      rw [hn] at hd
      refine ig_iln C 1 dX1_idle_4 rfl rfl ?_
      refine ig_bp C dX1_idle_5 kb_60 ?_
      refine ig_icmp_ge_F C 45 dX1_idle_7 (by decide) (nI_ge (show t < 60 by omega) (by omega)) ?_
      refine ig_this C dX1_idle_10 ?_
      refine ig_get C fM_defined dX1_idle_11 ?_
      refine ig_iln C 1 dX1_idle_14 rfl rfl ?_
      refine ig_ald C 3 rfl (show t < 60 by omega) (v := (-4)) hd dX1_idle_15 ?_
      refine ig_bp C dX1_idle_16 kb_m4 ?_
      refine ig_icmp_eq_T C 39 dX1_idle_18 (by decide) rfl ?_
      refine ig_inc C 1 (nI (t + 1)) [nI (cn (f_idl a) t), nI (t + 1)] dX1_idle_39 rfl (il_inc1 _) rfl rfl ?_
      refine ig_goto C 4 dX1_idle_42 (by decide) ?_
      rw [← cn_f (P := f_idl a) (t := t) (by unfold f_idl; rw [hn]; rfl)]
      exact ih (t + 1) (by omega)
    | some u =>
      rw [hn] at hd
      have hu := hdl u hn
      refine ig_iln C 1 dX1_idle_4 rfl rfl ?_
      refine ig_bp C dX1_idle_5 kb_60 ?_
      refine ig_icmp_ge_F C 45 dX1_idle_7 (by decide) (nI_ge (show t < 60 by omega) (by omega)) ?_
      refine ig_this C dX1_idle_10 ?_
      refine ig_get C fM_defined dX1_idle_11 ?_
      refine ig_iln C 1 dX1_idle_14 rfl rfl ?_
      refine ig_ald C 3 rfl (show t < 60 by omega) (v := nI (u)) hd dX1_idle_15 ?_
      refine ig_bp C dX1_idle_16 kb_m4 ?_
      refine ig_icmp_eq_F C 39 dX1_idle_18 (by decide) (nI_ne4 hu) ?_
      refine ig_this C dX1_idle_21 ?_
      refine ig_iln C 1 dX1_idle_22 rfl rfl ?_
      refine ig_bp C dX1_idle_23 kb_10 ?_
      refine ig_iremN C (by omega) (by omega) (by omega) dX1_idle_25 ?_
      refine ig_calli C kM_moduleFor (mM_moduleFor (xl X) S a hR0 (t % 10) (by omega)) rfl rfl ⟨Nat.le_of_ble_eq_true rfl, Nat.le_of_ble_eq_true rfl⟩ (Nat.le_of_ble_eq_true rfl) dX1_idle_26 (fun r S' hp => ?_)
      obtain ⟨rfl, rfl⟩ := hp
      cases hm : mf a.2.2.2 (t % 10) with
      | none =>
        refine ig_iln C 1 dX1_idle_29 rfl rfl ?_
        refine ig_bp C dX1_idle_30 kb_10 ?_
        refine ig_idivN C (by omega) (by omega) (by omega) dX1_idle_32 ?_
        refine ig_icmp_eq_F C 39 dX1_idle_33 (by decide) (fun q => nI_ne4 (show t / 10 < 2 ^ 31 by omega) q.symm) ?_
        refine ig_inc C 0 (nI (cn (f_idl a) t + 1)) [nI (cn (f_idl a) t + 1), nI (t)] dX1_idle_36 rfl (il_inc1 _) rfl rfl ?_
        refine ig_inc C 1 (nI (t + 1)) [nI (cn (f_idl a) t + 1), nI (t + 1)] dX1_idle_39 rfl (il_inc1 _) rfl rfl ?_
        refine ig_goto C 4 dX1_idle_42 (by decide) ?_
        rw [← cn_t (P := f_idl a) (t := t) (by unfold f_idl; rw [hn, hm]; rfl)]
        exact ih (t + 1) (by omega)
      | some m =>
        have hm6 := mf_lt m hm
        refine ig_top (nI m) rfl ?_
        by_cases hmj : m = t / 10
        · refine ig_iln C 1 dX1_idle_29 rfl rfl ?_
          refine ig_bp C dX1_idle_30 kb_10 ?_
          refine ig_idivN C (by omega) (by omega) (by omega) dX1_idle_32 ?_
          refine ig_icmp_eq_T C 39 dX1_idle_33 (by decide) (congrArg nI (show m = t / 10 by omega)) ?_
          refine ig_inc C 1 (nI (t + 1)) [nI (cn (f_idl a) t), nI (t + 1)] dX1_idle_39 rfl (il_inc1 _) rfl rfl ?_
          refine ig_goto C 4 dX1_idle_42 (by decide) ?_
          rw [← cn_f (P := f_idl a) (t := t) (by unfold f_idl; rw [hn, hm, hmj]; simp)]
          exact ih (t + 1) (by omega)
        · refine ig_iln C 1 dX1_idle_29 rfl rfl ?_
          refine ig_bp C dX1_idle_30 kb_10 ?_
          refine ig_idivN C (by omega) (by omega) (by omega) dX1_idle_32 ?_
          refine ig_icmp_eq_F C 39 dX1_idle_33 (by decide) (fun q => absurd ((nI_eq (by omega) (by omega)).mp q) (show ¬ m = t / 10 by omega)) ?_
          refine ig_inc C 0 (nI (cn (f_idl a) t + 1)) [nI (cn (f_idl a) t + 1), nI (t)] dX1_idle_36 rfl (il_inc1 _) rfl rfl ?_
          refine ig_inc C 1 (nI (t + 1)) [nI (cn (f_idl a) t + 1), nI (t + 1)] dX1_idle_39 rfl (il_inc1 _) rfl rfl ?_
          refine ig_goto C 4 dX1_idle_42 (by decide) ?_
          rw [← cn_t (P := f_idl a) (t := t) (by unfold f_idl; rw [hn, hm]; simp [hmj])]
          exact ih (t + 1) (by omega)
set_option maxHeartbeats 1000000 in
set_option maxRecDepth 100000 in
theorem mM_idle (l : Launch) (S : il_S) (a : il_A) (hR : RM a S) : ig_Mi GM l yX1_idle cX1_idle 3 .int 1 22 [] S (fun r S' => r = nI (cn (f_idl a) 60) ∧ S = S') := by
  refine ig_Mi.of GM_ok (by decide) rfl (Nat.le_of_ble_eq_true rfl) (fun X C => ?_)
  refine ig_ic C dX1_idle_0 ki_0 ?_
  refine ig_isn C 0 [nI (0)] dX1_idle_1 rfl rfl rfl rfl ?_
  refine ig_ic C dX1_idle_2 ki_0 ?_
  refine ig_isn C 1 [nI (0), nI (0)] dX1_idle_3 rfl rfl rfl rfl ?_
  refine mM_idle_loop C hR ?_ 60 0 rfl
  refine ig_iln C 0 dX1_idle_45 rfl rfl ?_
  exact ig_ret C (nar_int _) dX1_idle_46 ⟨rfl, rfl⟩

set_option maxHeartbeats 1000000 in
set_option maxRecDepth 100000 in
theorem mM_digest_loop {X : il_X} (C : ig_C GM cX1_digest 3 ({ frames := 4, cells := 0, slots := 0, locals := 89 }) (some .int) X) {Q : State → Prop} {S : il_S} {a : il_A} (hR : RM a S)  (kk : ig_W GM 3 X Q S 28 [(sm (vl a) 48), nI (48)] []) :
    ∀ (n t : Nat), t + n = 48 → ig_W GM 3 X Q S 4 [(sm (vl a) t), nI (t)] [] := by
  have hR0 := hR
  obtain ⟨hZ, hV, h2, h3, h01⟩ := hR
  intro n
  induction n with
  | zero =>
    intro t ht
    have ht : t = 48 := by omega
    subst ht
    refine ig_iln C 1 dX1_digest_4 rfl rfl ?_
    refine ig_bp C dX1_digest_5 kb_48 ?_
    refine ig_icmp_ge_T C 28 dX1_digest_7 (by decide) (nI_le (show 48 ≤ 48 by omega) (by omega)) ?_
    exact kk
  | succ n ih =>
    intro t ht
    have hcn := cn_le (fun _ => true) t
    refine ig_iln C 1 dX1_digest_4 rfl rfl ?_
    refine ig_bp C dX1_digest_5 kb_48 ?_
    refine ig_icmp_ge_F C 28 dX1_digest_7 (by decide) (nI_ge (show t < 48 by omega) (by omega)) ?_
    refine ig_iln C 0 dX1_digest_10 rfl rfl ?_
    refine ig_iln C 1 dX1_digest_11 rfl rfl ?_
    refine ig_ic C dX1_digest_12 ki_1 ?_
    refine ig_iaddN C dX1_digest_13 ?_
    refine ig_this C dX1_digest_14 ?_
    refine ig_iln C 1 dX1_digest_15 rfl rfl ?_
    refine ig_calli C kM_value (mM_value (xl X) S a hR0 (nI t)) rfl rfl ⟨Nat.le_of_ble_eq_true rfl, Nat.le_of_ble_eq_true rfl⟩ (Nat.le_of_ble_eq_true rfl) dX1_digest_16 (fun r S' hp => ?_)
    obtain ⟨rfl, rfl⟩ := hp
    rw [q_value_nI hZ (by omega)]
    refine ig_imul C dX1_digest_19 ?_
    refine ig_iadd C dX1_digest_20 ?_
    refine ig_isn C 0 [((sm (vl a) t) + (nI (t + 1) * (vl a t))), nI (t)] dX1_digest_21 rfl rfl rfl rfl ?_
    refine ig_inc C 1 (nI (t + 1)) [((sm (vl a) t) + (nI (t + 1) * (vl a t))), nI (t + 1)] dX1_digest_22 rfl (il_inc1 _) rfl rfl ?_
    refine ig_goto C 4 dX1_digest_25 (by decide) ?_
    exact ih (t + 1) (by omega)
set_option maxHeartbeats 1000000 in
set_option maxRecDepth 100000 in
theorem mM_digest (l : Launch) (S : il_S) (a : il_A) (hR : RM a S) : ig_Mi GM l yX1_digest cX1_digest 3 .int 4 89 [] S (fun r S' => r = sm (vl a) 48 ∧ S = S') := by
  refine ig_Mi.of GM_ok (by decide) rfl (Nat.le_of_ble_eq_true rfl) (fun X C => ?_)
  refine ig_ic C dX1_digest_0 ki_0 ?_
  refine ig_isn C 0 [nI (0)] dX1_digest_1 rfl rfl rfl rfl ?_
  refine ig_ic C dX1_digest_2 ki_0 ?_
  refine ig_isn C 1 [nI (0), nI (0)] dX1_digest_3 rfl rfl rfl rfl ?_
  refine mM_digest_loop C hR ?_ 48 0 rfl
  refine ig_iln C 0 dX1_digest_28 rfl rfl ?_
  exact ig_ret C (nar_int _) dX1_digest_29 ⟨rfl, rfl⟩
end
section
/-! PURE: the chains of the linker. sg nx bf b v L: from the value v, with b as the one before, the places L follow one another -/
def sg (nx bf : Nat → Int32) : Int32 → Int32 → List Nat → Prop
  | _, v, [] => v = -4
  | b, v, x :: L => v = nI x ∧ x < 48 ∧ bf x = b ∧ sg nx bf (nI x) (nx x) L
theorem sg_congr {nx bf nx' bf' : Nat → Int32} : ∀ (L : List Nat) (b v : Int32), (∀ x ∈ L, nx' x = nx x ∧ bf' x = bf x) → sg nx bf b v L → sg nx' bf' b v L
  | [], _, _, _, h => h
  | x :: L, b, v, hc, h => by
    obtain ⟨h1, h2, h3, h4⟩ := h
    have hx := hc x List.mem_cons_self
    refine ⟨h1, h2, by rw [hx.2]; exact h3, ?_⟩
    rw [hx.1]
    exact sg_congr L _ _ (fun y hy => hc y (List.mem_cons_of_mem _ hy)) h4
theorem sg_lt {nx bf : Nat → Int32} : ∀ (L : List Nat) (b v : Int32), sg nx bf b v L → ∀ x ∈ L, x < 48
  | [], _, _, _, x, hx => by cases hx
  | y :: L, b, v, h, x, hx => by
    rcases List.mem_cons.mp hx with e | e
    · rw [e]; exact h.2.1
    · exact sg_lt L _ _ h.2.2.2 x e
theorem sg_v {nx bf : Nat → Int32} {L : List Nat} {b v : Int32} (h : sg nx bf b v L) : v = oI L.head? := by
  cases L with
  | nil => exact h
  | cons x L => exact h.1
theorem sg_link {nx bf nx' bf' : Nat → Int32} {L : List Nat} {v : Int32} {p : Nat} (h : sg nx bf (-4) v L) (hn : L.Nodup) (hp : p ∉ L) (h48 : p < 48) (h1 : ∀ x, x ≠ p → nx' x = nx x) (h1p : nx' p = v) (h2 : ∀ x, x ≠ p → some x ≠ L.head? → bf' x = bf x) (h2p : bf' p = -4) (h2h : ∀ f, L.head? = some f → bf' f = nI p) : sg nx' bf' (-4) (nI p) (p :: L) := by
  refine ⟨rfl, h48, h2p, ?_⟩
  rw [h1p]
  cases L with
  | nil => exact h
  | cons f L =>
    obtain ⟨a1, a2, a3, a4⟩ := h
    have hpf : f ≠ p := fun e => hp (e ▸ List.mem_cons_self)
    have hnf := List.nodup_cons.mp hn
    refine ⟨a1, a2, h2h f rfl, ?_⟩
    rw [h1 f hpf]
    refine sg_congr L _ _ (fun x hx => ?_) a4
    have hxp : x ≠ p := fun e => hp (e ▸ List.mem_cons_of_mem _ hx)
    refine ⟨h1 x hxp, h2 x hxp (fun e => ?_)⟩
    have e : x = f := Option.some.inj e
    exact hnf.1 (e ▸ hx)
theorem sg_unl0 {nx bf nx' bf' : Nat → Int32} {L2 : List Nat} {p : Nat} {b c v : Int32} (h : sg nx bf b v (p :: L2)) (hn : (p :: L2).Nodup) (h1 : ∀ x ∈ L2, nx' x = nx x) (h2 : ∀ x ∈ L2, some x ≠ L2.head? → bf' x = bf x) (h2h : ∀ y, L2.head? = some y → bf' y = c) : sg nx' bf' c (nx p) L2 := by
  have hn := (List.nodup_cons.mp hn).2
  cases L2 with
  | nil => exact h.2.2.2
  | cons y L =>
    obtain ⟨-, -, -, c1, c2, c3, c4⟩ := h
    have hny := List.nodup_cons.mp hn
    refine ⟨c1, c2, h2h y rfl, ?_⟩
    rw [h1 y List.mem_cons_self]
    refine sg_congr L _ _ (fun x hx => ⟨h1 x (List.mem_cons_of_mem _ hx), h2 x (List.mem_cons_of_mem _ hx) (fun e => ?_)⟩) c4
    have e : x = y := Option.some.inj e
    exact hny.1 (e ▸ hx)
theorem sg_unl1 {nx bf nx' bf' : Nat → Int32} {L2 : List Nat} {a p : Nat} (h1 : nx' a = nx p) (h1o : ∀ x, x ≠ a → nx' x = nx x) (h2 : ∀ x, some x ≠ L2.head? → bf' x = bf x) (h2h : ∀ y, L2.head? = some y → bf' y = nI a) : ∀ (L1 : List Nat) (b v : Int32), sg nx bf b v (L1 ++ a :: p :: L2) → (L1 ++ a :: p :: L2).Nodup → sg nx' bf' b v (L1 ++ a :: L2)
  | [], b, v, h, hn => by
    have hna := List.nodup_cons.mp hn
    obtain ⟨c1, c2, c3, c4⟩ := h
    have hah : some a ≠ L2.head? := fun e => hna.1 (List.mem_cons_of_mem _ (List.mem_of_mem_head? e.symm))
    refine ⟨c1, c2, by rw [h2 a hah]; exact c3, ?_⟩
    rw [h1]
    exact sg_unl0 c4 hna.2 (fun x hx => h1o x (fun e => hna.1 (List.mem_cons_of_mem _ (e ▸ hx)))) (fun x _ hx => h2 x hx) h2h
  | d :: L1, b, v, h, hn => by
    have hnd := List.nodup_cons.mp hn
    obtain ⟨c1, c2, c3, c4⟩ := h
    have hdh : some d ≠ L2.head? := fun e => hnd.1 (List.mem_append_right _ (List.mem_cons_of_mem _ (List.mem_cons_of_mem _ (List.mem_of_mem_head? e.symm))))
    have hda : d ≠ a := fun e => hnd.1 (List.mem_append_right _ (e ▸ List.mem_cons_self))
    refine ⟨c1, c2, by rw [h2 d hdh]; exact c3, ?_⟩
    rw [h1o d hda]
    exact sg_unl1 h1 h1o h2 h2h L1 _ _ c4 hnd.2
theorem sg_bf {nx bf : Nat → Int32} {L2 : List Nat} {a p : Nat} : ∀ (L1 : List Nat) (b v : Int32), sg nx bf b v (L1 ++ a :: p :: L2) → bf p = nI a ∧ nx p = oI L2.head?
  | [], b, v, h => ⟨h.2.2.2.2.2.1, sg_v h.2.2.2.2.2.2⟩
  | _ :: L1, b, v, h => sg_bf L1 _ _ h.2.2.2
/-- the chain of every name holds the places with that name -/
def ChN (c nx bf : Nat → Int32) (F : Nat → Option Nat) : Prop := ∀ s, s < 10 → ∃ L : List Nat, L.Nodup ∧ (∀ p, p ∈ L ↔ F p = some s) ∧ sg nx bf (-4) (c s) L
def upF (F : Nat → Option Nat) (p : Nat) (o : Option Nat) : Nat → Option Nat := fun q => if q = p then o else F q
theorem upF_s {F : Nat → Option Nat} {p : Nat} {o : Option Nat} : upF F p o p = o := if_pos rfl
theorem upF_n {F : Nat → Option Nat} {p q : Nat} {o : Option Nat} (h : q ≠ p) : upF F p o q = F q := if_neg h
/-- names, chains and values agree with F, but for the places E -/
def cJ (S : il_S) (F : Nat → Option Nat) (E : List Nat) : Prop := (∀ q, q < 48 → q ∉ E → S 2 q = oI (F q)) ∧ (∀ q s, F q = some s → q < 48 ∧ s < 10) ∧ ChN (S 7) (S 8) (S 9) F ∧ ∀ q s, q ∉ E → F q = some s → S 1 q = bnd (S 5 s) (S 3 q)
theorem cJ_weak {S : il_S} {F : Nat → Option Nat} {E : List Nat} (p : Nat) (h : cJ S F E) : cJ S F (p :: E) :=
  ⟨fun q h1 h2 => h.1 q h1 (fun e => h2 (List.mem_cons_of_mem _ e)), h.2.1, h.2.2.1, fun q s h1 h2 => h.2.2.2 q s (fun e => h1 (List.mem_cons_of_mem _ e)) h2⟩
/-- only arrays 0, 4, 6 differ, or arrays 1, 2, 3 at an excepted place -/
theorem cJ_same {S S' : il_S} {F : Nat → Option Nat} {E : List Nat} (h : cJ S F E) (h1 : ∀ q, q ∉ E → S' 1 q = S 1 q) (h2 : ∀ q, q ∉ E → S' 2 q = S 2 q) (h3 : ∀ q, q ∉ E → S' 3 q = S 3 q) (h5 : S' 5 = S 5) (h7 : S' 7 = S 7) (h8 : S' 8 = S 8) (h9 : S' 9 = S 9) : cJ S' F E :=
  ⟨fun q a b => by rw [h2 q b]; exact h.1 q a b, h.2.1, by rw [h7, h8, h9]; exact h.2.2.1, fun q s a b => by rw [h1 q a, h3 q a, h5]; exact h.2.2.2 q s a b⟩
theorem cJ_clear {S : il_S} {F : Nat → Option Nat} {E : List Nat} {p : Nat} (h : cJ S F (p :: E)) (hp : F p = none) : cJ (sU S 2 p (-4)) F E := by
  refine ⟨fun q a b => ?_, h.2.1, ?_, fun q s a b => ?_⟩
  · by_cases e : q = p
    · subst e; rw [sU_s, hp]; rfl
    · rw [sU_j e]; exact h.1 q a (fun m => by rcases List.mem_cons.mp m with m | m; exact e m; exact b m)
  · rw [sU_k (by decide), sU_k (by decide), sU_k (by decide)]; exact h.2.2.1
  · have e : q ≠ p := fun e => by rw [e, hp] at b; cases b
    rw [sU_k (by decide), sU_k (by decide), sU_k (by decide)]
    exact h.2.2.2 q s (fun m => by rcases List.mem_cons.mp m with m | m; exact e m; exact a m) b
/-- link(p, s), where o is the first of the chain -/
def lnkF (S : il_S) (p s : Nat) (o : Option Nat) : il_S := match o with
  | none => sU (sU (sU S 8 p (oI none)) 9 p (-4)) 7 s (nI p)
  | some f => sU (sU (sU (sU S 8 p (oI (some f))) 9 p (-4)) 9 f (nI p)) 7 s (nI p)
theorem lnkF_k {S : il_S} {p s k : Nat} {o : Option Nat} (h : k ≠ 7) (h8 : k ≠ 8) (h9 : k ≠ 9) : lnkF S p s o k = S k := by
  cases o <;> simp [lnkF, sU, h, h8, h9]
theorem lnkF_7 {S : il_S} {p s : Nat} {o : Option Nat} : lnkF S p s o 7 = upd (S 7) s (nI p) := by
  cases o <;> simp [lnkF, sU]
theorem lnkF_8 {S : il_S} {p s : Nat} {o : Option Nat} : lnkF S p s o 8 = upd (S 8) p (oI o) := by
  cases o <;> simp [lnkF, sU]
theorem lnkF_9p {S : il_S} {p s : Nat} {o : Option Nat} (h : ∀ f, o = some f → f ≠ p) : lnkF S p s o 9 p = -4 := by
  cases o with
  | none => simp [lnkF, sU, upd]
  | some f => simp [lnkF, sU, upd, Ne.symm (h f rfl)]
theorem lnkF_9f {S : il_S} {p s f : Nat} : lnkF S p s (some f) 9 f = nI p := by
  simp [lnkF, sU, upd]
theorem lnkF_9n {S : il_S} {p s x : Nat} {o : Option Nat} (h : x ≠ p) (ho : some x ≠ o) : lnkF S p s o 9 x = S 9 x := by
  cases o with
  | none => simp [lnkF, sU, upd, h]
  | some f =>
    have hf : x ≠ f := fun e => ho (by rw [e])
    simp [lnkF, sU, upd, h, hf]
theorem ChN_link {S : il_S} {F : Nat → Option Nat} {p s : Nat} (h : ChN (S 7) (S 8) (S 9) F) (hF : F p = none) (hp : p < 48) (hs : s < 10) : ∃ o, S 7 s = oI o ∧ (∀ f, o = some f → f < 48) ∧ ChN (lnkF S p s o 7) (lnkF S p s o 8) (lnkF S p s o 9) (upF F p (some s)) := by
  obtain ⟨L, hn, hm, hg⟩ := h s hs
  have hpL : p ∉ L := fun e => by rw [hm, hF] at e; cases e
  have hhd : ∀ f, L.head? = some f → f ∈ L := fun f e => List.mem_of_mem_head? e
  have hfp : ∀ f, L.head? = some f → f ≠ p := fun f e q => hpL (q ▸ hhd f e)
  refine ⟨L.head?, sg_v hg, fun f e => sg_lt L _ _ hg f (hhd f e), fun t ht => ?_⟩
  by_cases hts : t = s
  · subst hts
    refine ⟨p :: L, List.nodup_cons.mpr ⟨hpL, hn⟩, fun q => ?_, ?_⟩
    · by_cases e : q = p
      · subst e; simp [upF_s]
      · rw [upF_n e, List.mem_cons, ← hm]
        exact ⟨fun z => z.resolve_left e, Or.inr⟩
    · have h7 : lnkF S p t L.head? 7 t = nI p := by rw [lnkF_7]; exact pk_us
      rw [h7]
      refine sg_link hg hn hpL hp (fun x hx => ?_) ?_ (fun x hx hh => lnkF_9n hx hh) (lnkF_9p hfp) (fun f e => ?_)
      · rw [lnkF_8]; exact pk_un hx
      · rw [lnkF_8, pk_us]; exact (sg_v hg).symm
      · rw [e]; exact lnkF_9f
  · obtain ⟨L', hn', hm', hg'⟩ := h t ht
    refine ⟨L', hn', fun q => ?_, ?_⟩
    · rw [hm']
      by_cases e : q = p
      · subst e
        rw [upF_s, hF]
        exact ⟨fun z => (by cases z), fun z => absurd (Option.some.inj z).symm hts⟩
      · rw [upF_n e]
    · have h7 : lnkF S p s L.head? 7 t = S 7 t := by rw [lnkF_7]; exact pk_un hts
      rw [h7]
      refine sg_congr L' _ _ (fun x hx => ?_) hg'
      have hx1 := (hm' x).mp hx
      have hxp : x ≠ p := fun e => by rw [e, hF] at hx1; cases hx1
      have hxf : some x ≠ L.head? := fun e => by
        have := (hm x).mp (hhd x e.symm)
        rw [hx1] at this
        exact hts (Option.some.inj this)
      exact ⟨by rw [lnkF_8]; exact pk_un hxp, lnkF_9n hxp hxf⟩
/-- unlink(p, s), where b and n are the neighbours -/
def ulk1 (S : il_S) (s : Nat) (b n : Option Nat) : il_S := match b with
  | none => sU S 7 s (oI n)
  | some x => sU S 8 x (oI n)
def ulkF (S : il_S) (s : Nat) (b n : Option Nat) : il_S := match n with
  | none => ulk1 S s b n
  | some y => sU (ulk1 S s b n) 9 y (oI b)
theorem ulkF_k {S : il_S} {s k : Nat} {b n : Option Nat} (h : k ≠ 7) (h8 : k ≠ 8) (h9 : k ≠ 9) : ulkF S s b n k = S k := by
  cases b <;> cases n <;> simp [ulkF, ulk1, sU, h, h8, h9]
theorem ulkF_7n {S : il_S} {s t : Nat} {b n : Option Nat} (h : t ≠ s) : ulkF S s b n 7 t = S 7 t := by
  cases b <;> cases n <;> simp [ulkF, ulk1, sU, upd, h]
theorem ulkF_7a {S : il_S} {s a : Nat} {n : Option Nat} : ulkF S s (some a) n 7 = S 7 := by
  cases n <;> simp [ulkF, ulk1, sU]
theorem ulkF_7s {S : il_S} {s : Nat} {n : Option Nat} : ulkF S s none n 7 s = oI n := by
  cases n <;> simp [ulkF, ulk1, sU, upd]
theorem ulkF_8 {S : il_S} {s : Nat} {n : Option Nat} : ulkF S s none n 8 = S 8 := by
  cases n <;> simp [ulkF, ulk1, sU]
theorem ulkF_8a {S : il_S} {s a : Nat} {n : Option Nat} : ulkF S s (some a) n 8 = upd (S 8) a (oI n) := by
  cases n <;> simp [ulkF, ulk1, sU]
theorem ulkF_9n {S : il_S} {s x : Nat} {b n : Option Nat} (h : some x ≠ n) : ulkF S s b n 9 x = S 9 x := by
  cases n with
  | none => cases b <;> simp [ulkF, ulk1, sU]
  | some y =>
    have hy : x ≠ y := fun e => h (by rw [e])
    cases b <;> simp [ulkF, ulk1, sU, upd, hy]
theorem ulkF_9y {S : il_S} {s y : Nat} {b : Option Nat} : ulkF S s b (some y) 9 y = oI b := by
  cases b <;> simp [ulkF, ulk1, sU, upd]
theorem ChN_unlink {S : il_S} {F : Nat → Option Nat} {p s : Nat} (h : ChN (S 7) (S 8) (S 9) F) (hF : F p = some s) (hs : s < 10) : ∃ b n, S 9 p = oI b ∧ S 8 p = oI n ∧ (∀ x, b = some x → x < 48 ∧ x ≠ p) ∧ (∀ y, n = some y → y < 48) ∧ ChN (ulkF S s b n 7) (ulkF S s b n 8) (ulkF S s b n 9) (upF F p none) := by
  obtain ⟨L, hn, hm, hg⟩ := h s hs
  have hpL : p ∈ L := (hm p).mpr hF
  obtain ⟨L1, L2, rfl⟩ := List.append_of_mem hpL
  have hlt := sg_lt _ _ _ hg
  -- the other chains
  have other : ∀ (b n : Option Nat), (∀ x, b = some x → F x = some s) → (∀ y, n = some y → F y = some s) → ∀ t, t < 10 → t ≠ s → ∃ L : List Nat, L.Nodup ∧ (∀ q, q ∈ L ↔ upF F p none q = some t) ∧ sg (ulkF S s b n 8) (ulkF S s b n 9) (-4) (ulkF S s b n 7 t) L := by
    intro b n hb hy t ht hts
    obtain ⟨L', hn', hm', hg'⟩ := h t ht
    refine ⟨L', hn', fun q => ?_, ?_⟩
    · rw [hm']
      by_cases e : q = p
      · subst e
        rw [upF_s, hF]
        exact ⟨fun z => absurd (Option.some.inj z).symm hts, fun z => by cases z⟩
      · rw [upF_n e]
    · rw [ulkF_7n hts]
      refine sg_congr L' _ _ (fun x hx => ?_) hg'
      have hx1 := (hm' x).mp hx
      constructor
      · cases b with
        | none => rw [ulkF_8]
        | some a =>
          rw [ulkF_8a]
          refine pk_un (fun e => ?_)
          have := hb a rfl
          rw [← e, hx1] at this
          exact hts (Option.some.inj this)
      · refine ulkF_9n (fun e => ?_)
        have := hy x e.symm
        rw [hx1] at this
        exact hts (Option.some.inj this)
  have hh2 : ∀ y, L2.head? = some y → y ∈ L2 := fun y e => List.mem_of_mem_head? e
  have hmem2 : ∀ y, L2.head? = some y → F y = some s := fun y e => (hm y).mp (List.mem_append_right _ (List.mem_cons_of_mem _ (hh2 y e)))
  have hlt2 : ∀ y, L2.head? = some y → y < 48 := fun y e => hlt y (List.mem_append_right _ (List.mem_cons_of_mem _ (hh2 y e)))
  have hnd : (L1 ++ L2).Nodup := hn.sublist (List.Sublist.append_left (List.sublist_cons_self p L2) L1)
  have hpn : p ∉ L1 ++ L2 := by
    have h3 := List.nodup_append.mp hn
    intro z
    rcases List.mem_append.mp z with z | z
    · exact h3.2.2 p z p List.mem_cons_self rfl
    · exact (List.nodup_cons.mp h3.2.1).1 z
  have hmem : ∀ q, q ∈ L1 ++ L2 ↔ upF F p none q = some s := by
    intro q
    by_cases e : q = p
    · subst e
      rw [upF_s]
      exact ⟨fun z => absurd z hpn, fun z => by cases z⟩
    · rw [upF_n e, ← hm q]
      simp only [List.mem_append, List.mem_cons]
      constructor
      · rintro (z | z)
        · exact Or.inl z
        · exact Or.inr (Or.inr z)
      · rintro (z | z | z)
        · exact Or.inl z
        · exact absurd z e
        · exact Or.inr z
  rcases List.eq_nil_or_concat L1 with rfl | ⟨L0, a, rfl⟩
  · -- the first
    have hg : sg (S 8) (S 9) (-4) (S 7 s) (p :: L2) := hg
    refine ⟨none, L2.head?, hg.2.2.1, sg_v hg.2.2.2, fun x e => (by cases e), hlt2, fun t ht => ?_⟩
    by_cases hts : t = s
    · subst hts
      refine ⟨L2, hnd, hmem, ?_⟩
      rw [ulkF_7s, ← sg_v hg.2.2.2]
      refine sg_unl0 hg hn (fun x _ => by rw [ulkF_8]) (fun x _ hx => ulkF_9n hx) (fun y e => ?_)
      rw [e]
      exact ulkF_9y
    · exact other none _ (fun x e => by cases e) hmem2 t ht hts
  · -- behind a
    rw [List.concat_eq_append] at hn hg hm hpL hlt hnd hmem hpn
    have hg : sg (S 8) (S 9) (-4) (S 7 s) (L0 ++ a :: p :: L2) := by simpa using hg
    have hn : (L0 ++ a :: p :: L2).Nodup := by simpa using hn
    have haF : F a = some s := (hm a).mp (by simp)
    have hap : a ≠ p := fun e => by
      have := (List.nodup_append.mp hn).2.1
      exact (List.nodup_cons.mp this).1 (e ▸ List.mem_cons_self)
    obtain ⟨hb1, hb2⟩ := sg_bf L0 _ _ hg
    refine ⟨some a, L2.head?, hb1, hb2, fun x e => (by cases e; exact ⟨hlt a (by simp), hap⟩), hlt2, fun t ht => ?_⟩
    by_cases hts : t = s
    · subst hts
      refine ⟨L0 ++ a :: L2, by simpa using hnd, fun q => by rw [← hmem q]; simp, ?_⟩
      rw [ulkF_7a]
      refine sg_unl1 (p := p) ?_ (fun x hx => ?_) (fun x hx => ulkF_9n hx) (fun y e => ?_) L0 _ _ hg hn
      · rw [ulkF_8a, pk_us]; exact hb2.symm
      · rw [ulkF_8a]; exact pk_un hx
      · rw [e]; exact ulkF_9y
    · exact other (some a) _ (fun x e => by cases e; exact haF) hmem2 t ht hts
/-- unlink, with all that agrees -/
theorem cJ_unlink {S : il_S} {F : Nat → Option Nat} {E : List Nat} {p s : Nat} (h : cJ S F E) (hF : F p = some s) : ∃ b n, S 9 p = oI b ∧ S 8 p = oI n ∧ (∀ x, b = some x → x < 48 ∧ x ≠ p) ∧ (∀ y, n = some y → y < 48) ∧ cJ (ulkF S s b n) (upF F p none) (p :: E) := by
  obtain ⟨hp, hs⟩ := h.2.1 p s hF
  obtain ⟨b, n, h1, h2, h3, h4, h5⟩ := ChN_unlink h.2.2.1 hF hs
  refine ⟨b, n, h1, h2, h3, h4, fun q a e => ?_, fun q t e => ?_, h5, fun q t a e => ?_⟩
  · have hq : q ≠ p := fun z => e (z ▸ List.mem_cons_self)
    rw [ulkF_k (by decide) (by decide) (by decide), upF_n hq]
    exact h.1 q a (fun z => e (List.mem_cons_of_mem _ z))
  · by_cases hq : q = p
    · rw [hq, upF_s] at e; cases e
    · rw [upF_n hq] at e; exact h.2.1 q t e
  · have hq : q ≠ p := fun z => a (z ▸ List.mem_cons_self)
    rw [upF_n hq] at e
    rw [ulkF_k (by decide) (by decide) (by decide), ulkF_k (by decide) (by decide) (by decide), ulkF_k (by decide) (by decide) (by decide)]
    exact h.2.2.2 q t (fun z => a (List.mem_cons_of_mem _ z)) e
/-- put(p, v, s, x) of a reference -/
def putF (S : il_S) (p : Nat) (v : Int32) (s : Nat) (x : Int32) (o : Option Nat) : il_S := sU (lnkF (sU (sU (sU S 1 p v) 2 p (nI s)) 3 p x) p s o) 1 p (bnd (S 5 s) x)
def putC (S : il_S) (p : Nat) (v x : Int32) : il_S := sU (sU (sU S 1 p v) 2 p (-4)) 3 p x
theorem putF_k {S : il_S} {p s k : Nat} {v x : Int32} {o : Option Nat} (h : k = 0 ∨ k = 4 ∨ k = 5 ∨ k = 6) : putF S p v s x o k = S k := by
  unfold putF
  rcases h with rfl | rfl | rfl | rfl <;> rw [sU_k (by decide), lnkF_k (by decide) (by decide) (by decide), sU_k (by decide), sU_k (by decide), sU_k (by decide)]
theorem putF_1 {S : il_S} {p s : Nat} {v x : Int32} {o : Option Nat} : putF S p v s x o 1 p = bnd (S 5 s) x := sU_s
theorem putF_1n {S : il_S} {p s q : Nat} {v x : Int32} {o : Option Nat} (h : q ≠ p) : putF S p v s x o 1 q = S 1 q := by
  unfold putF
  rw [sU_j h, lnkF_k (by decide) (by decide) (by decide), sU_k (by decide), sU_k (by decide), sU_j h]
theorem putF_2 {S : il_S} {p s : Nat} {v x : Int32} {o : Option Nat} : putF S p v s x o 2 p = nI s := by
  unfold putF
  rw [sU_k (by decide), lnkF_k (by decide) (by decide) (by decide), sU_k (by decide), sU_s]
theorem putF_2n {S : il_S} {p s q : Nat} {v x : Int32} {o : Option Nat} (h : q ≠ p) : putF S p v s x o 2 q = S 2 q := by
  unfold putF
  rw [sU_k (by decide), lnkF_k (by decide) (by decide) (by decide), sU_k (by decide), sU_j h, sU_k (by decide)]
theorem putF_3 {S : il_S} {p s : Nat} {v x : Int32} {o : Option Nat} : putF S p v s x o 3 p = x := by
  unfold putF
  rw [sU_k (by decide), lnkF_k (by decide) (by decide) (by decide), sU_s]
theorem putF_3n {S : il_S} {p s q : Nat} {v x : Int32} {o : Option Nat} (h : q ≠ p) : putF S p v s x o 3 q = S 3 q := by
  unfold putF
  rw [sU_k (by decide), lnkF_k (by decide) (by decide) (by decide), sU_j h, sU_k (by decide), sU_k (by decide)]
theorem putC_k {S : il_S} {p k : Nat} {v x : Int32} (h1 : k ≠ 1) (h2 : k ≠ 2) (h3 : k ≠ 3) : putC S p v x k = S k := by
  unfold putC
  rw [sU_k h3, sU_k h2, sU_k h1]
theorem putC_1 {S : il_S} {p : Nat} {v x : Int32} : putC S p v x 1 p = v := by simp [putC, sU, upd]
theorem putC_1n {S : il_S} {p q : Nat} {v x : Int32} (h : q ≠ p) : putC S p v x 1 q = S 1 q := by simp [putC, sU, upd, h]
theorem putC_2 {S : il_S} {p : Nat} {v x : Int32} : putC S p v x 2 p = -4 := by simp [putC, sU, upd]
theorem putC_2n {S : il_S} {p q : Nat} {v x : Int32} (h : q ≠ p) : putC S p v x 2 q = S 2 q := by simp [putC, sU, upd, h]
theorem putC_3 {S : il_S} {p : Nat} {v x : Int32} : putC S p v x 3 p = x := by simp [putC, sU, upd]
theorem putC_3n {S : il_S} {p q : Nat} {v x : Int32} (h : q ≠ p) : putC S p v x 3 q = S 3 q := by simp [putC, sU, upd, h]
theorem cJ_putF {S : il_S} {F : Nat → Option Nat} {E : List Nat} {p s : Nat} {v x : Int32} (h : cJ S F (p :: E)) (hF : F p = none) (hp : p < 48) (hs : s < 10) : ∃ o, S 7 s = oI o ∧ (∀ f, o = some f → f < 48) ∧ cJ (putF S p v s x o) (upF F p (some s)) E := by
  have hC : ChN ((sU (sU (sU S 1 p v) 2 p (nI s)) 3 p x) 7) ((sU (sU (sU S 1 p v) 2 p (nI s)) 3 p x) 8) ((sU (sU (sU S 1 p v) 2 p (nI s)) 3 p x) 9) F := h.2.2.1
  obtain ⟨o, h1, h2, h3⟩ := ChN_link hC hF hp hs
  refine ⟨o, h1, h2, fun q a e => ?_, fun q t e => ?_, h3, fun q t a e => ?_⟩
  · by_cases hq : q = p
    · subst hq
      rw [putF_2, upF_s]
      rfl
    · rw [putF_2n hq, upF_n hq]
      exact h.1 q a (fun m => by rcases List.mem_cons.mp m with m | m; exact hq m; exact e m)
  · by_cases hq : q = p
    · rw [hq, upF_s] at e
      cases e
      rw [hq]
      exact ⟨hp, hs⟩
    · rw [upF_n hq] at e; exact h.2.1 q t e
  · rw [putF_k (Or.inr (Or.inr (Or.inl rfl)))]
    by_cases hq : q = p
    · subst hq
      rw [upF_s] at e
      cases e
      rw [putF_1, putF_3]
    · rw [upF_n hq] at e
      rw [putF_1n hq, putF_3n hq]
      exact h.2.2.2 q t (fun m => by rcases List.mem_cons.mp m with m | m; exact hq m; exact a m) e
theorem cJ_putC {S : il_S} {F : Nat → Option Nat} {E : List Nat} {p : Nat} {v x : Int32} (h : cJ S F (p :: E)) (hF : F p = none) : cJ (putC S p v x) F E := by
  refine ⟨fun q a e => ?_, h.2.1, h.2.2.1, fun q t a e => ?_⟩
  · by_cases hq : q = p
    · subst hq
      rw [putC_2, hF]
      rfl
    · rw [putC_2n hq]
      exact h.1 q a (fun m => by rcases List.mem_cons.mp m with m | m; exact hq m; exact e m)
  · have hq : q ≠ p := fun z => by rw [z, hF] at e; cases e
    rw [putC_1n hq, putC_3n hq, putC_k (k := 5) (by decide) (by decide) (by decide)]
    exact h.2.2.2 q t (fun m => by rcases List.mem_cons.mp m with m | m; exact hq m; exact a m) e
/-- rebind(s): all places of the chain L written anew -/
def rbF (S : il_S) (s : Nat) (L : List Nat) : il_S := fun a => if a = 1 then (fun q => if q ∈ L then bnd (S 5 s) (S 3 q) else S 1 q) else S a
theorem rbF_k {S : il_S} {s k : Nat} {L : List Nat} (h : k ≠ 1) : rbF S s L k = S k := if_neg h
theorem rbF_in {S : il_S} {s q : Nat} {L : List Nat} (h : q ∈ L) : rbF S s L 1 q = bnd (S 5 s) (S 3 q) := by
  unfold rbF
  rw [if_pos rfl]
  exact if_pos h
theorem rbF_out {S : il_S} {s q : Nat} {L : List Nat} (h : q ∉ L) : rbF S s L 1 q = S 1 q := by
  unfold rbF
  rw [if_pos rfl]
  exact if_neg h
theorem rbF_nil {S : il_S} {s : Nat} : rbF S s [] = S := by
  funext a
  by_cases h : a = 1
  · subst h
    funext q
    exact rbF_out (fun z => by cases z)
  · exact rbF_k h
theorem rbF_cons {S : il_S} {s x : Nat} {L : List Nat} : rbF (sU S 1 x (bnd (S 5 s) (S 3 x))) s L = rbF S s (x :: L) := by
  funext a
  by_cases h : a = 1
  · subst h
    funext q
    by_cases hq : q ∈ L
    · rw [rbF_in hq, rbF_in (List.mem_cons_of_mem _ hq), sU_k (by decide), sU_k (by decide)]
    · rw [rbF_out hq]
      by_cases hx : q = x
      · subst hx
        rw [sU_s, rbF_in List.mem_cons_self]
      · rw [sU_j hx, rbF_out (fun m => by rcases List.mem_cons.mp m with m | m; exact hx m; exact hq m)]
  · rw [rbF_k h, rbF_k h, sU_k h]
theorem cJ_known {S : il_S} {F : Nat → Option Nat} {s : Nat} {k : Int32} {L : List Nat} (h : cJ S F []) (hL : ∀ p, p ∈ L ↔ F p = some s) : cJ (rbF (sU S 5 s k) s L) F [] := by
  refine ⟨fun q a e => ?_, h.2.1, ?_, fun q t a e => ?_⟩
  · rw [rbF_k (by decide), sU_k (by decide)]; exact h.1 q a e
  · rw [rbF_k (by decide), rbF_k (by decide), rbF_k (by decide)]
    exact h.2.2.1
  · rw [rbF_k (k := 5) (by decide), rbF_k (k := 3) (by decide), sU_k (k := 5) (a := 3) (by decide)]
    by_cases hq : q ∈ L
    · have hs := (hL q).mp hq
      rw [hs] at e
      cases e
      rw [rbF_in hq, sU_k (k := 5) (a := 3) (by decide)]
    · have hs : t ≠ s := fun z => hq ((hL q).mpr (z ▸ e))
      rw [rbF_out hq, sU_k (k := 5) (a := 1) (by decide), sU_j hs]
      exact h.2.2.2 q t a e
end
section
/-! THE LINKER, leaves -/
def il_nb (o : Option Nat) : Int32 := match o with
  | none => nI 1
  | some _ => nI 0
set_option maxHeartbeats 1000000 in
set_option maxRecDepth 100000 in
theorem mX_bad (l : Launch) (S : il_S) (x : Int32) : ig_Mi GX l yX0_bad cX0_bad 2 .boolean 0 0 [x] S (fun r S' => r = il_nb (il_ix x 6) ∧ S = S') := by
  refine ig_Mi.of GX_ok (by decide) rfl (Nat.le_of_ble_eq_true rfl) (fun X C => ?_)
  rcases il_cases x (n := 6) (by decide) with ⟨h, e⟩ | ⟨h, h6, e⟩ | ⟨j, hj, rfl, e⟩
  · refine ig_iln C 0 dX0_bad_0 rfl rfl ?_
    refine ig_if_lt_T C 10 dX0_bad_1 (by decide) h ?_
    refine ig_ic C dX0_bad_10 ki_1 ?_
    refine ig_goto C 15 dX0_bad_11 (by decide) ?_
    exact ig_ret C rfl dX0_bad_15 ⟨by rw [e]; rfl, rfl⟩
  · refine ig_iln C 0 dX0_bad_0 rfl rfl ?_
    refine ig_if_lt_F C 10 dX0_bad_1 (by decide) h ?_
    refine ig_iln C 0 dX0_bad_4 rfl rfl ?_
    refine ig_bp C dX0_bad_5 kb_6 ?_
    refine ig_icmp_lt_F C 14 dX0_bad_7 (by decide) (il_nlt (Nat.le_refl 6) (by decide) h6) ?_
    refine ig_ic C dX0_bad_10 ki_1 ?_
    refine ig_goto C 15 dX0_bad_11 (by decide) ?_
    exact ig_ret C rfl dX0_bad_15 ⟨by rw [e]; rfl, rfl⟩
  · refine ig_iln C 0 dX0_bad_0 rfl rfl ?_
    refine ig_if_lt_F C 10 dX0_bad_1 (by decide) (nI_pos (show j < 2 ^ 31 by omega)) ?_
    refine ig_iln C 0 dX0_bad_4 rfl rfl ?_
    refine ig_bp C dX0_bad_5 kb_6 ?_
    refine ig_icmp_lt_T C 14 dX0_bad_7 (by decide) (nI_lt (show j < 6 by omega) (by omega)) ?_
    refine ig_ic C dX0_bad_14 ki_0 ?_
    exact ig_ret C rfl dX0_bad_15 ⟨by rw [e]; rfl, rfl⟩

set_option maxHeartbeats 1000000 in
set_option maxRecDepth 100000 in
theorem mX_badName (l : Launch) (S : il_S) (x : Int32) : ig_Mi GX l yX0_badName cX0_badName 2 .boolean 0 0 [x] S (fun r S' => r = il_nb (il_ix x 10) ∧ S = S') := by
  refine ig_Mi.of GX_ok (by decide) rfl (Nat.le_of_ble_eq_true rfl) (fun X C => ?_)
  rcases il_cases x (n := 10) (by decide) with ⟨h, e⟩ | ⟨h, h6, e⟩ | ⟨j, hj, rfl, e⟩
  · refine ig_iln C 0 dX0_badName_0 rfl rfl ?_
    refine ig_if_lt_T C 10 dX0_badName_1 (by decide) h ?_
    refine ig_ic C dX0_badName_10 ki_1 ?_
    refine ig_goto C 15 dX0_badName_11 (by decide) ?_
    exact ig_ret C rfl dX0_badName_15 ⟨by rw [e]; rfl, rfl⟩
  · refine ig_iln C 0 dX0_badName_0 rfl rfl ?_
    refine ig_if_lt_F C 10 dX0_badName_1 (by decide) h ?_
    refine ig_iln C 0 dX0_badName_4 rfl rfl ?_
    refine ig_bp C dX0_badName_5 kb_10 ?_
    refine ig_icmp_lt_F C 14 dX0_badName_7 (by decide) (il_nlt (Nat.le_refl 10) (by decide) h6) ?_
    refine ig_ic C dX0_badName_10 ki_1 ?_
    refine ig_goto C 15 dX0_badName_11 (by decide) ?_
    exact ig_ret C rfl dX0_badName_15 ⟨by rw [e]; rfl, rfl⟩
  · refine ig_iln C 0 dX0_badName_0 rfl rfl ?_
    refine ig_if_lt_F C 10 dX0_badName_1 (by decide) (nI_pos (show j < 2 ^ 31 by omega)) ?_
    refine ig_iln C 0 dX0_badName_4 rfl rfl ?_
    refine ig_bp C dX0_badName_5 kb_10 ?_
    refine ig_icmp_lt_T C 14 dX0_badName_7 (by decide) (nI_lt (show j < 10 by omega) (by omega)) ?_
    refine ig_ic C dX0_badName_14 ki_0 ?_
    exact ig_ret C rfl dX0_badName_15 ⟨by rw [e]; rfl, rfl⟩

set_option maxHeartbeats 1000000 in
set_option maxRecDepth 100000 in
theorem mX_words (l : Launch) (S : il_S) (m b0 b1 : Nat) (hm : m < 6) (h0 : S 0 m = nI b0) (h1 : S 0 (m + 1) = nI b1) (hb : b0 ≤ b1) : ig_Mi GX l yX0_words cX0_words 2 .int 0 0 [nI (m)] S (fun r S' => r = nI (b1 - b0) ∧ S = S') := by
  refine ig_Mi.of GX_ok (by decide) rfl (Nat.le_of_ble_eq_true rfl) (fun X C => ?_)
  refine ig_this C dX0_words_0 ?_
  refine ig_get C fX_start dX0_words_1 ?_
  refine ig_iln C 0 dX0_words_4 rfl rfl ?_
  refine ig_ic C dX0_words_5 ki_1 ?_
  refine ig_iaddN C dX0_words_6 ?_
  refine ig_ald C 0 rfl (show m + 1 < 7 by omega) (v := nI (b1)) h1 dX0_words_7 ?_
  refine ig_this C dX0_words_8 ?_
  refine ig_get C fX_start dX0_words_9 ?_
  refine ig_iln C 0 dX0_words_12 rfl rfl ?_
  refine ig_ald C 0 rfl (show m < 7 by omega) (v := nI (b0)) h0 dX0_words_13 ?_
  refine ig_isubN C (show b0 ≤ b1 by omega) dX0_words_14 ?_
  exact ig_ret C (nar_int _) dX0_words_15 ⟨rfl, rfl⟩

set_option maxHeartbeats 1000000 in
set_option maxRecDepth 100000 in
theorem mX_link (l : Launch) (S : il_S) (p s : Nat) (hp : p < 48) (hs : s < 10) (o : Option Nat) (ho : S 7 s = oI o) (hf : ∀ f, o = some f → f < 48) : ig_Mv GX l yX0_link cX0_link 4 0 0 [nI (p), nI (s)] S (fun S' => lnkF S p s o = S') := by
  refine ig_Mv.of GX_ok (by decide) rfl (Nat.le_of_ble_eq_true rfl) (fun X C => ?_)
  cases o with
  | none =>
    refine ig_this C dX0_link_0 ?_
    refine ig_get C fX_chain dX0_link_1 ?_
    refine ig_iln C 1 dX0_link_4 rfl rfl ?_
    refine ig_ald C 7 rfl (show s < 10 by omega) (v := (oI none)) ho dX0_link_5 ?_
    refine ig_isn C 2 [nI (p), nI (s), (oI none)] dX0_link_6 rfl rfl rfl rfl ?_
    refine ig_this C dX0_link_7 ?_
    refine ig_get C fX_next dX0_link_8 ?_
    refine ig_iln C 0 dX0_link_11 rfl rfl ?_
    refine ig_iln C 2 dX0_link_12 rfl rfl ?_
    refine ig_ast C 8 rfl (show p < 48 by omega) dX0_link_13 ?_
    refine ig_this C dX0_link_14 ?_
    refine ig_get C fX_before dX0_link_15 ?_
    refine ig_iln C 0 dX0_link_18 rfl rfl ?_
    refine ig_bp C dX0_link_19 kb_m4 ?_
    refine ig_ast C 9 rfl (show p < 48 by omega) dX0_link_21 ?_
    refine ig_iln C 2 dX0_link_22 rfl rfl ?_
    refine ig_if_lt_T C 33 dX0_link_23 (by decide) (by decide) ?_
    refine ig_this C dX0_link_33 ?_
    refine ig_get C fX_chain dX0_link_34 ?_
    refine ig_iln C 1 dX0_link_37 rfl rfl ?_
    refine ig_iln C 0 dX0_link_38 rfl rfl ?_
    refine ig_ast C 7 rfl (show s < 10 by omega) dX0_link_39 ?_
    exact ig_vret C dX0_link_40 rfl
  | some f =>
    have hf := hf f rfl
    refine ig_this C dX0_link_0 ?_
    refine ig_get C fX_chain dX0_link_1 ?_
    refine ig_iln C 1 dX0_link_4 rfl rfl ?_
    refine ig_ald C 7 rfl (show s < 10 by omega) (v := nI (f)) ho dX0_link_5 ?_
    refine ig_isn C 2 [nI (p), nI (s), nI (f)] dX0_link_6 rfl rfl rfl rfl ?_
    refine ig_this C dX0_link_7 ?_
    refine ig_get C fX_next dX0_link_8 ?_
    refine ig_iln C 0 dX0_link_11 rfl rfl ?_
    refine ig_iln C 2 dX0_link_12 rfl rfl ?_
    refine ig_ast C 8 rfl (show p < 48 by omega) dX0_link_13 ?_
    refine ig_this C dX0_link_14 ?_
    refine ig_get C fX_before dX0_link_15 ?_
    refine ig_iln C 0 dX0_link_18 rfl rfl ?_
    refine ig_bp C dX0_link_19 kb_m4 ?_
    refine ig_ast C 9 rfl (show p < 48 by omega) dX0_link_21 ?_
    refine ig_iln C 2 dX0_link_22 rfl rfl ?_
    refine ig_if_lt_F C 33 dX0_link_23 (by decide) (nI_pos (show f < 2 ^ 31 by omega)) ?_
    refine ig_this C dX0_link_26 ?_
    refine ig_get C fX_before dX0_link_27 ?_
    refine ig_iln C 2 dX0_link_30 rfl rfl ?_
    refine ig_iln C 0 dX0_link_31 rfl rfl ?_
    refine ig_ast C 9 rfl (show f < 48 by omega) dX0_link_32 ?_
    refine ig_this C dX0_link_33 ?_
    refine ig_get C fX_chain dX0_link_34 ?_
    refine ig_iln C 1 dX0_link_37 rfl rfl ?_
    refine ig_iln C 0 dX0_link_38 rfl rfl ?_
    refine ig_ast C 7 rfl (show s < 10 by omega) dX0_link_39 ?_
    exact ig_vret C dX0_link_40 rfl

set_option maxHeartbeats 1000000 in
set_option maxRecDepth 100000 in
theorem mX_unlink (l : Launch) (S : il_S) (p s : Nat) (hp : p < 48) (hs : s < 10) (b n : Option Nat) (hb : S 9 p = oI b) (hn : S 8 p = oI n) (hbr : ∀ x, b = some x → x < 48 ∧ x ≠ p) (hyr : ∀ y, n = some y → y < 48) : ig_Mv GX l yX0_unlink cX0_unlink 3 0 0 [nI (p), nI (s)] S (fun S' => ulkF S s b n = S') := by
  refine ig_Mv.of GX_ok (by decide) rfl (Nat.le_of_ble_eq_true rfl) (fun X C => ?_)
  cases b with
  | none =>
    cases n with
    | none =>
      refine ig_this C dX0_unlink_0 ?_
      refine ig_get C fX_before dX0_unlink_1 ?_
      refine ig_iln C 0 dX0_unlink_4 rfl rfl ?_
      refine ig_ald C 9 rfl (show p < 48 by omega) (v := (oI none)) hb dX0_unlink_5 ?_
      refine ig_if_lt_T C 29 dX0_unlink_6 (by decide) (by decide) ?_
      refine ig_this C dX0_unlink_29 ?_
      refine ig_get C fX_chain dX0_unlink_30 ?_
      refine ig_iln C 1 dX0_unlink_33 rfl rfl ?_
      refine ig_this C dX0_unlink_34 ?_
      refine ig_get C fX_next dX0_unlink_35 ?_
      refine ig_iln C 0 dX0_unlink_38 rfl rfl ?_
      refine ig_ald C 8 rfl (show p < 48 by omega) (v := (oI none)) hn dX0_unlink_39 ?_
      refine ig_ast C 7 rfl (show s < 10 by omega) dX0_unlink_40 ?_
      refine ig_this C dX0_unlink_41 ?_
      refine ig_get C fX_next dX0_unlink_42 ?_
      refine ig_iln C 0 dX0_unlink_45 rfl rfl ?_
      refine ig_ald C 8 rfl (show p < 48 by omega) (v := (oI none)) (by rw [sU_k (by decide)]; exact hn) dX0_unlink_46 ?_
      refine ig_if_lt_T C 67 dX0_unlink_47 (by decide) (by decide) ?_
      exact ig_vret C dX0_unlink_67 rfl
    | some y =>
      have hy := hyr y rfl
      refine ig_this C dX0_unlink_0 ?_
      refine ig_get C fX_before dX0_unlink_1 ?_
      refine ig_iln C 0 dX0_unlink_4 rfl rfl ?_
      refine ig_ald C 9 rfl (show p < 48 by omega) (v := (oI none)) hb dX0_unlink_5 ?_
      refine ig_if_lt_T C 29 dX0_unlink_6 (by decide) (by decide) ?_
      refine ig_this C dX0_unlink_29 ?_
      refine ig_get C fX_chain dX0_unlink_30 ?_
      refine ig_iln C 1 dX0_unlink_33 rfl rfl ?_
      refine ig_this C dX0_unlink_34 ?_
      refine ig_get C fX_next dX0_unlink_35 ?_
      refine ig_iln C 0 dX0_unlink_38 rfl rfl ?_
      refine ig_ald C 8 rfl (show p < 48 by omega) (v := nI (y)) hn dX0_unlink_39 ?_
      refine ig_ast C 7 rfl (show s < 10 by omega) dX0_unlink_40 ?_
      refine ig_this C dX0_unlink_41 ?_
      refine ig_get C fX_next dX0_unlink_42 ?_
      refine ig_iln C 0 dX0_unlink_45 rfl rfl ?_
      refine ig_ald C 8 rfl (show p < 48 by omega) (v := nI (y)) (by rw [sU_k (by decide)]; exact hn) dX0_unlink_46 ?_
      refine ig_if_lt_F C 67 dX0_unlink_47 (by decide) (nI_pos (show y < 2 ^ 31 by omega)) ?_
      refine ig_this C dX0_unlink_50 ?_
      refine ig_get C fX_before dX0_unlink_51 ?_
      refine ig_this C dX0_unlink_54 ?_
      refine ig_get C fX_next dX0_unlink_55 ?_
      refine ig_iln C 0 dX0_unlink_58 rfl rfl ?_
      refine ig_ald C 8 rfl (show p < 48 by omega) (v := nI (y)) (by rw [sU_k (by decide)]; exact hn) dX0_unlink_59 ?_
      refine ig_this C dX0_unlink_60 ?_
      refine ig_get C fX_before dX0_unlink_61 ?_
      refine ig_iln C 0 dX0_unlink_64 rfl rfl ?_
      refine ig_ald C 9 rfl (show p < 48 by omega) (v := (oI none)) (by rw [sU_k (by decide)]; exact hb) dX0_unlink_65 ?_
      refine ig_ast C 9 rfl (show y < 48 by omega) dX0_unlink_66 ?_
      exact ig_vret C dX0_unlink_67 rfl
  | some a =>
    obtain ⟨ha, hap⟩ := hbr a rfl
    cases n with
    | none =>
      refine ig_this C dX0_unlink_0 ?_
      refine ig_get C fX_before dX0_unlink_1 ?_
      refine ig_iln C 0 dX0_unlink_4 rfl rfl ?_
      refine ig_ald C 9 rfl (show p < 48 by omega) (v := nI (a)) hb dX0_unlink_5 ?_
      refine ig_if_lt_F C 29 dX0_unlink_6 (by decide) (nI_pos (show a < 2 ^ 31 by omega)) ?_
      refine ig_this C dX0_unlink_9 ?_
      refine ig_get C fX_next dX0_unlink_10 ?_
      refine ig_this C dX0_unlink_13 ?_
      refine ig_get C fX_before dX0_unlink_14 ?_
      refine ig_iln C 0 dX0_unlink_17 rfl rfl ?_
      refine ig_ald C 9 rfl (show p < 48 by omega) (v := nI (a)) hb dX0_unlink_18 ?_
      refine ig_this C dX0_unlink_19 ?_
      refine ig_get C fX_next dX0_unlink_20 ?_
      refine ig_iln C 0 dX0_unlink_23 rfl rfl ?_
      refine ig_ald C 8 rfl (show p < 48 by omega) (v := (oI none)) hn dX0_unlink_24 ?_
      refine ig_ast C 8 rfl (show a < 48 by omega) dX0_unlink_25 ?_
      refine ig_goto C 41 dX0_unlink_26 (by decide) ?_
      refine ig_this C dX0_unlink_41 ?_
      refine ig_get C fX_next dX0_unlink_42 ?_
      refine ig_iln C 0 dX0_unlink_45 rfl rfl ?_
      refine ig_ald C 8 rfl (show p < 48 by omega) (v := (oI none)) (by rw [sU_j (Ne.symm hap)]; exact hn) dX0_unlink_46 ?_
      refine ig_if_lt_T C 67 dX0_unlink_47 (by decide) (by decide) ?_
      exact ig_vret C dX0_unlink_67 rfl
    | some y =>
      have hy := hyr y rfl
      refine ig_this C dX0_unlink_0 ?_
      refine ig_get C fX_before dX0_unlink_1 ?_
      refine ig_iln C 0 dX0_unlink_4 rfl rfl ?_
      refine ig_ald C 9 rfl (show p < 48 by omega) (v := nI (a)) hb dX0_unlink_5 ?_
      refine ig_if_lt_F C 29 dX0_unlink_6 (by decide) (nI_pos (show a < 2 ^ 31 by omega)) ?_
      refine ig_this C dX0_unlink_9 ?_
      refine ig_get C fX_next dX0_unlink_10 ?_
      refine ig_this C dX0_unlink_13 ?_
      refine ig_get C fX_before dX0_unlink_14 ?_
      refine ig_iln C 0 dX0_unlink_17 rfl rfl ?_
      refine ig_ald C 9 rfl (show p < 48 by omega) (v := nI (a)) hb dX0_unlink_18 ?_
      refine ig_this C dX0_unlink_19 ?_
      refine ig_get C fX_next dX0_unlink_20 ?_
      refine ig_iln C 0 dX0_unlink_23 rfl rfl ?_
      refine ig_ald C 8 rfl (show p < 48 by omega) (v := nI (y)) hn dX0_unlink_24 ?_
      refine ig_ast C 8 rfl (show a < 48 by omega) dX0_unlink_25 ?_
      refine ig_goto C 41 dX0_unlink_26 (by decide) ?_
      refine ig_this C dX0_unlink_41 ?_
      refine ig_get C fX_next dX0_unlink_42 ?_
      refine ig_iln C 0 dX0_unlink_45 rfl rfl ?_
      refine ig_ald C 8 rfl (show p < 48 by omega) (v := nI (y)) (by rw [sU_j (Ne.symm hap)]; exact hn) dX0_unlink_46 ?_
      refine ig_if_lt_F C 67 dX0_unlink_47 (by decide) (nI_pos (show y < 2 ^ 31 by omega)) ?_
      refine ig_this C dX0_unlink_50 ?_
      refine ig_get C fX_before dX0_unlink_51 ?_
      refine ig_this C dX0_unlink_54 ?_
      refine ig_get C fX_next dX0_unlink_55 ?_
      refine ig_iln C 0 dX0_unlink_58 rfl rfl ?_
      refine ig_ald C 8 rfl (show p < 48 by omega) (v := nI (y)) (by rw [sU_j (Ne.symm hap)]; exact hn) dX0_unlink_59 ?_
      refine ig_this C dX0_unlink_60 ?_
      refine ig_get C fX_before dX0_unlink_61 ?_
      refine ig_iln C 0 dX0_unlink_64 rfl rfl ?_
      refine ig_ald C 9 rfl (show p < 48 by omega) (v := nI (a)) (by rw [sU_k (by decide)]; exact hb) dX0_unlink_65 ?_
      refine ig_ast C 9 rfl (show y < 48 by omega) dX0_unlink_66 ?_
      exact ig_vret C dX0_unlink_67 rfl

set_option maxHeartbeats 1000000 in
set_option maxRecDepth 100000 in
theorem mX_bind (l : Launch) (S : il_S) (p s : Nat) (hp : p < 48) (hs : s < 10) (h2 : S 2 p = nI s) : ig_Mv GX l yX0_bind cX0_bind 3 0 0 [nI (p)] S (fun S' => sU S 1 p (bnd (S 5 s) (S 3 p)) = S') := by
  refine ig_Mv.of GX_ok (by decide) rfl (Nat.le_of_ble_eq_true rfl) (fun X C => ?_)
  by_cases hc : S 5 s < 0
  · have hv : bnd (S 5 s) (S 3 p) = -1 := if_pos hc
    rw [hv]
    refine ig_this C dX0_bind_0 ?_
    refine ig_get C fX_name dX0_bind_1 ?_
    refine ig_iln C 0 dX0_bind_4 rfl rfl ?_
    refine ig_ald C 2 rfl (show p < 48 by omega) (v := nI (s)) h2 dX0_bind_5 ?_
    refine ig_isn C 1 [nI (p), nI (s)] dX0_bind_6 rfl rfl rfl rfl ?_
    refine ig_this C dX0_bind_7 ?_
    refine ig_get C fX_value dX0_bind_8 ?_
    refine ig_iln C 0 dX0_bind_11 rfl rfl ?_
    refine ig_this C dX0_bind_12 ?_
    refine ig_get C fX_known dX0_bind_13 ?_
    refine ig_iln C 1 dX0_bind_16 rfl rfl ?_
    refine ig_ald C 5 rfl (show s < 10 by omega) (v := (S 5 (s))) rfl dX0_bind_17 ?_
    refine ig_if_ge_F C 25 dX0_bind_18 (by decide) (Int32.not_le.mpr hc) ?_
    refine ig_ic C dX0_bind_21 ki_m1 ?_
    refine ig_goto C 38 dX0_bind_22 (by decide) ?_
    refine ig_ast C 1 rfl (show p < 48 by omega) dX0_bind_38 ?_
    exact ig_vret C dX0_bind_39 rfl
  · have hv : bnd (S 5 s) (S 3 p) = S 5 s + S 3 p := if_neg hc
    rw [hv]
    refine ig_this C dX0_bind_0 ?_
    refine ig_get C fX_name dX0_bind_1 ?_
    refine ig_iln C 0 dX0_bind_4 rfl rfl ?_
    refine ig_ald C 2 rfl (show p < 48 by omega) (v := nI (s)) h2 dX0_bind_5 ?_
    refine ig_isn C 1 [nI (p), nI (s)] dX0_bind_6 rfl rfl rfl rfl ?_
    refine ig_this C dX0_bind_7 ?_
    refine ig_get C fX_value dX0_bind_8 ?_
    refine ig_iln C 0 dX0_bind_11 rfl rfl ?_
    refine ig_this C dX0_bind_12 ?_
    refine ig_get C fX_known dX0_bind_13 ?_
    refine ig_iln C 1 dX0_bind_16 rfl rfl ?_
    refine ig_ald C 5 rfl (show s < 10 by omega) (v := (S 5 (s))) rfl dX0_bind_17 ?_
    refine ig_if_ge_T C 25 dX0_bind_18 (by decide) (Int32.not_lt.mp hc) ?_
    refine ig_this C dX0_bind_25 ?_
    refine ig_get C fX_known dX0_bind_26 ?_
    refine ig_iln C 1 dX0_bind_29 rfl rfl ?_
    refine ig_ald C 5 rfl (show s < 10 by omega) (v := (S 5 (s))) rfl dX0_bind_30 ?_
    refine ig_this C dX0_bind_31 ?_
    refine ig_get C fX_addend dX0_bind_32 ?_
    refine ig_iln C 0 dX0_bind_35 rfl rfl ?_
    refine ig_ald C 3 rfl (show p < 48 by omega) (v := (S 3 (p))) rfl dX0_bind_36 ?_
    refine ig_iadd C dX0_bind_37 ?_
    refine ig_ast C 1 rfl (show p < 48 by omega) dX0_bind_38 ?_
    exact ig_vret C dX0_bind_39 rfl

set_option maxHeartbeats 1000000 in
set_option maxRecDepth 100000 in
theorem mX_rebind_loop {X : il_X} (C : ig_C GX cX0_rebind 4 ({ frames := 1, cells := 0, slots := 0, locals := 22 }) none X) {R : il_S} {s : Nat} (hs : s < 10) :
    ∀ (L : List Nat) (S : il_S) (b v : Int32) (k : Nat), sg (S 8) (S 9) b v L → (∀ x ∈ L, S 2 x = nI s) → k + L.length ≤ 48 → rbF S s L = R → ig_W GX 4 X (ig_Qv GX X (fun S' => R = S')) S 9 [nI s, v, nI k] [] := by
  intro L
  induction L with
  | nil =>
    intro S b v k hg h2 hk hR
    have hv : v = -4 := hg
    subst hv
    rw [rbF_nil] at hR
    by_cases h48 : k < 48
    · refine ig_iln C 2 dX0_rebind_9 rfl rfl ?_
      refine ig_bp C dX0_rebind_10 kb_48 ?_
      refine ig_icmp_ge_F C 37 dX0_rebind_12 (by decide) (nI_ge (show k < 48 by omega) (by omega)) ?_
      refine ig_iln C 1 dX0_rebind_15 rfl rfl ?_
      refine ig_if_lt_T C 37 dX0_rebind_16 (by decide) (by decide) ?_
      exact ig_vret C dX0_rebind_37 hR.symm
    · refine ig_iln C 2 dX0_rebind_9 rfl rfl ?_
      refine ig_bp C dX0_rebind_10 kb_48 ?_
      refine ig_icmp_ge_T C 37 dX0_rebind_12 (by decide) (nI_le (show 48 ≤ k by omega) (by omega)) ?_
      exact ig_vret C dX0_rebind_37 hR.symm
  | cons x L ih =>
    intro S b v k hg h2 hk hR
    obtain ⟨rfl, hx, hbx, hg2⟩ := hg
    have hk : k + (L.length + 1) ≤ 48 := hk
    refine ig_iln C 2 dX0_rebind_9 rfl rfl ?_
    refine ig_bp C dX0_rebind_10 kb_48 ?_
    refine ig_icmp_ge_F C 37 dX0_rebind_12 (by decide) (nI_ge (show k < 48 by omega) (by omega)) ?_
    refine ig_iln C 1 dX0_rebind_15 rfl rfl ?_
    refine ig_if_lt_F C 37 dX0_rebind_16 (by decide) (nI_pos (show x < 2 ^ 31 by omega)) ?_
    refine ig_this C dX0_rebind_19 ?_
    refine ig_iln C 1 dX0_rebind_20 rfl rfl ?_
    refine ig_callv C kX_bind (mX_bind (xl X) S x s hx hs (h2 x List.mem_cons_self)) rfl rfl ⟨Nat.le_of_ble_eq_true rfl, Nat.le_of_ble_eq_true rfl⟩ (Nat.le_of_ble_eq_true rfl) dX0_rebind_21 (fun S' hp => ?_)
    subst hp
    refine ig_this C dX0_rebind_24 ?_
    refine ig_get C fX_next dX0_rebind_25 ?_
    refine ig_iln C 1 dX0_rebind_28 rfl rfl ?_
    refine ig_ald C 8 rfl (show x < 48 by omega) (v := (S 8 x)) (by rw [sU_k (by decide)]) dX0_rebind_29 ?_
    refine ig_isn C 1 [nI (s), (S 8 x), nI (k)] dX0_rebind_30 rfl rfl rfl rfl ?_
    refine ig_inc C 2 (nI (k + 1)) [nI (s), (S 8 x), nI (k + 1)] dX0_rebind_31 rfl (il_inc1 _) rfl rfl ?_
    refine ig_goto C 9 dX0_rebind_34 (by decide) ?_
    exact ih _ (nI x) _ _ (by rw [sU_k (by decide), sU_k (by decide)]; exact hg2) (fun y hy => by rw [sU_k (by decide)]; exact h2 y (List.mem_cons_of_mem _ hy)) (by omega) (by rw [← hR]; exact rbF_cons)
set_option maxHeartbeats 1000000 in
set_option maxRecDepth 100000 in
theorem mX_rebind (l : Launch) (S : il_S) (s : Nat) (hs : s < 10) (L : List Nat) (hg : sg (S 8) (S 9) (-4) (S 7 s) L) (h2 : ∀ x ∈ L, S 2 x = nI s) (hL : L.length ≤ 48) : ig_Mv GX l yX0_rebind cX0_rebind 4 1 22 [nI (s)] S (fun S' => rbF S s L = S') := by
  refine ig_Mv.of GX_ok (by decide) rfl (Nat.le_of_ble_eq_true rfl) (fun X C => ?_)
  refine ig_this C dX0_rebind_0 ?_
  refine ig_get C fX_chain dX0_rebind_1 ?_
  refine ig_iln C 0 dX0_rebind_4 rfl rfl ?_
  refine ig_ald C 7 rfl (show s < 10 by omega) (v := (S 7 (s))) rfl dX0_rebind_5 ?_
  refine ig_isn C 1 [nI (s), (S 7 (s))] dX0_rebind_6 rfl rfl rfl rfl ?_
  refine ig_ic C dX0_rebind_7 ki_0 ?_
  refine ig_isn C 2 [nI (s), (S 7 (s)), nI (0)] dX0_rebind_8 rfl rfl rfl rfl ?_
  exact mX_rebind_loop C hs L S (-4) (S 7 s) 0 hg h2 (by omega) rfl

set_option maxHeartbeats 1000000 in
set_option maxRecDepth 100000 in
theorem mX_putC (l : Launch) (S : il_S) (p : Nat) (hp : p < 48) (v x : Int32) : ig_Mv GX l yX0_put cX0_put 5 1 23 [nI (p), v, (-4), x] S (fun S' => putC S p v x = S') := by
  refine ig_Mv.of GX_ok (by decide) rfl (Nat.le_of_ble_eq_true rfl) (fun X C => ?_)
  refine ig_this C dX0_put_0 ?_
  refine ig_get C fX_value dX0_put_1 ?_
  refine ig_iln C 0 dX0_put_4 rfl rfl ?_
  refine ig_iln C 1 dX0_put_5 rfl rfl ?_
  refine ig_ast C 1 rfl (show p < 48 by omega) dX0_put_6 ?_
  refine ig_this C dX0_put_7 ?_
  refine ig_get C fX_name dX0_put_8 ?_
  refine ig_iln C 0 dX0_put_11 rfl rfl ?_
  refine ig_iln C 2 dX0_put_12 rfl rfl ?_
  refine ig_ast C 2 rfl (show p < 48 by omega) dX0_put_13 ?_
  refine ig_this C dX0_put_14 ?_
  refine ig_get C fX_addend dX0_put_15 ?_
  refine ig_iln C 0 dX0_put_18 rfl rfl ?_
  refine ig_il C 3 dX0_put_19 rfl ?_
  refine ig_ast C 3 rfl (show p < 48 by omega) dX0_put_21 ?_
  refine ig_iln C 2 dX0_put_22 rfl rfl ?_
  refine ig_if_lt_T C 37 dX0_put_23 (by decide) (by decide) ?_
  exact ig_vret C dX0_put_37 rfl

set_option maxHeartbeats 1000000 in
set_option maxRecDepth 100000 in
theorem mX_putF (l : Launch) (S : il_S) (p s : Nat) (hp : p < 48) (hs : s < 10) (v x : Int32) (o : Option Nat) (ho : S 7 s = oI o) (hf : ∀ f, o = some f → f < 48) : ig_Mv GX l yX0_put cX0_put 5 1 23 [nI (p), v, nI (s), x] S (fun S' => putF S p v s x o = S') := by
  refine ig_Mv.of GX_ok (by decide) rfl (Nat.le_of_ble_eq_true rfl) (fun X C => ?_)
  refine ig_this C dX0_put_0 ?_
  refine ig_get C fX_value dX0_put_1 ?_
  refine ig_iln C 0 dX0_put_4 rfl rfl ?_
  refine ig_iln C 1 dX0_put_5 rfl rfl ?_
  refine ig_ast C 1 rfl (show p < 48 by omega) dX0_put_6 ?_
  refine ig_this C dX0_put_7 ?_
  refine ig_get C fX_name dX0_put_8 ?_
  refine ig_iln C 0 dX0_put_11 rfl rfl ?_
  refine ig_iln C 2 dX0_put_12 rfl rfl ?_
  refine ig_ast C 2 rfl (show p < 48 by omega) dX0_put_13 ?_
  refine ig_this C dX0_put_14 ?_
  refine ig_get C fX_addend dX0_put_15 ?_
  refine ig_iln C 0 dX0_put_18 rfl rfl ?_
  refine ig_il C 3 dX0_put_19 rfl ?_
  refine ig_ast C 3 rfl (show p < 48 by omega) dX0_put_21 ?_
  refine ig_iln C 2 dX0_put_22 rfl rfl ?_
  refine ig_if_lt_F C 37 dX0_put_23 (by decide) (nI_pos (show s < 2 ^ 31 by omega)) ?_
  refine ig_this C dX0_put_26 ?_
  refine ig_iln C 0 dX0_put_27 rfl rfl ?_
  refine ig_iln C 2 dX0_put_28 rfl rfl ?_
  refine ig_callv C kX_link (mX_link (xl X) (sU (sU (sU S 1 p v) 2 p (nI s)) 3 p x) p s hp hs o ho hf) rfl rfl ⟨Nat.le_of_ble_eq_true rfl, Nat.le_of_ble_eq_true rfl⟩ (Nat.le_of_ble_eq_true rfl) dX0_put_29 (fun S' hp1 => ?_)
  subst hp1
  refine ig_this C dX0_put_32 ?_
  refine ig_iln C 0 dX0_put_33 rfl rfl ?_
  refine ig_callv C kX_bind (mX_bind (xl X) (lnkF (sU (sU (sU S 1 p v) 2 p (nI s)) 3 p x) p s o) p s hp hs (by rw [lnkF_k (by decide) (by decide) (by decide), sU_k (by decide), sU_s])) rfl rfl ⟨Nat.le_of_ble_eq_true rfl, Nat.le_of_ble_eq_true rfl⟩ (Nat.le_of_ble_eq_true rfl) dX0_put_34 (fun S' hp2 => ?_)
  subst hp2
  exact ig_vret C dX0_put_37 (by rw [lnkF_k (by decide) (by decide) (by decide), lnkF_k (k := 3) (by decide) (by decide) (by decide), sU_s]; rfl)

/-- the word at f has gone to t -/
def mv (S S' : il_S) (F : Nat → Option Nat) (f t : Nat) : Prop := cJ S' (upF (upF F t (F f)) f none) [] ∧ (∀ q, q ≠ t → S' 1 q = S 1 q ∧ S' 3 q = S 3 q) ∧ S' 1 t = S 1 f ∧ S' 3 t = S 3 f ∧ S' 0 = S 0 ∧ S' 4 = S 4 ∧ S' 5 = S 5 ∧ S' 6 = S 6
theorem mv_C {S : il_S} {F : Nat → Option Nat} {f t : Nat} (h : cJ S F []) (hf : F f = none) (ht : F t = none) : mv S (sU (putC S t (S 1 f) (S 3 f)) 2 f (-4)) F f t := by
  have e : upF (upF F t (F f)) f none = F := by
    funext q
    by_cases h1 : q = f
    · rw [h1, upF_s, hf]
    · rw [upF_n h1]
      by_cases h2 : q = t
      · rw [h2, upF_s, hf, ht]
      · rw [upF_n h2]
  refine ⟨?_, fun q hq => ⟨?_, ?_⟩, ?_, ?_, ?_, ?_, ?_, ?_⟩
  · rw [e]
    exact cJ_clear (cJ_weak f (cJ_putC (cJ_weak t h) ht)) hf
  · rw [sU_k (by decide), putC_1n hq]
  · rw [sU_k (by decide), putC_3n hq]
  · rw [sU_k (by decide), putC_1]
  · rw [sU_k (by decide), putC_3]
  · rw [sU_k (by decide), putC_k (by decide) (by decide) (by decide)]
  · rw [sU_k (by decide), putC_k (by decide) (by decide) (by decide)]
  · rw [sU_k (by decide), putC_k (by decide) (by decide) (by decide)]
  · rw [sU_k (by decide), putC_k (by decide) (by decide) (by decide)]
theorem mv_F {S : il_S} {F : Nat → Option Nat} {f t s : Nat} {b n o : Option Nat} (h : cJ S F []) (hf : F f = some s) (hft : f ≠ t) (hp : cJ (putF (ulkF S s b n) t (S 1 f) s (S 3 f) o) (upF (upF F f none) t (some s)) [f]) : mv S (sU (putF (ulkF S s b n) t (S 1 f) s (S 3 f) o) 2 f (-4)) F f t := by
  have e : upF (upF F t (F f)) f none = upF (upF F f none) t (some s) := by
    funext q
    by_cases h1 : q = f
    · rw [h1, upF_s, upF_n hft, upF_s]
    · rw [upF_n h1]
      by_cases h2 : q = t
      · rw [h2, upF_s, upF_s, hf]
      · rw [upF_n h2, upF_n h2, upF_n h1]
  have u1 : ∀ k, k ≠ 7 → k ≠ 8 → k ≠ 9 → ulkF S s b n k = S k := fun k h7 h8 h9 => ulkF_k h7 h8 h9
  refine ⟨?_, fun q hq => ⟨?_, ?_⟩, ?_, ?_, ?_, ?_, ?_, ?_⟩
  · rw [e]
    exact cJ_clear hp (by rw [upF_n hft, upF_s])
  · rw [sU_k (by decide), putF_1n hq, u1 1 (by decide) (by decide) (by decide)]
  · rw [sU_k (by decide), putF_3n hq, u1 3 (by decide) (by decide) (by decide)]
  · rw [sU_k (by decide), putF_1, u1 5 (by decide) (by decide) (by decide)]
    exact (h.2.2.2 f s (fun z => by cases z) hf).symm
  · rw [sU_k (by decide), putF_3]
  · rw [sU_k (by decide), putF_k (Or.inl rfl), u1 0 (by decide) (by decide) (by decide)]
  · rw [sU_k (by decide), putF_k (Or.inr (Or.inl rfl)), u1 4 (by decide) (by decide) (by decide)]
  · rw [sU_k (by decide), putF_k (Or.inr (Or.inr (Or.inl rfl))), u1 5 (by decide) (by decide) (by decide)]
  · rw [sU_k (by decide), putF_k (Or.inr (Or.inr (Or.inr rfl))), u1 6 (by decide) (by decide) (by decide)]
set_option maxHeartbeats 1000000 in
set_option maxRecDepth 100000 in
theorem mX_moveWord (l : Launch) (S : il_S) (F : Nat → Option Nat) (h : cJ S F []) (f t : Nat) (hf : f < 48) (ht : t < 48) (hft : f ≠ t) (hFt : F t = none) : ig_Mv GX l yX0_moveWord cX0_moveWord 4 2 47 [nI (f), nI (t)] S (fun S' => mv S S' F f t) := by
  refine ig_Mv.of GX_ok (by decide) rfl (Nat.le_of_ble_eq_true rfl) (fun X C => ?_)
  have hnm := h.1 f hf (fun z => by cases z)
  cases hF : F f with
  | none =>
    rw [hF] at hnm
    refine ig_this C dX0_moveWord_0 ?_
    refine ig_get C fX_name dX0_moveWord_1 ?_
    refine ig_iln C 0 dX0_moveWord_4 rfl rfl ?_
    refine ig_ald C 2 rfl (show f < 48 by omega) (v := (-4)) hnm dX0_moveWord_5 ?_
    refine ig_isn C 2 [nI (f), nI (t), (-4)] dX0_moveWord_6 rfl rfl rfl rfl ?_
    refine ig_iln C 2 dX0_moveWord_7 rfl rfl ?_
    refine ig_if_lt_T C 17 dX0_moveWord_8 (by decide) (by decide) ?_
    refine ig_this C dX0_moveWord_17 ?_
    refine ig_iln C 1 dX0_moveWord_18 rfl rfl ?_
    refine ig_this C dX0_moveWord_19 ?_
    refine ig_get C fX_value dX0_moveWord_20 ?_
    refine ig_iln C 0 dX0_moveWord_23 rfl rfl ?_
    refine ig_ald C 1 rfl (show f < 48 by omega) (v := (S 1 f)) rfl dX0_moveWord_24 ?_
    refine ig_iln C 2 dX0_moveWord_25 rfl rfl ?_
    refine ig_this C dX0_moveWord_26 ?_
    refine ig_get C fX_addend dX0_moveWord_27 ?_
    refine ig_iln C 0 dX0_moveWord_30 rfl rfl ?_
    refine ig_ald C 3 rfl (show f < 48 by omega) (v := (S 3 f)) rfl dX0_moveWord_31 ?_
    refine ig_callv C kX_put (mX_putC (xl X) S t ht (S 1 f) (S 3 f)) rfl rfl ⟨Nat.le_of_ble_eq_true rfl, Nat.le_of_ble_eq_true rfl⟩ (Nat.le_of_ble_eq_true rfl) dX0_moveWord_32 (fun S' hp => ?_)
    subst hp
    refine ig_this C dX0_moveWord_35 ?_
    refine ig_get C fX_name dX0_moveWord_36 ?_
    refine ig_iln C 0 dX0_moveWord_39 rfl rfl ?_
    refine ig_bp C dX0_moveWord_40 kb_m4 ?_
    refine ig_ast C 2 rfl (show f < 48 by omega) dX0_moveWord_42 ?_
    exact ig_vret C dX0_moveWord_43 (mv_C h hF hFt)
  | some s =>
    rw [hF] at hnm
    obtain ⟨-, hs⟩ := h.2.1 f s hF
    obtain ⟨b, n, hb, hn, hbr, hyr, h1⟩ := cJ_unlink h hF
    have hFt2 : upF F f none t = none := by rw [upF_n (Ne.symm hft)]; exact hFt
    obtain ⟨o, ho, hor, h2⟩ := cJ_putF (v := S 1 f) (x := S 3 f) (cJ_weak t h1) hFt2 ht hs
    refine ig_this C dX0_moveWord_0 ?_
    refine ig_get C fX_name dX0_moveWord_1 ?_
    refine ig_iln C 0 dX0_moveWord_4 rfl rfl ?_
    refine ig_ald C 2 rfl (show f < 48 by omega) (v := nI (s)) hnm dX0_moveWord_5 ?_
    refine ig_isn C 2 [nI (f), nI (t), nI (s)] dX0_moveWord_6 rfl rfl rfl rfl ?_
    refine ig_iln C 2 dX0_moveWord_7 rfl rfl ?_
    refine ig_if_lt_F C 17 dX0_moveWord_8 (by decide) (nI_pos (show s < 2 ^ 31 by omega)) ?_
    refine ig_this C dX0_moveWord_11 ?_
    refine ig_iln C 0 dX0_moveWord_12 rfl rfl ?_
    refine ig_iln C 2 dX0_moveWord_13 rfl rfl ?_
    refine ig_callv C kX_unlink (mX_unlink (xl X) S f s hf hs b n hb hn hbr hyr) rfl rfl ⟨Nat.le_of_ble_eq_true rfl, Nat.le_of_ble_eq_true rfl⟩ (Nat.le_of_ble_eq_true rfl) dX0_moveWord_14 (fun S' hp => ?_)
    subst hp
    refine ig_this C dX0_moveWord_17 ?_
    refine ig_iln C 1 dX0_moveWord_18 rfl rfl ?_
    refine ig_this C dX0_moveWord_19 ?_
    refine ig_get C fX_value dX0_moveWord_20 ?_
    refine ig_iln C 0 dX0_moveWord_23 rfl rfl ?_
    refine ig_ald C 1 rfl (show f < 48 by omega) (v := (S 1 f)) (by rw [ulkF_k (by decide) (by decide) (by decide)]) dX0_moveWord_24 ?_
    refine ig_iln C 2 dX0_moveWord_25 rfl rfl ?_
    refine ig_this C dX0_moveWord_26 ?_
    refine ig_get C fX_addend dX0_moveWord_27 ?_
    refine ig_iln C 0 dX0_moveWord_30 rfl rfl ?_
    refine ig_ald C 3 rfl (show f < 48 by omega) (v := (S 3 f)) (by rw [ulkF_k (by decide) (by decide) (by decide)]) dX0_moveWord_31 ?_
    refine ig_callv C kX_put (mX_putF (xl X) (ulkF S s b n) t s ht hs (S 1 f) (S 3 f) o ho hor) rfl rfl ⟨Nat.le_of_ble_eq_true rfl, Nat.le_of_ble_eq_true rfl⟩ (Nat.le_of_ble_eq_true rfl) dX0_moveWord_32 (fun S' hp => ?_)
    subst hp
    refine ig_this C dX0_moveWord_35 ?_
    refine ig_get C fX_name dX0_moveWord_36 ?_
    refine ig_iln C 0 dX0_moveWord_39 rfl rfl ?_
    refine ig_bp C dX0_moveWord_40 kb_m4 ?_
    refine ig_ast C 2 rfl (show f < 48 by omega) dX0_moveWord_42 ?_
    exact ig_vret C dX0_moveWord_43 (mv_F h hF hft h2)
end
section
/-! THE LINKER: open, close, refresh -/
theorem il_dec (x : Int32) : x + Int32.ofInt (-1) = x - nI 1 := by
  have h : Int32.ofInt (-1) = -(nI 1) := by decide
  rw [h, Int32.sub_eq_add_neg]
theorem il_predlt {p : Nat} (hp : p < 2 ^ 30) : nI p - nI 1 < nI p := by
  refine Int32.lt_iff_toInt_lt.mpr ?_
  rw [pk_sub_toInt hp (by decide), nI_toInt (by omega)]
  omega
theorem cn_congr {P Q : Nat → Bool} : ∀ n, (∀ q, q < n → P q = Q q) → cn P n = cn Q n := by
  intro n
  induction n with
  | zero => intro _; rfl
  | succ n ih =>
    intro h
    show cn P n + (if P n = true then 1 else 0) = cn Q n + (if Q n = true then 1 else 0)
    rw [ih (fun q hq => h q (by omega)), h n (by omega)]
theorem len_cn : ∀ (n : Nat) (L : List Nat), L.Nodup → (∀ x ∈ L, x < n) → L.length = cn (fun q => decide (q ∈ L)) n := by
  intro n
  induction n with
  | zero =>
    intro L _ h
    cases L with
    | nil => rfl
    | cons x L => exact absurd (h x List.mem_cons_self) (Nat.not_lt_zero _)
  | succ n ih =>
    intro L hn h
    by_cases hm : n ∈ L
    · have h1 := ih (L.erase n) (hn.erase n) (fun x hx => by
        have h2 := (hn.mem_erase_iff).mp hx
        have h3 := h x h2.2
        have h4 := h2.1
        omega)
      have h5 := List.length_erase_of_mem hm
      have h6 : 0 < L.length := List.length_pos_of_mem hm
      rw [cn_t (P := fun q => decide (q ∈ L)) (decide_eq_true hm)]
      have h7 : cn (fun q => decide (q ∈ L.erase n)) n = cn (fun q => decide (q ∈ L)) n := by
        refine cn_congr n (fun q hq => ?_)
        have : q ∈ L.erase n ↔ q ∈ L := by
          rw [hn.mem_erase_iff]
          exact ⟨fun z => z.2, fun z => ⟨by omega, z⟩⟩
        simp [this]
      omega
    · rw [cn_f (P := fun q => decide (q ∈ L)) (decide_eq_false hm)]
      refine ih L hn (fun x hx => ?_)
      have h1 := h x hx
      have h2 : x ≠ n := fun e => hm (e ▸ hx)
      omega
/-- a hole at p -/
def shF (F : Nat → Option Nat) (p : Nat) : Nat → Option Nat := fun q => if q < p then F q else if q = p then none else F (q - 1)
theorem shF_p {F : Nat → Option Nat} {p : Nat} : shF F p p = none := by
  unfold shF
  rw [if_neg (by omega), if_pos rfl]
theorem shF_lt {F : Nat → Option Nat} {p q : Nat} (h : q < p) : shF F p q = F q := if_pos h
theorem shF_gt {F : Nat → Option Nat} {p q : Nat} (h : p < q) : shF F p q = F (q - 1) := by
  unfold shF
  rw [if_neg (by omega), if_neg (by omega)]
theorem shF_n {F : Nat → Option Nat} {n : Nat} (hF : ∀ q, n ≤ q → F q = none) : shF F n = F := by
  funext q
  by_cases h1 : q < n
  · exact shF_lt h1
  · by_cases h2 : q = n
    · rw [h2, shF_p, hF n (Nat.le_refl n)]
    · rw [shF_gt (by omega), hF q (by omega), hF (q - 1) (by omega)]
theorem shF_s {F : Nat → Option Nat} {u : Nat} : upF (upF (shF F (u + 1)) (u + 1) (shF F (u + 1) u)) u none = shF F u := by
  funext q
  by_cases h1 : q = u
  · rw [h1, upF_s, shF_p]
  · rw [upF_n h1]
    by_cases h2 : q = u + 1
    · rw [h2, upF_s, shF_lt (by omega), shF_gt (by omega)]
      rfl
    · rw [upF_n h2]
      by_cases h3 : q < u
      · rw [shF_lt (by omega), shF_lt h3]
      · rw [shF_gt (by omega), shF_gt (by omega)]
def iv1 (S T : il_S) (F : Nat → Option Nat) (j n : Nat) : Prop := cJ T (shF F j) [] ∧ (∀ q, q < j → T 1 q = S 1 q ∧ T 3 q = S 3 q) ∧ (∀ q, j < q → q ≤ n → T 1 q = S 1 (q - 1) ∧ T 3 q = S 3 (q - 1)) ∧ T 0 = S 0 ∧ T 4 = S 4 ∧ T 5 = S 5 ∧ T 6 = S 6
theorem iv1_s {S T T' : il_S} {F : Nat → Option Nat} {u n : Nat} (h : iv1 S T F (u + 1) n) (hm : mv T T' (shF F (u + 1)) u (u + 1)) : iv1 S T' F u n := by
  obtain ⟨a1, a2, a3, a4, a5, a6, a7⟩ := h
  obtain ⟨b1, b2, b3, b4, b5, b6, b7, b8⟩ := hm
  rw [shF_s] at b1
  refine ⟨b1, fun q hq => ?_, fun q hq hn => ?_, b5.trans a4, b6.trans a5, b7.trans a6, b8.trans a7⟩
  · have h1 := b2 q (by omega)
    have h2 := a2 q (by omega)
    exact ⟨h1.1.trans h2.1, h1.2.trans h2.2⟩
  · by_cases e : q = u + 1
    · subst e
      have h2 := a2 u (by omega)
      exact ⟨b3.trans h2.1, b4.trans h2.2⟩
    · have h1 := b2 q e
      have h2 := a3 q (by omega) hn
      exact ⟨h1.1.trans h2.1, h1.2.trans h2.2⟩
/-- what open(m, p) does -/
def opn (S S' : il_S) (F : Nat → Option Nat) (p m n : Nat) (st : Nat → Nat) : Prop := cJ S' (shF F p) [] ∧ (∀ q, q < p → S' 1 q = S 1 q ∧ S' 3 q = S 3 q) ∧ (∀ q, p < q → q ≤ n → S' 1 q = S 1 (q - 1) ∧ S' 3 q = S 3 (q - 1)) ∧ (∀ k, k ≤ 6 → S' 0 k = nI (if m < k then st k + 1 else st k)) ∧ S' 4 = S 4 ∧ S' 5 = S 5 ∧ S' 6 = S 6
theorem opn_of {S T : il_S} {F : Nat → Option Nat} {p m n : Nat} {st : Nat → Nat} (hst : ∀ k, k ≤ 6 → S 0 k = nI (st k)) (h : iv1 S T F p n) : opn S (mapF T 0 (fun v => v + nI 1) (m + 1) 7) F p m n st := by
  obtain ⟨a1, a2, a3, a4, a5, a6, a7⟩ := h
  have k : ∀ k, k ≠ 0 → mapF T 0 (fun v => v + nI 1) (m + 1) 7 k = T k := fun k hk => mapF_k hk
  refine ⟨cJ_same a1 (fun q _ => by rw [k 1 (by decide)]) (fun q _ => by rw [k 2 (by decide)]) (fun q _ => by rw [k 3 (by decide)]) (k 5 (by decide)) (k 7 (by decide)) (k 8 (by decide)) (k 9 (by decide)), fun q hq => by rw [k 1 (by decide), k 3 (by decide)]; exact a2 q hq, fun q h1 h2 => by rw [k 1 (by decide), k 3 (by decide)]; exact a3 q h1 h2, fun q hq => ?_, by rw [k 4 (by decide), a5], by rw [k 5 (by decide), a6], by rw [k 6 (by decide), a7]⟩
  by_cases hm : m < q
  · rw [mapF_in (by omega) (by omega), a4, hst q hq, if_pos hm, nI_add]
  · rw [mapF_out (by omega), a4, hst q hq, if_neg hm]
set_option maxHeartbeats 1000000 in
set_option maxRecDepth 100000 in
theorem mX_open_mv {X : il_X} (C : ig_C GX cX0_open 4 ({ frames := 3, cells := 0, slots := 0, locals := 70 }) none X) {Q : State → Prop} {S : il_S} {F : Nat → Option Nat} {m p n : Nat} (hn : n < 48) (kk : ∀ T, iv1 S T F p n → ig_W GX 4 X Q T 29 [nI (m), nI (p), (nI (p) - nI 1)] []) :
    ∀ (d j : Nat) (T : il_S), j = p + d → j ≤ n → iv1 S T F j n → ig_W GX 4 X Q T 10 [nI (m), nI (p), (nI (j) - nI 1)] [] := by
  intro d
  induction d with
  | zero =>
    intro j T hj hl hT
    have hj : j = p := by omega
    subst hj
    refine ig_iln C 2 dX0_open_10 rfl rfl ?_
    refine ig_iln C 1 dX0_open_11 rfl rfl ?_
    refine ig_icmp_lt_T C 29 dX0_open_12 (by decide) (il_predlt (by omega)) ?_
    exact kk T hT
  | succ d ih =>
    intro j T hj hl hT
    obtain ⟨u, rfl⟩ : ∃ u, j = u + 1 := ⟨j - 1, by omega⟩
    rw [show nI (u + 1) - nI 1 = nI u from nI_pred u]
    refine ig_iln C 2 dX0_open_10 rfl rfl ?_
    refine ig_iln C 1 dX0_open_11 rfl rfl ?_
    refine ig_icmp_lt_F C 29 dX0_open_12 (by decide) (nI_nlt (show p ≤ u by omega) (by omega)) ?_
    refine ig_this C dX0_open_15 ?_
    refine ig_iln C 2 dX0_open_16 rfl rfl ?_
    refine ig_iln C 2 dX0_open_17 rfl rfl ?_
    refine ig_ic C dX0_open_18 ki_1 ?_
    refine ig_iaddN C dX0_open_19 ?_
    refine ig_callv C kX_moveWord (mX_moveWord (xl X) T (shF F (u + 1)) hT.1 u (u + 1) (by omega) (by omega) (by omega) shF_p) rfl rfl ⟨Nat.le_of_ble_eq_true rfl, Nat.le_of_ble_eq_true rfl⟩ (Nat.le_of_ble_eq_true rfl) dX0_open_20 (fun T' hp => ?_)
    refine ig_inc C 2 ((nI (u) - nI 1)) [nI (m), nI (p), (nI (u) - nI 1)] dX0_open_23 rfl (il_dec _) rfl rfl ?_
    refine ig_goto C 10 dX0_open_26 (by decide) ?_
    exact ih u T' (by omega) (by omega) (iv1_s hT hp)
set_option maxHeartbeats 1000000 in
set_option maxRecDepth 100000 in
theorem mX_open_st {X : il_X} (C : ig_C GX cX0_open 4 ({ frames := 3, cells := 0, slots := 0, locals := 70 }) none X) {Q : State → Prop} {T : il_S} {m p : Nat} (hm : m < 6) (kk : ig_W GX 4 X Q (mapF T 0 (fun v => v + nI 1) (m + 1) 7) 59 [nI (m), nI (p), nI (7)] []) :
    ∀ (d k : Nat), k + d = 7 → m + 1 ≤ k → ig_W GX 4 X Q (mapF T 0 (fun v => v + nI 1) (m + 1) k) 33 [nI (m), nI (p), nI (k)] [] := by
  intro d
  induction d with
  | zero =>
    intro k hk hl
    have hk : k = 7 := by omega
    subst hk
    refine ig_iln C 2 dX0_open_33 rfl rfl ?_
    refine ig_bp C dX0_open_34 kb_6 ?_
    refine ig_icmp_gt_T C 59 dX0_open_36 (by decide) (nI_lt (show 6 < 7 by omega) (by omega)) ?_
    exact kk
  | succ d ih =>
    intro k hk hl
    refine ig_iln C 2 dX0_open_33 rfl rfl ?_
    refine ig_bp C dX0_open_34 kb_6 ?_
    refine ig_icmp_gt_F C 59 dX0_open_36 (by decide) (nI_nlt (show k ≤ 6 by omega) (by omega)) ?_
    refine ig_this C dX0_open_39 ?_
    refine ig_get C fX_start dX0_open_40 ?_
    refine ig_iln C 2 dX0_open_43 rfl rfl ?_
    refine ig_this C dX0_open_44 ?_
    refine ig_get C fX_start dX0_open_45 ?_
    refine ig_iln C 2 dX0_open_48 rfl rfl ?_
    refine ig_ald C 0 rfl (show k < 7 by omega) (v := (T 0 k)) (mapF_n (Nat.le_refl k)) dX0_open_49 ?_
    refine ig_ic C dX0_open_50 ki_1 ?_
    refine ig_iadd C dX0_open_51 ?_
    refine ig_ast C 0 rfl (show k < 7 by omega) dX0_open_52 ?_
    refine ig_st (mapF_s (f := fun v => v + nI 1) hl) ?_
    refine ig_inc C 2 (nI (k + 1)) [nI (m), nI (p), nI (k + 1)] dX0_open_53 rfl (il_inc1 _) rfl rfl ?_
    refine ig_goto C 33 dX0_open_56 (by decide) ?_
    exact ih (k + 1) (by omega) (by omega)
set_option maxHeartbeats 1000000 in
set_option maxRecDepth 100000 in
theorem mX_open (l : Launch) (S : il_S) (F : Nat → Option Nat) (h : cJ S F []) (m p n : Nat) (st : Nat → Nat) (hst : ∀ k, k ≤ 6 → S 0 k = nI (st k)) (hn6 : st 6 = n) (hn : n < 48) (hp : p ≤ n) (hm : m < 6) (hF : ∀ q, n ≤ q → F q = none) : ig_Mv GX l yX0_open cX0_open 4 3 70 [nI (m), nI (p)] S (fun S' => opn S S' F p m n st) := by
  refine ig_Mv.of GX_ok (by decide) rfl (Nat.le_of_ble_eq_true rfl) (fun X C => ?_)
  have hs6 : S 0 6 = nI n := by rw [hst 6 (by omega), hn6]
  refine ig_this C dX0_open_0 ?_
  refine ig_get C fX_start dX0_open_1 ?_
  refine ig_bp C dX0_open_4 kb_6 ?_
  refine ig_ald C 0 rfl (show 6 < 7 by omega) (v := nI (n)) hs6 dX0_open_6 ?_
  refine ig_ic C dX0_open_7 ki_1 ?_
  refine ig_isub C dX0_open_8 ?_
  refine ig_top ((nI (n) - nI 1)) rfl ?_
  refine ig_isn C 2 [nI (m), nI (p), (nI (n) - nI 1)] dX0_open_9 rfl rfl rfl rfl ?_
  refine mX_open_mv C (by omega) (fun T hT => ?_) (n - p) n S (by omega) (Nat.le_refl n) ⟨by rw [shF_n hF]; exact h, fun q _ => ⟨rfl, rfl⟩, fun q h1 h2 => absurd h1 (by omega), rfl, rfl, rfl, rfl⟩
  refine ig_iln C 0 dX0_open_29 rfl rfl ?_
  refine ig_ic C dX0_open_30 ki_1 ?_
  refine ig_iaddN C dX0_open_31 ?_
  refine ig_isn C 2 [nI (m), nI (p), nI (m + 1)] dX0_open_32 rfl rfl rfl rfl ?_
  refine ig_st (mapF_0 (k := 0) (lo := m + 1) (f := fun v => v + nI 1)).symm ?_
  refine mX_open_st C hm ?_ (6 - m) (m + 1) (by omega) (Nat.le_refl _)
  exact ig_vret C dX0_open_59 (opn_of hst hT)

/-- the word at p is gone, the hole is at j -/
def hdF (F : Nat → Option Nat) (p j : Nat) : Nat → Option Nat := fun q => if q < p then F q else if q < j then F (q + 1) else if q = j then none else F q
def dnF (F : Nat → Option Nat) (p : Nat) : Nat → Option Nat := fun q => if q < p then F q else F (q + 1)
theorem hdF_j {F : Nat → Option Nat} {p j : Nat} (h : p ≤ j) : hdF F p j j = none := by
  unfold hdF
  rw [if_neg (by omega), if_neg (by omega), if_pos rfl]
theorem hdF_lt {F : Nat → Option Nat} {p j q : Nat} (h : q < p) : hdF F p j q = F q := if_pos h
theorem hdF_md {F : Nat → Option Nat} {p j q : Nat} (h : p ≤ q) (h2 : q < j) : hdF F p j q = F (q + 1) := by
  unfold hdF
  rw [if_neg (by omega), if_pos h2]
theorem hdF_gt {F : Nat → Option Nat} {p j q : Nat} (h : p ≤ j) (h2 : j < q) : hdF F p j q = F q := by
  unfold hdF
  rw [if_neg (by omega), if_neg (by omega), if_neg (by omega)]
theorem hdF_0 {F : Nat → Option Nat} {p : Nat} : hdF F p p = upF F p none := by
  funext q
  by_cases h1 : q < p
  · rw [hdF_lt h1, upF_n (by omega)]
  · by_cases h2 : q = p
    · rw [h2, hdF_j (Nat.le_refl p), upF_s]
    · rw [hdF_gt (Nat.le_refl p) (by omega), upF_n h2]
theorem hdF_s {F : Nat → Option Nat} {p j : Nat} (h : p ≤ j) : upF (upF (hdF F p j) j (hdF F p j (j + 1))) (j + 1) none = hdF F p (j + 1) := by
  funext q
  by_cases h1 : q = j + 1
  · rw [h1, upF_s, hdF_j (by omega)]
  · rw [upF_n h1]
    by_cases h2 : q = j
    · rw [h2, upF_s, hdF_gt h (by omega), hdF_md h (by omega)]
    · rw [upF_n h2]
      by_cases h3 : q < p
      · rw [hdF_lt h3, hdF_lt h3]
      · by_cases h4 : q < j
        · rw [hdF_md (by omega) h4, hdF_md (by omega) (by omega)]
        · rw [hdF_gt h (by omega), hdF_gt (by omega) (by omega)]
theorem hdF_n {F : Nat → Option Nat} {p j : Nat} (h : p ≤ j) (hF : ∀ q, j + 1 ≤ q → F q = none) : hdF F p j = dnF F p := by
  funext q
  unfold dnF
  by_cases h3 : q < p
  · rw [hdF_lt h3, if_pos h3]
  · rw [if_neg h3]
    by_cases h4 : q < j
    · rw [hdF_md (by omega) h4]
    · by_cases h5 : q = j
      · rw [h5, hdF_j h, hF _ (Nat.le_refl _)]
      · rw [hdF_gt h (by omega), hF q (by omega), hF (q + 1) (by omega)]
def iv2 (S T : il_S) (F : Nat → Option Nat) (p j : Nat) : Prop := cJ T (hdF F p j) [] ∧ (∀ q, q < p → T 1 q = S 1 q ∧ T 3 q = S 3 q) ∧ (∀ q, p ≤ q → q < j → T 1 q = S 1 (q + 1) ∧ T 3 q = S 3 (q + 1)) ∧ (∀ q, j < q → T 1 q = S 1 q ∧ T 3 q = S 3 q) ∧ T 0 = S 0 ∧ T 4 = S 4 ∧ T 5 = S 5 ∧ T 6 = S 6
theorem iv2_s {S T T' : il_S} {F : Nat → Option Nat} {p j : Nat} (hpj : p ≤ j) (h : iv2 S T F p j) (hm : mv T T' (hdF F p j) (j + 1) j) : iv2 S T' F p (j + 1) := by
  obtain ⟨a1, a2, a3, a3', a4, a5, a6, a7⟩ := h
  obtain ⟨b1, b2, b3, b4, b5, b6, b7, b8⟩ := hm
  rw [hdF_s hpj] at b1
  refine ⟨b1, fun q hq => ?_, fun q hq hn => ?_, fun q hq => ?_, b5.trans a4, b6.trans a5, b7.trans a6, b8.trans a7⟩
  · have h1 := b2 q (by omega)
    have h2 := a2 q hq
    exact ⟨h1.1.trans h2.1, h1.2.trans h2.2⟩
  · by_cases e : q = j
    · subst e
      have h2 := a3' (q + 1) (by omega)
      exact ⟨b3.trans h2.1, b4.trans h2.2⟩
    · have h1 := b2 q e
      have h2 := a3 q hq (by omega)
      exact ⟨h1.1.trans h2.1, h1.2.trans h2.2⟩
  · have h1 := b2 q (by omega)
    have h2 := a3' q (by omega)
    exact ⟨h1.1.trans h2.1, h1.2.trans h2.2⟩
/-- what close(m, p) does -/
def cls (S S' : il_S) (F : Nat → Option Nat) (p m n : Nat) (st : Nat → Nat) : Prop := cJ S' (dnF F p) [] ∧ (∀ q, q < p → S' 1 q = S 1 q ∧ S' 3 q = S 3 q) ∧ (∀ q, p ≤ q → q + 1 < n → S' 1 q = S 1 (q + 1) ∧ S' 3 q = S 3 (q + 1)) ∧ (∀ k, k ≤ 6 → S' 0 k = nI (if m < k then st k - 1 else st k)) ∧ S' 4 = S 4 ∧ S' 5 = S 5 ∧ S' 6 = S 6
theorem cls_of {S T : il_S} {F : Nat → Option Nat} {p m j : Nat} {st : Nat → Nat} (hpj : p ≤ j) (hF : ∀ q, j + 1 ≤ q → F q = none) (hst : ∀ k, k ≤ 6 → S 0 k = nI (st k)) (hs1 : ∀ k, m < k → k ≤ 6 → 1 ≤ st k) (h : iv2 S T F p j) : cls S (mapF T 0 (fun v => v - nI 1) (m + 1) 7) F p m (j + 1) st := by
  obtain ⟨a1, a2, a3, a3', a4, a5, a6, a7⟩ := h
  rw [hdF_n hpj hF] at a1
  have k : ∀ k, k ≠ 0 → mapF T 0 (fun v => v - nI 1) (m + 1) 7 k = T k := fun k hk => mapF_k hk
  refine ⟨cJ_same a1 (fun q _ => by rw [k 1 (by decide)]) (fun q _ => by rw [k 2 (by decide)]) (fun q _ => by rw [k 3 (by decide)]) (k 5 (by decide)) (k 7 (by decide)) (k 8 (by decide)) (k 9 (by decide)), fun q hq => by rw [k 1 (by decide), k 3 (by decide)]; exact a2 q hq, fun q h1 h2 => by rw [k 1 (by decide), k 3 (by decide)]; exact a3 q h1 (by omega), fun q hq => ?_, by rw [k 4 (by decide), a5], by rw [k 5 (by decide), a6], by rw [k 6 (by decide), a7]⟩
  by_cases hm : m < q
  · rw [mapF_in (by omega) (by omega), a4, hst q hq, if_pos hm, pk_sub (hs1 q hm hq)]
  · rw [mapF_out (by omega), a4, hst q hq, if_neg hm]
set_option maxHeartbeats 1000000 in
set_option maxRecDepth 100000 in
theorem mX_close_mv {X : il_X} (C : ig_C GX cX0_close 4 ({ frames := 3, cells := 0, slots := 0, locals := 70 }) none X) {Q : State → Prop} {S : il_S} {F : Nat → Option Nat} {m p e : Nat} (he : e < 48) (h6 : S 0 6 = nI (e + 1)) (kk : ∀ T, iv2 S T F p e → ig_W GX 4 X Q T 57 [nI (m), nI (p), nI (e + 1)] []) :
    ∀ (d j : Nat) (T : il_S), j + d = e → p ≤ j → iv2 S T F p j → ig_W GX 4 X Q T 32 [nI (m), nI (p), nI (j + 1)] [] := by
  intro d
  induction d with
  | zero =>
    intro j T hj hl hT
    have hj : j = e := by omega
    subst hj
    have h6T : T 0 6 = nI (j + 1) := by rw [hT.2.2.2.2.1]; exact h6
    refine ig_iln C 2 dX0_close_32 rfl rfl ?_
    refine ig_this C dX0_close_33 ?_
    refine ig_get C fX_start dX0_close_34 ?_
    refine ig_bp C dX0_close_37 kb_6 ?_
    refine ig_ald C 0 rfl (show 6 < 7 by omega) (v := nI (j + 1)) h6T dX0_close_39 ?_
    refine ig_icmp_ge_T C 57 dX0_close_40 (by decide) (nI_le (show j + 1 ≤ j + 1 by omega) (by omega)) ?_
    exact kk T hT
  | succ d ih =>
    intro j T hj hl hT
    have h6T : T 0 6 = nI (e + 1) := by rw [hT.2.2.2.2.1]; exact h6
    refine ig_iln C 2 dX0_close_32 rfl rfl ?_
    refine ig_this C dX0_close_33 ?_
    refine ig_get C fX_start dX0_close_34 ?_
    refine ig_bp C dX0_close_37 kb_6 ?_
    refine ig_ald C 0 rfl (show 6 < 7 by omega) (v := nI (e + 1)) h6T dX0_close_39 ?_
    refine ig_icmp_ge_F C 57 dX0_close_40 (by decide) (nI_ge (show j + 1 < e + 1 by omega) (by omega)) ?_
    refine ig_this C dX0_close_43 ?_
    refine ig_iln C 2 dX0_close_44 rfl rfl ?_
    refine ig_iln C 2 dX0_close_45 rfl rfl ?_
    refine ig_ic C dX0_close_46 ki_1 ?_
    refine ig_isub C dX0_close_47 ?_
    refine ig_top (nI (j)) (nI_pred j) ?_
    refine ig_callv C kX_moveWord (mX_moveWord (xl X) T (hdF F p j) hT.1 (j + 1) j (by omega) (by omega) (by omega) (hdF_j hl)) rfl rfl ⟨Nat.le_of_ble_eq_true rfl, Nat.le_of_ble_eq_true rfl⟩ (Nat.le_of_ble_eq_true rfl) dX0_close_48 (fun T' hp => ?_)
    refine ig_inc C 2 (nI (j + 1 + 1)) [nI (m), nI (p), nI (j + 1 + 1)] dX0_close_51 rfl (il_inc1 _) rfl rfl ?_
    refine ig_goto C 32 dX0_close_54 (by decide) ?_
    exact ih (j + 1) T' (by omega) (by omega) (iv2_s hl hT hp)
set_option maxHeartbeats 1000000 in
set_option maxRecDepth 100000 in
theorem mX_close_st {X : il_X} (C : ig_C GX cX0_close 4 ({ frames := 3, cells := 0, slots := 0, locals := 70 }) none X) {Q : State → Prop} {T : il_S} {m p : Nat} (hm : m < 6) (kk : ig_W GX 4 X Q (mapF T 0 (fun v => v - nI 1) (m + 1) 7) 87 [nI (m), nI (p), nI (7)] []) :
    ∀ (d k : Nat), k + d = 7 → m + 1 ≤ k → ig_W GX 4 X Q (mapF T 0 (fun v => v - nI 1) (m + 1) k) 61 [nI (m), nI (p), nI (k)] [] := by
  intro d
  induction d with
  | zero =>
    intro k hk hl
    have hk : k = 7 := by omega
    subst hk
    refine ig_iln C 2 dX0_close_61 rfl rfl ?_
    refine ig_bp C dX0_close_62 kb_6 ?_
    refine ig_icmp_gt_T C 87 dX0_close_64 (by decide) (nI_lt (show 6 < 7 by omega) (by omega)) ?_
    exact kk
  | succ d ih =>
    intro k hk hl
    refine ig_iln C 2 dX0_close_61 rfl rfl ?_
    refine ig_bp C dX0_close_62 kb_6 ?_
    refine ig_icmp_gt_F C 87 dX0_close_64 (by decide) (nI_nlt (show k ≤ 6 by omega) (by omega)) ?_
    refine ig_this C dX0_close_67 ?_
    refine ig_get C fX_start dX0_close_68 ?_
    refine ig_iln C 2 dX0_close_71 rfl rfl ?_
    refine ig_this C dX0_close_72 ?_
    refine ig_get C fX_start dX0_close_73 ?_
    refine ig_iln C 2 dX0_close_76 rfl rfl ?_
    refine ig_ald C 0 rfl (show k < 7 by omega) (v := (T 0 k)) (mapF_n (Nat.le_refl k)) dX0_close_77 ?_
    refine ig_ic C dX0_close_78 ki_1 ?_
    refine ig_isub C dX0_close_79 ?_
    refine ig_ast C 0 rfl (show k < 7 by omega) dX0_close_80 ?_
    refine ig_st (mapF_s (f := fun v => v - nI 1) hl) ?_
    refine ig_inc C 2 (nI (k + 1)) [nI (m), nI (p), nI (k + 1)] dX0_close_81 rfl (il_inc1 _) rfl rfl ?_
    refine ig_goto C 61 dX0_close_84 (by decide) ?_
    exact ih (k + 1) (by omega) (by omega)
set_option maxHeartbeats 1000000 in
set_option maxRecDepth 100000 in
theorem mX_close_28 {X : il_X} (C : ig_C GX cX0_close 4 ({ frames := 3, cells := 0, slots := 0, locals := 70 }) none X) {S T : il_S} {F : Nat → Option Nat} {m p e : Nat} {st : Nat → Nat} (he : e < 48) (hp : p ≤ e) (hm : m < 6) (hF : ∀ q, e + 1 ≤ q → F q = none) (hst : ∀ k, k ≤ 6 → S 0 k = nI (st k)) (h6 : st 6 = e + 1) (hs1 : ∀ k, m < k → k ≤ 6 → 1 ≤ st k) (hT : iv2 S T F p p) : ig_W GX 4 X (ig_Qv GX X (fun S' => cls S S' F p m (e + 1) st)) T 28 [nI (m), nI (p)] [] := by
  refine ig_iln C 1 dX0_close_28 rfl rfl ?_
  refine ig_ic C dX0_close_29 ki_1 ?_
  refine ig_iaddN C dX0_close_30 ?_
  refine ig_isn C 2 [nI (m), nI (p), nI (p + 1)] dX0_close_31 rfl rfl rfl rfl ?_
  refine mX_close_mv C he (by rw [hst 6 (by omega), h6]) (fun T hT => ?_) (e - p) p T (by omega) (Nat.le_refl p) hT
  refine ig_iln C 0 dX0_close_57 rfl rfl ?_
  refine ig_ic C dX0_close_58 ki_1 ?_
  refine ig_iaddN C dX0_close_59 ?_
  refine ig_isn C 2 [nI (m), nI (p), nI (m + 1)] dX0_close_60 rfl rfl rfl rfl ?_
  refine ig_st (mapF_0 (k := 0) (lo := m + 1) (f := fun v => v - nI 1)).symm ?_
  refine mX_close_st C hm ?_ (6 - m) (m + 1) (by omega) (Nat.le_refl _)
  exact ig_vret C dX0_close_87 (cls_of hp hF hst hs1 hT)
set_option maxHeartbeats 1000000 in
set_option maxRecDepth 100000 in
theorem mX_close (l : Launch) (S : il_S) (F : Nat → Option Nat) (h : cJ S F []) (m p e : Nat) (st : Nat → Nat) (hst : ∀ k, k ≤ 6 → S 0 k = nI (st k)) (h6 : st 6 = e + 1) (he : e < 48) (hp : p ≤ e) (hm : m < 6) (hs1 : ∀ k, m < k → k ≤ 6 → 1 ≤ st k) (hF : ∀ q, e + 1 ≤ q → F q = none) : ig_Mv GX l yX0_close cX0_close 4 3 70 [nI (m), nI (p)] S (fun S' => cls S S' F p m (e + 1) st) := by
  refine ig_Mv.of GX_ok (by decide) rfl (Nat.le_of_ble_eq_true rfl) (fun X C => ?_)
  have hnm := h.1 p (by omega) (fun z => by cases z)
  cases hFp : F p with
  | none =>
    rw [hFp] at hnm
    have hT : iv2 S S F p p := ⟨by rw [hdF_0, show upF F p none = F from funext fun q => by by_cases hq : q = p; rw [hq, upF_s, hFp]; rw [upF_n hq]]; exact h, fun q _ => ⟨rfl, rfl⟩, fun q h1 h2 => absurd h1 (by omega), fun q _ => ⟨rfl, rfl⟩, rfl, rfl, rfl, rfl⟩
    refine ig_this C dX0_close_0 ?_
    refine ig_get C fX_name dX0_close_1 ?_
    refine ig_iln C 1 dX0_close_4 rfl rfl ?_
    refine ig_ald C 2 rfl (show p < 48 by omega) (v := (-4)) hnm dX0_close_5 ?_
    refine ig_if_lt_T C 28 dX0_close_6 (by decide) (by decide) ?_
    exact mX_close_28 C he hp hm hF hst h6 hs1 hT
  | some s =>
    rw [hFp] at hnm
    obtain ⟨-, hs⟩ := h.2.1 p s hFp
    obtain ⟨b, n, hb, hn, hbr, hyr, h1⟩ := cJ_unlink h hFp
    have u1 : ∀ k, k ≠ 2 → k ≠ 7 → k ≠ 8 → k ≠ 9 → sU (ulkF S s b n) 2 p (-4) k = S k := fun k h2 h7 h8 h9 => by rw [sU_k h2, ulkF_k h7 h8 h9]
    have hT : iv2 S (sU (ulkF S s b n) 2 p (-4)) F p p := ⟨by rw [hdF_0]; exact cJ_clear h1 upF_s, fun q _ => by rw [u1 1 (by decide) (by decide) (by decide) (by decide), u1 3 (by decide) (by decide) (by decide) (by decide)]; exact ⟨rfl, rfl⟩, fun q h1 h2 => absurd h1 (by omega), fun q _ => by rw [u1 1 (by decide) (by decide) (by decide) (by decide), u1 3 (by decide) (by decide) (by decide) (by decide)]; exact ⟨rfl, rfl⟩, u1 0 (by decide) (by decide) (by decide) (by decide), u1 4 (by decide) (by decide) (by decide) (by decide), u1 5 (by decide) (by decide) (by decide) (by decide), u1 6 (by decide) (by decide) (by decide) (by decide)⟩
    refine ig_this C dX0_close_0 ?_
    refine ig_get C fX_name dX0_close_1 ?_
    refine ig_iln C 1 dX0_close_4 rfl rfl ?_
    refine ig_ald C 2 rfl (show p < 48 by omega) (v := nI (s)) hnm dX0_close_5 ?_
    refine ig_if_lt_F C 28 dX0_close_6 (by decide) (nI_pos (show s < 2 ^ 31 by omega)) ?_
    refine ig_this C dX0_close_9 ?_
    refine ig_iln C 1 dX0_close_10 rfl rfl ?_
    refine ig_this C dX0_close_11 ?_
    refine ig_get C fX_name dX0_close_12 ?_
    refine ig_iln C 1 dX0_close_15 rfl rfl ?_
    refine ig_ald C 2 rfl (show p < 48 by omega) (v := nI (s)) hnm dX0_close_16 ?_
    refine ig_callv C kX_unlink (mX_unlink (xl X) S p s (by omega) hs b n hb hn hbr hyr) rfl rfl ⟨Nat.le_of_ble_eq_true rfl, Nat.le_of_ble_eq_true rfl⟩ (Nat.le_of_ble_eq_true rfl) dX0_close_17 (fun S' hp' => ?_)
    subst hp'
    refine ig_this C dX0_close_20 ?_
    refine ig_get C fX_name dX0_close_21 ?_
    refine ig_iln C 1 dX0_close_24 rfl rfl ?_
    refine ig_bp C dX0_close_25 kb_m4 ?_
    refine ig_ast C 2 rfl (show p < 48 by omega) dX0_close_27 ?_
    exact mX_close_28 C he hp hm hF hst h6 hs1 hT

theorem mfk_none {d : Nat → Nat → Option Nat} {s u : Nat} (hu : u < 6) (hn : d u s = none) : mfk d s (6 - u) = mfk d s (5 - u) := by
  rw [show 6 - u = 5 - u + 1 by omega, mfk_succ, if_pos (by rw [show 5 - (5 - u) = u by omega]; exact hn)]
theorem mfk_hit {d : Nat → Nat → Option Nat} {s u w : Nat} (hu : u < 6) (hn : d u s = some w) : mfk d s (6 - u) = some u := by
  rw [show 6 - u = 5 - u + 1 by omega, mfk_succ, show 5 - (5 - u) = u by omega, if_neg (by rw [hn]; exact fun q => by cases q)]
/-- what refresh() does -/
def iv3 (S T : il_S) (F : Nat → Option Nat) (a : il_A) (t : Nat) : Prop := cJ T F [] ∧ (∀ s, s < t → T 5 s = oI (wh a s) ∧ T 6 s = oI (mf a.2.2.2 s)) ∧ (∀ q, F q = none → T 1 q = S 1 q) ∧ T 0 = S 0 ∧ T 3 = S 3 ∧ T 4 = S 4
theorem iv3_eq {S T : il_S} {F : Nat → Option Nat} {a : il_A} {t : Nat} (h : iv3 S T F a t) (e : oI (wh a t) = T 5 t) : iv3 S (sU T 6 t (oI (mf a.2.2.2 t))) F a (t + 1) := by
  obtain ⟨a1, a2, a3, a4, a5, a6⟩ := h
  have k : ∀ k, k ≠ 6 → sU T 6 t (oI (mf a.2.2.2 t)) k = T k := fun k hk => sU_k hk
  refine ⟨cJ_same a1 (fun q _ => by rw [k 1 (by decide)]) (fun q _ => by rw [k 2 (by decide)]) (fun q _ => by rw [k 3 (by decide)]) (k 5 (by decide)) (k 7 (by decide)) (k 8 (by decide)) (k 9 (by decide)), fun s hs => ?_, fun q hq => by rw [k 1 (by decide)]; exact a3 q hq, by rw [k 0 (by decide), a4], by rw [k 3 (by decide), a5], by rw [k 4 (by decide), a6]⟩
  rw [k 5 (by decide)]
  by_cases h1 : s = t
  · subst h1
    exact ⟨e.symm, sU_s⟩
  · rw [sU_j h1]
    exact a2 s (by omega)
theorem iv3_ne {S T : il_S} {F : Nat → Option Nat} {a : il_A} {t : Nat} {L : List Nat} (h : iv3 S T F a t) (hL : ∀ p, p ∈ L ↔ F p = some t) : iv3 S (rbF (sU (sU T 6 t (oI (mf a.2.2.2 t))) 5 t (oI (wh a t))) t L) F a (t + 1) := by
  obtain ⟨a1, a2, a3, a4, a5, a6⟩ := h
  have k : ∀ k, k ≠ 6 → sU T 6 t (oI (mf a.2.2.2 t)) k = T k := fun k hk => sU_k hk
  have c1 : cJ (sU T 6 t (oI (mf a.2.2.2 t))) F [] := cJ_same a1 (fun q _ => by rw [k 1 (by decide)]) (fun q _ => by rw [k 2 (by decide)]) (fun q _ => by rw [k 3 (by decide)]) (k 5 (by decide)) (k 7 (by decide)) (k 8 (by decide)) (k 9 (by decide))
  have k2 : ∀ j, j ≠ 1 → j ≠ 5 → j ≠ 6 → rbF (sU (sU T 6 t (oI (mf a.2.2.2 t))) 5 t (oI (wh a t))) t L j = T j := fun j h1 h5 h6 => by rw [rbF_k h1, sU_k h5, sU_k h6]
  refine ⟨cJ_known c1 hL, fun s hs => ?_, fun q hq => ?_, by rw [k2 0 (by decide) (by decide) (by decide), a4], by rw [k2 3 (by decide) (by decide) (by decide), a5], by rw [k2 4 (by decide) (by decide) (by decide), a6]⟩
  · rw [rbF_k (by decide), rbF_k (by decide)]
    by_cases h1 : s = t
    · subst h1
      exact ⟨sU_s, by rw [sU_k (by decide)]; exact sU_s⟩
    · rw [sU_j h1, sU_k (by decide), sU_k (by decide), sU_j h1]
      exact a2 s (by omega)
  · rw [rbF_out (fun z => by rw [hL, hq] at z; cases z), sU_k (by decide), sU_k (by decide)]
    exact a3 q hq
set_option maxHeartbeats 1000000 in
set_option maxRecDepth 100000 in
theorem mX_refresh_who {X : il_X} (C : ig_C GX cX0_refresh 4 ({ frames := 2, cells := 0, slots := 0, locals := 45 }) none X) {Q : State → Prop} {T : il_S} {a : il_A} {s : Nat} (hs : s < 10) (hZ : vZ a) (hV : vD a) (h4 : ∀ m, m < 6 → T 4 (m * 10 + s) = oI (a.2.2.2 m s)) (kk : ig_W GX 4 X Q T 43 [nI (s), oI (mf a.2.2.2 s), (nI 0 - nI 1)] []) :
    ∀ (u : Nat) (x : Int32), u < 6 → x = oI (mfk a.2.2.2 s (5 - u)) → ig_W GX 4 X Q T 13 [nI (s), x, nI (u)] [] := by
  have tail : ∀ (u : Nat) (x : Int32), u < 6 → x = oI (mfk a.2.2.2 s (6 - u)) → (∀ (v : Nat) (x : Int32), v + 1 = u → x = oI (mfk a.2.2.2 s (5 - v)) → ig_W GX 4 X Q T 13 [nI (s), x, nI (v)] []) → ig_W GX 4 X Q T 37 [nI (s), x, nI (u)] [] := by
    intro u x hu hx ih
    cases u with
    | zero =>
      subst hx
      refine ig_inc C 2 ((nI 0 - nI 1)) [nI (s), oI (mfk a.2.2.2 s (6 - 0)), (nI 0 - nI 1)] dX0_refresh_37 rfl (il_dec _) rfl rfl ?_
      refine ig_goto C 13 dX0_refresh_40 (by decide) ?_
      refine ig_iln C 2 dX0_refresh_13 rfl rfl ?_
      refine ig_if_lt_T C 43 dX0_refresh_14 (by decide) (by decide) ?_
      exact kk
    | succ v =>
      refine ig_inc C 2 (nI (v)) [nI (s), x, nI (v)] dX0_refresh_37 rfl (pk_m1 v) rfl rfl ?_
      refine ig_goto C 13 dX0_refresh_40 (by decide) ?_
      exact ih v x rfl (by rw [hx]; congr 2; omega)
  intro u
  induction u with
  | zero =>
    intro x hu hx
    have hd := h4 0 (by omega)
    have hdl := vA_dlt hZ hV (show 0 < 6 by omega) hs
    cases hn : a.2.2.2 0 s with
    | none =>
      rw [hn] at hd
      refine ig_iln C 2 dX0_refresh_13 rfl rfl ?_
      refine ig_if_lt_F C 43 dX0_refresh_14 (by decide) (nI_pos (show 0 < 2 ^ 31 by omega)) ?_
      refine ig_this C dX0_refresh_17 ?_
      refine ig_get C fX_defined dX0_refresh_18 ?_
      refine ig_iln C 2 dX0_refresh_21 rfl rfl ?_
      refine ig_bp C dX0_refresh_22 kb_10 ?_
      refine ig_imulN C dX0_refresh_24 ?_
      refine ig_iln C 0 dX0_refresh_25 rfl rfl ?_
      refine ig_iaddN C dX0_refresh_26 ?_
      refine ig_ald C 4 rfl (show (0 * 10) + s < 60 by omega) (v := (-4)) hd dX0_refresh_27 ?_
      refine ig_if_lt_T C 35 dX0_refresh_28 (by decide) (by decide) ?_
      refine ig_iln C 1 dX0_refresh_35 rfl rfl ?_
      refine ig_isn C 1 [nI (s), x, nI (0)] dX0_refresh_36 rfl rfl rfl rfl ?_
      exact tail (0) x hu (by rw [hx, mfk_none hu hn]) (fun v y hv _ => absurd hv (by omega))
    | some w =>
      rw [hn] at hd
      have hw := hdl w hn
      refine ig_iln C 2 dX0_refresh_13 rfl rfl ?_
      refine ig_if_lt_F C 43 dX0_refresh_14 (by decide) (nI_pos (show 0 < 2 ^ 31 by omega)) ?_
      refine ig_this C dX0_refresh_17 ?_
      refine ig_get C fX_defined dX0_refresh_18 ?_
      refine ig_iln C 2 dX0_refresh_21 rfl rfl ?_
      refine ig_bp C dX0_refresh_22 kb_10 ?_
      refine ig_imulN C dX0_refresh_24 ?_
      refine ig_iln C 0 dX0_refresh_25 rfl rfl ?_
      refine ig_iaddN C dX0_refresh_26 ?_
      refine ig_ald C 4 rfl (show (0 * 10) + s < 60 by omega) (v := nI (w)) hd dX0_refresh_27 ?_
      refine ig_if_lt_F C 35 dX0_refresh_28 (by decide) (nI_pos (show w < 2 ^ 31 by omega)) ?_
      refine ig_iln C 2 dX0_refresh_31 rfl rfl ?_
      refine ig_goto C 36 dX0_refresh_32 (by decide) ?_
      refine ig_isn C 1 [nI (s), nI (0), nI (0)] dX0_refresh_36 rfl rfl rfl rfl ?_
      exact tail (0) _ hu (by rw [mfk_hit hu hn]; rfl) (fun v y hv _ => absurd hv (by omega))
  | succ u ih =>
    intro x hu hx
    have hd := h4 (u + 1) (by omega)
    have hdl := vA_dlt hZ hV (show u + 1 < 6 by omega) hs
    cases hn : a.2.2.2 (u + 1) s with
    | none =>
      rw [hn] at hd
      refine ig_iln C 2 dX0_refresh_13 rfl rfl ?_
      refine ig_if_lt_F C 43 dX0_refresh_14 (by decide) (nI_pos (show u + 1 < 2 ^ 31 by omega)) ?_
      refine ig_this C dX0_refresh_17 ?_
      refine ig_get C fX_defined dX0_refresh_18 ?_
      refine ig_iln C 2 dX0_refresh_21 rfl rfl ?_
      refine ig_bp C dX0_refresh_22 kb_10 ?_
      refine ig_imulN C dX0_refresh_24 ?_
      refine ig_iln C 0 dX0_refresh_25 rfl rfl ?_
      refine ig_iaddN C dX0_refresh_26 ?_
      refine ig_ald C 4 rfl (show ((u + 1) * 10) + s < 60 by omega) (v := (-4)) hd dX0_refresh_27 ?_
      refine ig_if_lt_T C 35 dX0_refresh_28 (by decide) (by decide) ?_
      refine ig_iln C 1 dX0_refresh_35 rfl rfl ?_
      refine ig_isn C 1 [nI (s), x, nI (u + 1)] dX0_refresh_36 rfl rfl rfl rfl ?_
      exact tail (u + 1) x hu (by rw [hx, mfk_none hu hn]) (fun v y hv hy => by cases hv; exact ih y (by omega) hy)
    | some w =>
      rw [hn] at hd
      have hw := hdl w hn
      refine ig_iln C 2 dX0_refresh_13 rfl rfl ?_
      refine ig_if_lt_F C 43 dX0_refresh_14 (by decide) (nI_pos (show u + 1 < 2 ^ 31 by omega)) ?_
      refine ig_this C dX0_refresh_17 ?_
      refine ig_get C fX_defined dX0_refresh_18 ?_
      refine ig_iln C 2 dX0_refresh_21 rfl rfl ?_
      refine ig_bp C dX0_refresh_22 kb_10 ?_
      refine ig_imulN C dX0_refresh_24 ?_
      refine ig_iln C 0 dX0_refresh_25 rfl rfl ?_
      refine ig_iaddN C dX0_refresh_26 ?_
      refine ig_ald C 4 rfl (show ((u + 1) * 10) + s < 60 by omega) (v := nI (w)) hd dX0_refresh_27 ?_
      refine ig_if_lt_F C 35 dX0_refresh_28 (by decide) (nI_pos (show w < 2 ^ 31 by omega)) ?_
      refine ig_iln C 2 dX0_refresh_31 rfl rfl ?_
      refine ig_goto C 36 dX0_refresh_32 (by decide) ?_
      refine ig_isn C 1 [nI (s), nI (u + 1), nI (u + 1)] dX0_refresh_36 rfl rfl rfl rfl ?_
      exact tail (u + 1) _ hu (by rw [mfk_hit hu hn]; rfl) (fun v y hv hy => by cases hv; exact ih y (by omega) hy)
set_option maxHeartbeats 1000000 in
set_option maxRecDepth 100000 in
theorem mX_refresh_70 {X : il_X} (C : ig_C GX cX0_refresh 4 ({ frames := 2, cells := 0, slots := 0, locals := 45 }) none X) {Q : State → Prop} {S T : il_S} {F : Nat → Option Nat} {a : il_A} {s : Nat} {x : Int32} (hs : s < 10) (hT : iv3 S T F a s) (kk : ∀ T', iv3 S T' F a (s + 1) → ig_W GX 4 X Q T' 2 [nI (s + 1)] []) : ig_W GX 4 X Q T 70 [nI (s), oI (mf a.2.2.2 s), x] [.int (oI (wh a s))] := by
  by_cases e : oI (wh a s) = T 5 s
  · refine ig_isn C 2 [nI (s), oI (mf a.2.2.2 s), oI (wh a s)] dX0_refresh_70 rfl rfl rfl rfl ?_
    refine ig_this C dX0_refresh_71 ?_
    refine ig_get C fX_counting dX0_refresh_72 ?_
    refine ig_iln C 0 dX0_refresh_75 rfl rfl ?_
    refine ig_iln C 1 dX0_refresh_76 rfl rfl ?_
    refine ig_ast C 6 rfl (show s < 10 by omega) dX0_refresh_77 ?_
    refine ig_iln C 2 dX0_refresh_78 rfl rfl ?_
    refine ig_this C dX0_refresh_79 ?_
    refine ig_get C fX_known dX0_refresh_80 ?_
    refine ig_iln C 0 dX0_refresh_83 rfl rfl ?_
    refine ig_ald C 5 rfl (show s < 10 by omega) (v := (T 5 s)) (by rw [sU_k (by decide)]) dX0_refresh_84 ?_
    refine ig_icmp_eq_T C 100 dX0_refresh_85 (by decide) e ?_
    refine ig_inc C 0 (nI (s + 1)) [nI (s + 1), oI (mf a.2.2.2 s), oI (wh a s)] dX0_refresh_100 rfl (il_inc1 _) rfl rfl ?_
    refine ig_pre 1 [nI (s + 1)] rfl ?_
    refine ig_goto C 2 dX0_refresh_103 (by decide) ?_
    exact kk _ (iv3_eq hT e)
  · obtain ⟨L, hn, hm, hg⟩ := hT.1.2.2.1 s hs
    have hlt := sg_lt _ _ _ hg
    have hlen : L.length ≤ 48 := by rw [len_cn 48 L hn hlt]; exact cn_le _ _
    have h2 : ∀ y ∈ L, T 2 y = nI s := fun y hy => by rw [hT.1.1 y (hlt y hy) (fun z => by cases z), (hm y).mp hy]; rfl
    refine ig_isn C 2 [nI (s), oI (mf a.2.2.2 s), oI (wh a s)] dX0_refresh_70 rfl rfl rfl rfl ?_
    refine ig_this C dX0_refresh_71 ?_
    refine ig_get C fX_counting dX0_refresh_72 ?_
    refine ig_iln C 0 dX0_refresh_75 rfl rfl ?_
    refine ig_iln C 1 dX0_refresh_76 rfl rfl ?_
    refine ig_ast C 6 rfl (show s < 10 by omega) dX0_refresh_77 ?_
    refine ig_iln C 2 dX0_refresh_78 rfl rfl ?_
    refine ig_this C dX0_refresh_79 ?_
    refine ig_get C fX_known dX0_refresh_80 ?_
    refine ig_iln C 0 dX0_refresh_83 rfl rfl ?_
    refine ig_ald C 5 rfl (show s < 10 by omega) (v := (T 5 s)) (by rw [sU_k (by decide)]) dX0_refresh_84 ?_
    refine ig_icmp_eq_F C 100 dX0_refresh_85 (by decide) e ?_
    refine ig_this C dX0_refresh_88 ?_
    refine ig_get C fX_known dX0_refresh_89 ?_
    refine ig_iln C 0 dX0_refresh_92 rfl rfl ?_
    refine ig_iln C 2 dX0_refresh_93 rfl rfl ?_
    refine ig_ast C 5 rfl (show s < 10 by omega) dX0_refresh_94 ?_
    refine ig_this C dX0_refresh_95 ?_
    refine ig_iln C 0 dX0_refresh_96 rfl rfl ?_
    refine ig_callv C kX_rebind (mX_rebind (xl X) (sU (sU T 6 s (oI (mf a.2.2.2 s))) 5 s (oI (wh a s))) s hs L hg h2 hlen) rfl rfl ⟨Nat.le_of_ble_eq_true rfl, Nat.le_of_ble_eq_true rfl⟩ (Nat.le_of_ble_eq_true rfl) dX0_refresh_97 (fun S' hp => ?_)
    subst hp
    refine ig_inc C 0 (nI (s + 1)) [nI (s + 1), oI (mf a.2.2.2 s), oI (wh a s)] dX0_refresh_100 rfl (il_inc1 _) rfl rfl ?_
    refine ig_pre 1 [nI (s + 1)] rfl ?_
    refine ig_goto C 2 dX0_refresh_103 (by decide) ?_
    exact kk _ (iv3_ne hT hm)
set_option maxHeartbeats 1000000 in
set_option maxRecDepth 100000 in
theorem mX_refresh_loop {X : il_X} (C : ig_C GX cX0_refresh 4 ({ frames := 2, cells := 0, slots := 0, locals := 45 }) none X) {S : il_S} {F : Nat → Option Nat} {a : il_A} (hZ : vZ a) (hV : vD a) (h0 : ∀ k, k ≤ 6 → S 0 k = nI (bg a.1 k)) (h4 : ∀ m s, m < 6 → s < 10 → S 4 (m * 10 + s) = oI (a.2.2.2 m s)) :
    ∀ (d s : Nat) (T : il_S), s + d = 10 → iv3 S T F a s → ig_W GX 4 X (ig_Qv GX X (fun S' => iv3 S S' F a 10)) T 2 [nI (s)] [] := by
  intro d
  induction d with
  | zero =>
    intro s T hs hT
    have hs : s = 10 := by omega
    subst hs
    refine ig_iln C 0 dX0_refresh_2 rfl rfl ?_
    refine ig_bp C dX0_refresh_3 kb_10 ?_
    refine ig_icmp_ge_T C 106 dX0_refresh_5 (by decide) (nI_le (show 10 ≤ 10 by omega) (by omega)) ?_
    exact ig_vret C dX0_refresh_106 hT
  | succ d ih =>
    intro s T hs hT
    have h4T : ∀ m, m < 6 → T 4 (m * 10 + s) = oI (a.2.2.2 m s) := fun m hm => by rw [hT.2.2.2.2.2]; exact h4 m s hm (by omega)
    have h0T : ∀ k, k ≤ 6 → T 0 k = nI (bg a.1 k) := fun k hk => by rw [hT.2.2.2.1]; exact h0 k hk
    refine ig_iln C 0 dX0_refresh_2 rfl rfl ?_
    refine ig_bp C dX0_refresh_3 kb_10 ?_
    refine ig_icmp_ge_F C 106 dX0_refresh_5 (by decide) (nI_ge (show s < 10 by omega) (by omega)) ?_
    refine ig_bp C dX0_refresh_8 kb_m4 ?_
    refine ig_isn C 1 [nI (s), (-4)] dX0_refresh_10 rfl rfl rfl rfl ?_
    refine ig_ic C dX0_refresh_11 ki_5 ?_
    refine ig_isn C 2 [nI (s), (-4), nI (5)] dX0_refresh_12 rfl rfl rfl rfl ?_
    refine mX_refresh_who C (by omega) hZ hV h4T ?_ 5 _ (by omega) rfl
    cases hm : mf a.2.2.2 s with
    | none =>
      refine ig_iln C 1 dX0_refresh_43 rfl rfl ?_
      refine ig_if_ge_F C 52 dX0_refresh_44 (by decide) (by decide) ?_
      refine ig_bp C dX0_refresh_47 kb_m4 ?_
      refine ig_goto C 70 dX0_refresh_49 (by decide) ?_
      have hk := mX_refresh_70 (x := nI 0 - nI 1) C (by omega) hT (fun T' hT' => ih (s + 1) T' (by omega) hT')
      rw [hm, wh_none hm] at hk
      exact hk
    | some m =>
      obtain ⟨hm6, u, hu⟩ := mf_some hm
      have hd := h4T m hm6
      rw [hu] at hd
      have hb := bg_le hZ.1 m (by omega)
      have hu8 := hV m s u hm6 (by omega) hu
      have hz8 := hZ.1 m hm6
      refine ig_pre 3 [nI s, nI m, nI 0 - nI 1] rfl ?_
      refine ig_iln C 1 dX0_refresh_43 rfl rfl ?_
      refine ig_if_ge_T C 52 dX0_refresh_44 (by decide) (nI_pos' (show m < 2 ^ 31 by omega)) ?_
      refine ig_this C dX0_refresh_52 ?_
      refine ig_get C fX_start dX0_refresh_53 ?_
      refine ig_iln C 1 dX0_refresh_56 rfl rfl ?_
      refine ig_ald C 0 rfl (show m < 7 by omega) (v := nI (bg a.1 m)) (h0T m (by omega)) dX0_refresh_57 ?_
      refine ig_this C dX0_refresh_58 ?_
      refine ig_get C fX_defined dX0_refresh_59 ?_
      refine ig_iln C 1 dX0_refresh_62 rfl rfl ?_
      refine ig_bp C dX0_refresh_63 kb_10 ?_
      refine ig_imulN C dX0_refresh_65 ?_
      refine ig_iln C 0 dX0_refresh_66 rfl rfl ?_
      refine ig_iaddN C dX0_refresh_67 ?_
      refine ig_ald C 4 rfl (show (m * 10) + s < 60 by omega) (v := nI (u)) hd dX0_refresh_68 ?_
      refine ig_iaddN C dX0_refresh_69 ?_
      have hk := mX_refresh_70 (x := nI 0 - nI 1) C (by omega) hT (fun T' hT' => ih (s + 1) T' (by omega) hT')
      rw [hm, wh_some hm hu] at hk
      exact hk
set_option maxHeartbeats 1000000 in
set_option maxRecDepth 100000 in
theorem mX_refresh (l : Launch) (S : il_S) (F : Nat → Option Nat) (a : il_A) (h : cJ S F []) (hZ : vZ a) (hV : vD a) (h0 : ∀ k, k ≤ 6 → S 0 k = nI (bg a.1 k)) (h4 : ∀ m s, m < 6 → s < 10 → S 4 (m * 10 + s) = oI (a.2.2.2 m s)) : ig_Mv GX l yX0_refresh cX0_refresh 4 2 45 [] S (fun S' => iv3 S S' F a 10) := by
  refine ig_Mv.of GX_ok (by decide) rfl (Nat.le_of_ble_eq_true rfl) (fun X C => ?_)
  refine ig_ic C dX0_refresh_0 ki_0 ?_
  refine ig_isn C 0 [nI (0)] dX0_refresh_1 rfl rfl rfl rfl ?_
  exact mX_refresh_loop C hZ hV h0 h4 10 0 S rfl ⟨h, fun s hs => absurd hs (by omega), fun q _ => rfl, rfl, rfl, rfl⟩
end
section
/-! PURE: the linker's image against the abstract state -/
def IM (a : il_A) (S : il_S) (F : Nat → Option Nat) : Prop := vZ a ∧ (∀ k, k ≤ 6 → S 0 k = nI (bg a.1 k)) ∧ (∀ m w, m < 6 → w < a.1 m → F (bg a.1 m + w) = a.2.1 m w ∧ (a.2.1 m w = none → S 1 (bg a.1 m + w) = a.2.2.1 m w) ∧ (a.2.1 m w ≠ none → S 3 (bg a.1 m + w) = a.2.2.1 m w)) ∧ ∀ q, bg a.1 6 ≤ q → F q = none
def DF (a : il_A) (S : il_S) : Prop := ∀ m s, m < 6 → s < 10 → S 4 (m * 10 + s) = oI (a.2.2.2 m s)
def RX (a : il_A) (S : il_S) : Prop := ∃ F, cJ S F [] ∧ IM a S F ∧ DF a S ∧ vD a ∧ ∀ s, s < 10 → S 5 s = oI (wh a s) ∧ S 6 s = oI (mf a.2.2.2 s)
theorem bg_s (z : Nat → Nat) (k : Nat) : bg z (k + 1) = bg z k + z k := rfl
theorem bg_im {a : il_A} {j i : Nat} {n : Option Nat} {v : Int32} : ∀ k, bg (a_im a j i n v).1 k = if j < k then bg a.1 k + 1 else bg a.1 k := by
  intro k
  induction k with
  | zero => rfl
  | succ k ih =>
    have h1 : (a_im a j i n v).1 k = if k = j then a.1 j + 1 else a.1 k := rfl
    rw [bg_s, ih, h1, bg_s]
    by_cases h2 : k = j
    · subst h2
      rw [if_neg (by omega), if_pos rfl, if_pos (by omega)]
      omega
    · rw [if_neg h2]
      by_cases h3 : j < k
      · rw [if_pos h3, if_pos (by omega)]
        omega
      · rw [if_neg h3, if_neg (by omega)]
theorem bg_rm {a : il_A} {j i : Nat} (hj : 1 ≤ a.1 j) : ∀ k, bg (a_rm a j i).1 k = if j < k then bg a.1 k - 1 else bg a.1 k := by
  intro k
  induction k with
  | zero => rfl
  | succ k ih =>
    have h1 : (a_rm a j i).1 k = if k = j then a.1 j - 1 else a.1 k := rfl
    rw [bg_s, ih, h1, bg_s]
    by_cases h2 : k = j
    · subst h2
      rw [if_neg (by omega), if_pos rfl, if_pos (by omega)]
      omega
    · rw [if_neg h2]
      by_cases h3 : j < k
      · have h4 : bg a.1 (j + 1) ≤ bg a.1 k := bg_mono a.1 (by omega)
        rw [bg_s] at h4
        rw [if_pos h3, if_pos (by omega)]
        omega
      · rw [if_neg h3, if_neg (by omega)]
theorem IM_im {a : il_A} {S T U : il_S} {F : Nat → Option Nat} {j i : Nat} {n : Option Nat} {v : Int32} (hI : IM a S F) (hj : j < 6) (h8 : a.1 j < 8) (hi : i ≤ a.1 j) (hn : ∀ s, n = some s → s < 10) (ho : opn S T F (bg a.1 j + i) j (bg a.1 6) (bg a.1))
    (hU : ∀ q, q ≠ bg a.1 j + i → U 1 q = T 1 q ∧ U 3 q = T 3 q) (hU1 : n = none → U 1 (bg a.1 j + i) = v) (hU3 : n ≠ none → U 3 (bg a.1 j + i) = v) (hU0 : U 0 = T 0) : IM (a_im a j i n v) U (upF (shF F (bg a.1 j + i)) (bg a.1 j + i) n) := by
  obtain ⟨hZ, h0, hm, hb⟩ := hI
  obtain ⟨-, o2, o3, o4, -, -, -⟩ := ho
  have hj6 : bg a.1 (j + 1) ≤ bg a.1 6 := bg_mono a.1 (by omega)
  rw [bg_s] at hj6
  -- a place of the old image, below or above p
  have low : ∀ m w, m < 6 → w < a.1 m → bg a.1 m + w < bg a.1 j + i → upF (shF F (bg a.1 j + i)) (bg a.1 j + i) n (bg a.1 m + w) = a.2.1 m w ∧ (a.2.1 m w = none → U 1 (bg a.1 m + w) = a.2.2.1 m w) ∧ (a.2.1 m w ≠ none → U 3 (bg a.1 m + w) = a.2.2.1 m w) := by
    intro m w h1 h2 h3
    have h4 := hm m w h1 h2
    have h5 := o2 _ h3
    have h6 := hU (bg a.1 m + w) (by omega)
    rw [upF_n (by omega), shF_lt h3, h6.1, h6.2, h5.1, h5.2]
    exact h4
  have high : ∀ m w q, m < 6 → w < a.1 m → bg a.1 j + i ≤ bg a.1 m + w → q = bg a.1 m + w + 1 → upF (shF F (bg a.1 j + i)) (bg a.1 j + i) n q = a.2.1 m w ∧ (a.2.1 m w = none → U 1 q = a.2.2.1 m w) ∧ (a.2.1 m w ≠ none → U 3 q = a.2.2.1 m w) := by
    intro m w q h1 h2 h3 hq
    subst hq
    have h4 := hm m w h1 h2
    have h7 : bg a.1 (m + 1) ≤ bg a.1 6 := bg_mono a.1 (by omega)
    rw [bg_s] at h7
    have h5 := o3 (bg a.1 m + w + 1) (by omega) (by omega)
    have h6 := hU (bg a.1 m + w + 1) (by omega)
    rw [upF_n (by omega), shF_gt (by omega), h6.1, h6.2, h5.1, h5.2, Nat.add_sub_cancel]
    exact h4
  refine ⟨vZ_im hZ h8 hi hn hj, fun k hk => ?_, fun m w h1 h2 => ?_, fun q hq => ?_⟩
  · rw [hU0, o4 k hk, bg_im]
  · have h2 : w < (if m = j then a.1 j + 1 else a.1 m) := h2
    show upF (shF F (bg a.1 j + i)) (bg a.1 j + i) n (bg (a_im a j i n v).1 m + w) = (if m = j then (if w < i then a.2.1 j w else if w = i then n else a.2.1 j (w - 1)) else a.2.1 m w) ∧ ((if m = j then (if w < i then a.2.1 j w else if w = i then n else a.2.1 j (w - 1)) else a.2.1 m w) = none → U 1 (bg (a_im a j i n v).1 m + w) = (if m = j then (if w < i then a.2.2.1 j w else if w = i then v else a.2.2.1 j (w - 1)) else a.2.2.1 m w)) ∧ ((if m = j then (if w < i then a.2.1 j w else if w = i then n else a.2.1 j (w - 1)) else a.2.1 m w) ≠ none → U 3 (bg (a_im a j i n v).1 m + w) = (if m = j then (if w < i then a.2.2.1 j w else if w = i then v else a.2.2.1 j (w - 1)) else a.2.2.1 m w))
    rw [bg_im]
    by_cases hmj : m = j
    · subst hmj
      rw [if_pos rfl] at h2
      simp only [if_true]
      rw [if_neg (by omega)]
      by_cases h3 : w < i
      · simp only [if_pos h3]
        exact low m w h1 (by omega) (by omega)
      · simp only [if_neg h3]
        by_cases h4 : w = i
        · subst h4
          simp only [if_true]
          exact ⟨upF_s, hU1, hU3⟩
        · simp only [if_neg h4]
          exact high m (w - 1) _ h1 (by omega) (by omega) (by omega)
    · rw [if_neg hmj] at h2
      simp only [if_neg hmj]
      by_cases h3 : j < m
      · rw [if_pos h3]
        have h4 : bg a.1 (j + 1) ≤ bg a.1 m := bg_mono a.1 (by omega)
        rw [bg_s] at h4
        exact high m w _ h1 h2 (by omega) (by omega)
      · rw [if_neg h3]
        have h4 : bg a.1 (m + 1) ≤ bg a.1 j := bg_mono a.1 (by omega)
        rw [bg_s] at h4
        exact low m w h1 h2 (by omega)
  · have hq : bg (a_im a j i n v).1 6 ≤ q := hq
    rw [bg_im, if_pos hj] at hq
    rw [upF_n (by omega), shF_gt (by omega)]
    exact hb _ (by omega)
theorem IM_rm {a : il_A} {S T : il_S} {F : Nat → Option Nat} {j i : Nat} (hI : IM a S F) (hj : j < 6) (hi : i < a.1 j) (hc : cls S T F (bg a.1 j + i) j (bg a.1 6) (bg a.1)) : IM (a_rm a j i) T (dnF F (bg a.1 j + i)) := by
  obtain ⟨hZ, h0, hm, hb⟩ := hI
  obtain ⟨-, o2, o3, o4, -, -, -⟩ := hc
  have hj6 : bg a.1 (j + 1) ≤ bg a.1 6 := bg_mono a.1 (by omega)
  rw [bg_s] at hj6
  have low : ∀ m w, m < 6 → w < a.1 m → bg a.1 m + w < bg a.1 j + i → dnF F (bg a.1 j + i) (bg a.1 m + w) = a.2.1 m w ∧ (a.2.1 m w = none → T 1 (bg a.1 m + w) = a.2.2.1 m w) ∧ (a.2.1 m w ≠ none → T 3 (bg a.1 m + w) = a.2.2.1 m w) := by
    intro m w h1 h2 h3
    have h4 := hm m w h1 h2
    have h5 := o2 _ h3
    have h6 : dnF F (bg a.1 j + i) (bg a.1 m + w) = F (bg a.1 m + w) := if_pos h3
    rw [h6, h5.1, h5.2]
    exact h4
  have high : ∀ m w q, m < 6 → w < a.1 m → bg a.1 j + i < bg a.1 m + w → q + 1 = bg a.1 m + w → dnF F (bg a.1 j + i) q = a.2.1 m w ∧ (a.2.1 m w = none → T 1 q = a.2.2.1 m w) ∧ (a.2.1 m w ≠ none → T 3 q = a.2.2.1 m w) := by
    intro m w q h1 h2 h3 hq
    have h4 := hm m w h1 h2
    have h7 : bg a.1 (m + 1) ≤ bg a.1 6 := bg_mono a.1 (by omega)
    rw [bg_s] at h7
    have h5 := o3 q (by omega) (by omega)
    have h6 : dnF F (bg a.1 j + i) q = F (q + 1) := if_neg (by omega)
    rw [h6, h5.1, h5.2, hq]
    exact h4
  refine ⟨vZ_rm hZ hj hi, fun k hk => ?_, fun m w h1 h2 => ?_, fun q hq => ?_⟩
  · rw [o4 k hk, bg_rm (by omega)]
  · have h2 : w < (if m = j then a.1 j - 1 else a.1 m) := h2
    show dnF F (bg a.1 j + i) (bg (a_rm a j i).1 m + w) = (if m = j then (if w < i then a.2.1 j w else a.2.1 j (w + 1)) else a.2.1 m w) ∧ ((if m = j then (if w < i then a.2.1 j w else a.2.1 j (w + 1)) else a.2.1 m w) = none → T 1 (bg (a_rm a j i).1 m + w) = (if m = j then (if w < i then a.2.2.1 j w else a.2.2.1 j (w + 1)) else a.2.2.1 m w)) ∧ ((if m = j then (if w < i then a.2.1 j w else a.2.1 j (w + 1)) else a.2.1 m w) ≠ none → T 3 (bg (a_rm a j i).1 m + w) = (if m = j then (if w < i then a.2.2.1 j w else a.2.2.1 j (w + 1)) else a.2.2.1 m w))
    rw [bg_rm (by omega)]
    by_cases hmj : m = j
    · subst hmj
      rw [if_pos rfl] at h2
      simp only [if_true]
      rw [if_neg (by omega)]
      by_cases h3 : w < i
      · simp only [if_pos h3]
        exact low m w h1 (by omega) (by omega)
      · simp only [if_neg h3]
        exact high m (w + 1) _ h1 (by omega) (by omega) (by omega)
    · rw [if_neg hmj] at h2
      simp only [if_neg hmj]
      by_cases h3 : j < m
      · rw [if_pos h3]
        have h4 : bg a.1 (j + 1) ≤ bg a.1 m := bg_mono a.1 (by omega)
        rw [bg_s] at h4
        exact high m w _ h1 h2 (by omega) (by omega)
      · rw [if_neg h3]
        have h4 : bg a.1 (m + 1) ≤ bg a.1 j := bg_mono a.1 (by omega)
        rw [bg_s] at h4
        exact low m w h1 h2 (by omega)
  · have hq : bg (a_rm a j i).1 6 ≤ q := hq
    rw [bg_rm (by omega), if_pos hj] at hq
    have h6 : dnF F (bg a.1 j + i) q = F (q + 1) := if_neg (by omega)
    rw [h6]
    exact hb _ (by omega)
theorem IM_patch {a : il_A} {S U : il_S} {F : Nat → Option Nat} {j i : Nat} {v : Int32} (hI : IM a S F) (hj : j < 6) (hi : i < a.1 j) (hU : ∀ q, q ≠ bg a.1 j + i → U 1 q = S 1 q ∧ U 3 q = S 3 q) (hU1 : U 1 (bg a.1 j + i) = v) (hU0 : U 0 = S 0) : IM (a_patch a j i v) U (upF F (bg a.1 j + i) none) := by
  obtain ⟨hZ, h0, hm, hb⟩ := hI
  have hj6 : bg a.1 (j + 1) ≤ bg a.1 6 := bg_mono a.1 (by omega)
  rw [bg_s] at hj6
  refine ⟨vZ_patch hZ, fun k hk => by rw [hU0]; exact h0 k hk, fun m w h1 h2 => ?_, fun q hq => ?_⟩
  · have h2 : w < a.1 m := h2
    show upF F (bg a.1 j + i) none (bg a.1 m + w) = (if m = j ∧ w = i then none else a.2.1 m w) ∧ ((if m = j ∧ w = i then none else a.2.1 m w) = none → U 1 (bg a.1 m + w) = (if m = j ∧ w = i then v else a.2.2.1 m w)) ∧ ((if m = j ∧ w = i then none else a.2.1 m w) ≠ none → U 3 (bg a.1 m + w) = (if m = j ∧ w = i then v else a.2.2.1 m w))
    by_cases h : m = j ∧ w = i
    · simp only [if_pos h]
      rw [h.1, h.2]
      exact ⟨upF_s, fun _ => hU1, fun z => absurd rfl z⟩
    · simp only [if_neg h]
      have hne : bg a.1 m + w ≠ bg a.1 j + i := by
        intro e
        rcases Nat.lt_trichotomy m j with c | c | c
        · have h4 : bg a.1 (m + 1) ≤ bg a.1 j := bg_mono a.1 (by omega)
          rw [bg_s] at h4
          omega
        · subst c
          exact h ⟨rfl, by omega⟩
        · have h4 : bg a.1 (j + 1) ≤ bg a.1 m := bg_mono a.1 (by omega)
          rw [bg_s] at h4
          omega
      rw [upF_n hne, (hU _ hne).1, (hU _ hne).2]
      exact hm m w h1 h2
  · have hq : bg a.1 6 ≤ q := hq
    rw [upF_n (by omega)]
    exact hb q hq
theorem IM_congr {a a' : il_A} {S S' : il_S} {F : Nat → Option Nat} (hI : IM a S F) (h0 : S' 0 = S 0) (h1 : ∀ q, F q = none → S' 1 q = S 1 q) (h3 : S' 3 = S 3) (hz : a'.1 = a.1) (hm : ∀ m w, m < 6 → w < a.1 m → a'.2.1 m w = a.2.1 m w ∧ a'.2.2.1 m w = a.2.2.1 m w) : IM a' S' F := by
  obtain ⟨hZ, c0, c1, c2⟩ := hI
  refine ⟨⟨fun m h => by rw [hz]; exact hZ.1 m h, fun m w s h2 h4 e => ?_⟩, fun k hk => by rw [h0, hz]; exact c0 k hk, fun m w h2 h4 => ?_, fun q hq => by rw [hz] at hq; exact c2 q hq⟩
  · rw [hz] at h4
    rw [(hm m w h2 h4).1] at e
    exact hZ.2 m w s h2 h4 e
  · rw [hz] at h4 ⊢
    rw [(hm m w h2 h4).1, (hm m w h2 h4).2, h3]
    have c := c1 m w h2 h4
    exact ⟨c.1, fun e => by rw [h1 _ (by rw [c.1]; exact e)]; exact c.2.1 e, c.2.2⟩
/-- behind refresh() all is well -/
theorem RX_fin {a : il_A} {S S' : il_S} {F : Nat → Option Nat} (hI : IM a S F) (hD : DF a S) (hV : vD a) (h : iv3 S S' F a 10) : RX a S' := by
  obtain ⟨c1, c2, c3, c4, c5, c6⟩ := h
  exact ⟨F, c1, IM_congr hI c4 c3 c5 rfl (fun m w _ _ => ⟨rfl, rfl⟩), fun m s hm hs => by rw [c6]; exact hD m s hm hs, hV, c2⟩
theorem DF_up {a : il_A} {S T : il_S} {j i : Nat} (hZ : vZ a) (hV : vD a) (hD : DF a S) (hj : j < 6) (hi : i < 2 ^ 30) (h4 : T 4 = S 4) : ∀ m s, m < 6 → s < 10 → mapF T 4 (fUp i) (j * 10) (j * 10 + 10) 4 (m * 10 + s) = oI (d_up a.2.2.2 j i m s) := by
  intro m s hm hs
  by_cases h : m = j
  · subst h
    rw [mapF_in (by omega) (by omega), h4, hD m s hm hs, fUp_o hi (vA_d30 hZ hV hm hs)]
    simp [d_up]
  · rw [mapF_out (by omega), h4, hD m s hm hs]
    simp [d_up, h]
theorem DF_dn {a : il_A} {S T : il_S} {j i : Nat} (hZ : vZ a) (hV : vD a) (hD : DF a S) (hj : j < 6) (hi : i < 2 ^ 30) (h4 : T 4 = S 4) : ∀ m s, m < 6 → s < 10 → mapF T 4 (fDn i) (j * 10) (j * 10 + 10) 4 (m * 10 + s) = oI (d_dn a.2.2.2 j i m s) := by
  intro m s hm hs
  by_cases h : m = j
  · subst h
    rw [mapF_in (by omega) (by omega), h4, hD m s hm hs, fDn_o hi (vA_d30 hZ hV hm hs)]
    simp [d_dn]
  · rw [mapF_out (by omega), h4, hD m s hm hs]
    simp [d_dn, h]
theorem DF_cl {a : il_A} {S T : il_S} {j : Nat} (hD : DF a S) (hj : j < 6) (h4 : T 4 = S 4) : ∀ m s, m < 6 → s < 10 → mapF T 4 (fun _ => -4) (j * 10) (j * 10 + 10) 4 (m * 10 + s) = oI (d_cl a.2.2.2 j m s) := by
  intro m s hm hs
  by_cases h : m = j
  · subst h
    rw [mapF_in (by omega) (by omega)]
    simp [d_cl, oI]
  · rw [mapF_out (by omega), h4, hD m s hm hs]
    simp [d_cl, h]
theorem DF_st {a : il_A} {S : il_S} {j s : Nat} {o : Option Nat} (hD : DF a S) (hj : j < 6) (hs : s < 10) : DF (a_df a (d_st a.2.2.2 j s o)) (sU S 4 (j * 10 + s) (oI o)) := by
  intro m t hm ht
  show sU S 4 (j * 10 + s) (oI o) 4 (m * 10 + t) = oI (d_st a.2.2.2 j s o m t)
  by_cases h : m = j ∧ t = s
  · obtain ⟨rfl, rfl⟩ := h
    simp [sU, upd, d_st]
  · have h5 : ¬ m * 10 + t = j * 10 + s := by omega
    rw [sU_j h5, hD m t hm ht]
    simp [d_st, h]
theorem cJ_k {S S' : il_S} {F : Nat → Option Nat} (h : cJ S F []) (k : ∀ k, k ≠ 4 → S' k = S k) : cJ S' F [] :=
  cJ_same h (fun q _ => by rw [k 1 (by decide)]) (fun q _ => by rw [k 2 (by decide)]) (fun q _ => by rw [k 3 (by decide)]) (k 5 (by decide)) (k 7 (by decide)) (k 8 (by decide)) (k 9 (by decide))
theorem mapF_id {S : il_S} {k lo t : Nat} {f : Int32 → Int32} (h : f (S k t) = S k t) : mapF S k f lo t = mapF S k f lo (t + 1) := by
  funext a
  unfold mapF
  by_cases ha : a = k
  · subst ha
    simp only [if_true]
    funext q
    by_cases hq : q = t
    · subst hq
      rw [if_neg (by omega)]
      split
      · exact h.symm
      · rfl
    · by_cases h1 : lo ≤ q ∧ q < t
      · rw [if_pos h1, if_pos (by omega)]
      · rw [if_neg h1, if_neg (by omega)]
  · simp only [if_neg ha]
/-- the first k words of module j taken away -/
def rmN (a : il_A) (j : Nat) : Nat → il_A
  | 0 => a
  | k + 1 => a_rm (rmN a j k) j 0
theorem rmN_z {a : il_A} {j : Nat} : ∀ k m, (rmN a j k).1 m = if m = j then a.1 j - k else a.1 m := by
  intro k
  induction k with
  | zero =>
    intro m
    show a.1 m = _
    by_cases h : m = j
    · rw [if_pos h, h, Nat.sub_zero]
    · rw [if_neg h]
  | succ k ih =>
    intro m
    show (if m = j then (rmN a j k).1 j - 1 else (rmN a j k).1 m) = _
    rw [ih j, if_pos rfl]
    by_cases h : m = j
    · rw [if_pos h, if_pos h]; omega
    · rw [if_neg h, if_neg h, ih m, if_neg h]
theorem rmN_o {a : il_A} {j : Nat} : ∀ k m w, m ≠ j → (rmN a j k).2.1 m w = a.2.1 m w ∧ (rmN a j k).2.2.1 m w = a.2.2.1 m w := by
  intro k
  induction k with
  | zero => intro m w _; exact ⟨rfl, rfl⟩
  | succ k ih =>
    intro m w h
    have h1 := ih m w h
    show (if m = j then _ else (rmN a j k).2.1 m w) = _ ∧ (if m = j then _ else (rmN a j k).2.2.1 m w) = _
    rw [if_neg h, if_neg h]
    exact h1
theorem IM_unl {a : il_A} {S S' : il_S} {F : Nat → Option Nat} {j : Nat} (hI : IM (rmN a j (a.1 j)) S F) (k : ∀ k, k ≠ 4 → S' k = S k) : IM (a_unl a j) S' F := by
  have hz : (a_unl a j).1 = (rmN a j (a.1 j)).1 := by
    funext m
    rw [rmN_z]
    show (if m = j then 0 else a.1 m) = _
    rw [Nat.sub_self]
  refine IM_congr hI (k 0 (by decide)) (fun q _ => by rw [k 1 (by decide)]) (k 3 (by decide)) hz (fun m w hm hw => ?_)
  rw [rmN_z] at hw
  by_cases h : m = j
  · rw [if_pos h] at hw
    omega
  · have h1 := rmN_o (a := a) (j := j) (a.1 j) m w h
    exact ⟨h1.1.symm, h1.2.symm⟩
theorem d_st_id {a : il_A} {j s : Nat} (h : a.2.2.2 j s = none) : a_df a (d_st a.2.2.2 j s none) = a := by
  have : d_st a.2.2.2 j s none = a.2.2.2 := by
    funext m t
    unfold d_st
    by_cases e : m = j ∧ t = s
    · rw [if_pos e, e.1, e.2, h]
    · rw [if_neg e]
  rw [this]
  rfl
end
section
/-! THE LINKER, writers -/
theorem mX_wordsZ (l : Launch) (S : il_S) (z : Nat → Nat) (m : Nat) (hm : m < 6) (h0 : S 0 m = nI (bg z m)) (h1 : S 0 (m + 1) = nI (bg z (m + 1))) : ig_Mi GX l yX0_words cX0_words 2 .int 0 0 [nI (m)] S (fun r S' => r = nI (z m) ∧ S = S') := by
  have h := mX_words l S m (bg z m) (bg z (m + 1)) hm h0 h1 (Nat.le_add_right _ _)
  rw [show bg z (m + 1) - bg z m = z m from Nat.add_sub_cancel_left _ _] at h
  exact h
theorem bg_lt48 {a : il_A} (hZ : vZ a) {j : Nat} (hj : j < 6) (h8 : a.1 j < 8) : bg a.1 6 < 48 := by
  have h1 : bg (a_im a j 0 none 0).1 6 ≤ 48 := bg_le (vZ_im hZ h8 (Nat.zero_le _) (fun s q => by cases q) hj).1 6 (Nat.le_refl 6)
  rw [bg_im, if_pos hj] at h1
  omega
set_option maxHeartbeats 1000000 in
set_option maxRecDepth 100000 in
theorem mX_appendC (l : Launch) (S : il_S) (a : il_A) (hR : RX a S) (j : Nat) (hj : j < 6) (v x : Int32) : ig_Mi GX l yX0_append cX0_append 6 .int 4 93 [nI (j), v, (-4), x] S (fun r S' => r = (sp_app a j none v).1 ∧ RX (sp_app a j none v).2 S') := by
  refine ig_Mi.of GX_ok (by decide) rfl (Nat.le_of_ble_eq_true rfl) (fun X C => ?_)
  have hR0 := hR
  obtain ⟨F, hJ, hI, hD, hV, hk⟩ := hR
  have hI0 := hI
  obtain ⟨hZ, h0, himg, hend⟩ := hI
  have hz8 := hZ.1 j hj
  have hj6 : bg a.1 (j + 1) ≤ bg a.1 6 := bg_mono a.1 (by omega)
  rw [bg_s] at hj6
  have hb48 := bg_le hZ.1 6 (by omega)
  by_cases h8 : a.1 j = 8
  · refine ig_this C dX0_append_0 ?_
    refine ig_iln C 0 dX0_append_1 rfl rfl ?_
    refine ig_calli C kX_words (mX_wordsZ (xl X) S a.1 j hj (h0 j (by omega)) (h0 (j + 1) (by omega))) rfl rfl ⟨Nat.le_of_ble_eq_true rfl, Nat.le_of_ble_eq_true rfl⟩ (Nat.le_of_ble_eq_true rfl) dX0_append_2 (fun r S' hp => ?_)
    obtain ⟨rfl, rfl⟩ := hp
    refine ig_bp C dX0_append_5 kb_8 ?_
    refine ig_icmp_ne_F C 13 dX0_append_7 (by decide) (congrArg nI (show a.1 j = 8 by omega)) ?_
    refine ig_bp C dX0_append_10 kb_m2 ?_
    exact ig_ret C (nar_int _) dX0_append_12 ⟨by unfold sp_app; rw [if_pos h8], by unfold sp_app; rw [if_pos h8]; exact hR0⟩
  · have h48 := bg_lt48 hZ hj (show a.1 j < 8 by omega)
    refine ig_this C dX0_append_0 ?_
    refine ig_iln C 0 dX0_append_1 rfl rfl ?_
    refine ig_calli C kX_words (mX_wordsZ (xl X) S a.1 j hj (h0 j (by omega)) (h0 (j + 1) (by omega))) rfl rfl ⟨Nat.le_of_ble_eq_true rfl, Nat.le_of_ble_eq_true rfl⟩ (Nat.le_of_ble_eq_true rfl) dX0_append_2 (fun r S' hp => ?_)
    obtain ⟨rfl, rfl⟩ := hp
    refine ig_bp C dX0_append_5 kb_8 ?_
    refine ig_icmp_ne_T C 13 dX0_append_7 (by decide) (fun q => absurd ((nI_eq (by omega) (by omega)).mp q) (show ¬ a.1 j = 8 by omega)) ?_
    refine ig_this C dX0_append_13 ?_
    refine ig_get C fX_start dX0_append_14 ?_
    refine ig_iln C 0 dX0_append_17 rfl rfl ?_
    refine ig_ic C dX0_append_18 ki_1 ?_
    refine ig_iaddN C dX0_append_19 ?_
    refine ig_ald C 0 rfl (show j + 1 < 7 by omega) (v := nI (bg a.1 j + a.1 j)) (h0 (j + 1) (by omega)) dX0_append_20 ?_
    refine ig_is C 4 [nI (j), v, (-4), x, nI (bg a.1 j + a.1 j)] dX0_append_21 rfl rfl rfl ?_
    refine ig_this C dX0_append_23 ?_
    refine ig_iln C 0 dX0_append_24 rfl rfl ?_
    refine ig_il C 4 dX0_append_25 rfl ?_
    refine ig_callv C kX_open (mX_open (xl X) S F hJ j (bg a.1 j + a.1 j) (bg a.1 6) (bg a.1) h0 rfl h48 (by omega) hj hend) rfl rfl ⟨Nat.le_of_ble_eq_true rfl, Nat.le_of_ble_eq_true rfl⟩ (Nat.le_of_ble_eq_true rfl) dX0_append_27 (fun T ho => ?_)
    refine ig_this C dX0_append_30 ?_
    refine ig_il C 4 dX0_append_31 rfl ?_
    refine ig_iln C 1 dX0_append_33 rfl rfl ?_
    refine ig_iln C 2 dX0_append_34 rfl rfl ?_
    refine ig_il C 3 dX0_append_35 rfl ?_
    refine ig_callv C kX_put (mX_putC (xl X) T (bg a.1 j + a.1 j) (by omega) v x) rfl rfl ⟨Nat.le_of_ble_eq_true rfl, Nat.le_of_ble_eq_true rfl⟩ (Nat.le_of_ble_eq_true rfl) dX0_append_37 (fun S' hp => ?_)
    subst hp
    have c1 : cJ (putC T (bg a.1 j + a.1 j) v x) (upF (shF F (bg a.1 j + a.1 j)) (bg a.1 j + a.1 j) none) [] := by
      rw [show upF (shF F (bg a.1 j + a.1 j)) (bg a.1 j + a.1 j) none = shF F (bg a.1 j + a.1 j) from funext fun q => by by_cases hq : q = (bg a.1 j + a.1 j); rw [hq, upF_s, shF_p]; rw [upF_n hq]]
      exact cJ_putC (cJ_weak (bg a.1 j + a.1 j) ho.1) shF_p
    have I2 : IM (a_im a j (a.1 j) none v) (putC T (bg a.1 j + a.1 j) v x) (upF (shF F (bg a.1 j + a.1 j)) (bg a.1 j + a.1 j) none) := IM_im hI0 hj (by omega) (Nat.le_refl _) (fun s q => by cases q) ho (fun q hq => ⟨putC_1n hq, putC_3n hq⟩) (fun _ => putC_1) (fun z => absurd rfl z) (putC_k (by decide) (by decide) (by decide))
    have D2 : DF (a_im a j (a.1 j) none v) (putC T (bg a.1 j + a.1 j) v x) := fun m t hm ht => by rw [putC_k (by decide) (by decide) (by decide), ho.2.2.2.2.1]; exact hD m t hm ht
    refine ig_this C dX0_append_40 ?_
    refine ig_callv C kX_refresh (mX_refresh (xl X) (putC T (bg a.1 j + a.1 j) v x) (upF (shF F (bg a.1 j + a.1 j)) (bg a.1 j + a.1 j) none) (a_im a j (a.1 j) none v) c1 I2.1 (vD_im hV) I2.2.1 D2) rfl rfl ⟨Nat.le_of_ble_eq_true rfl, Nat.le_of_ble_eq_true rfl⟩ (Nat.le_of_ble_eq_true rfl) dX0_append_41 (fun S' hf => ?_)
    have h0f : ∀ k, k ≤ 6 → S' 0 k = nI (bg (a_im a j (a.1 j) none v).1 k) := fun k hk => by rw [hf.2.2.2.1]; exact I2.2.1 k hk
    refine ig_this C dX0_append_44 ?_
    refine ig_iln C 0 dX0_append_45 rfl rfl ?_
    refine ig_calli C kX_words (mX_wordsZ (xl X) S' (a_im a j (a.1 j) none v).1 j hj (h0f j (by omega)) (h0f (j + 1) (by omega))) rfl rfl ⟨Nat.le_of_ble_eq_true rfl, Nat.le_of_ble_eq_true rfl⟩ (Nat.le_of_ble_eq_true rfl) dX0_append_46 (fun r S'' hp => ?_)
    obtain ⟨rfl, rfl⟩ := hp
    exact ig_ret C (nar_int _) dX0_append_49 ⟨by unfold sp_app; rw [if_neg h8]; show nI ((a_im a j (a.1 j) none v).1 j) = nI (a.1 j + 1); rw [show (a_im a j (a.1 j) none v).1 j = a.1 j + 1 from if_pos rfl], by unfold sp_app; rw [if_neg h8]; exact RX_fin I2 D2 (vD_im hV) hf⟩

set_option maxHeartbeats 1000000 in
set_option maxRecDepth 100000 in
theorem mX_appendF (l : Launch) (S : il_S) (a : il_A) (hR : RX a S) (j : Nat) (hj : j < 6) (s : Nat) (hs : s < 10) (v x : Int32) : ig_Mi GX l yX0_append cX0_append 6 .int 4 93 [nI (j), v, nI (s), x] S (fun r S' => r = (sp_app a j (some s) x).1 ∧ RX (sp_app a j (some s) x).2 S') := by
  refine ig_Mi.of GX_ok (by decide) rfl (Nat.le_of_ble_eq_true rfl) (fun X C => ?_)
  have hR0 := hR
  obtain ⟨F, hJ, hI, hD, hV, hk⟩ := hR
  have hI0 := hI
  obtain ⟨hZ, h0, himg, hend⟩ := hI
  have hz8 := hZ.1 j hj
  have hj6 : bg a.1 (j + 1) ≤ bg a.1 6 := bg_mono a.1 (by omega)
  rw [bg_s] at hj6
  have hb48 := bg_le hZ.1 6 (by omega)
  by_cases h8 : a.1 j = 8
  · refine ig_this C dX0_append_0 ?_
    refine ig_iln C 0 dX0_append_1 rfl rfl ?_
    refine ig_calli C kX_words (mX_wordsZ (xl X) S a.1 j hj (h0 j (by omega)) (h0 (j + 1) (by omega))) rfl rfl ⟨Nat.le_of_ble_eq_true rfl, Nat.le_of_ble_eq_true rfl⟩ (Nat.le_of_ble_eq_true rfl) dX0_append_2 (fun r S' hp => ?_)
    obtain ⟨rfl, rfl⟩ := hp
    refine ig_bp C dX0_append_5 kb_8 ?_
    refine ig_icmp_ne_F C 13 dX0_append_7 (by decide) (congrArg nI (show a.1 j = 8 by omega)) ?_
    refine ig_bp C dX0_append_10 kb_m2 ?_
    exact ig_ret C (nar_int _) dX0_append_12 ⟨by unfold sp_app; rw [if_pos h8], by unfold sp_app; rw [if_pos h8]; exact hR0⟩
  · have h48 := bg_lt48 hZ hj (show a.1 j < 8 by omega)
    refine ig_this C dX0_append_0 ?_
    refine ig_iln C 0 dX0_append_1 rfl rfl ?_
    refine ig_calli C kX_words (mX_wordsZ (xl X) S a.1 j hj (h0 j (by omega)) (h0 (j + 1) (by omega))) rfl rfl ⟨Nat.le_of_ble_eq_true rfl, Nat.le_of_ble_eq_true rfl⟩ (Nat.le_of_ble_eq_true rfl) dX0_append_2 (fun r S' hp => ?_)
    obtain ⟨rfl, rfl⟩ := hp
    refine ig_bp C dX0_append_5 kb_8 ?_
    refine ig_icmp_ne_T C 13 dX0_append_7 (by decide) (fun q => absurd ((nI_eq (by omega) (by omega)).mp q) (show ¬ a.1 j = 8 by omega)) ?_
    refine ig_this C dX0_append_13 ?_
    refine ig_get C fX_start dX0_append_14 ?_
    refine ig_iln C 0 dX0_append_17 rfl rfl ?_
    refine ig_ic C dX0_append_18 ki_1 ?_
    refine ig_iaddN C dX0_append_19 ?_
    refine ig_ald C 0 rfl (show j + 1 < 7 by omega) (v := nI (bg a.1 j + a.1 j)) (h0 (j + 1) (by omega)) dX0_append_20 ?_
    refine ig_is C 4 [nI (j), v, nI (s), x, nI (bg a.1 j + a.1 j)] dX0_append_21 rfl rfl rfl ?_
    refine ig_this C dX0_append_23 ?_
    refine ig_iln C 0 dX0_append_24 rfl rfl ?_
    refine ig_il C 4 dX0_append_25 rfl ?_
    refine ig_callv C kX_open (mX_open (xl X) S F hJ j (bg a.1 j + a.1 j) (bg a.1 6) (bg a.1) h0 rfl h48 (by omega) hj hend) rfl rfl ⟨Nat.le_of_ble_eq_true rfl, Nat.le_of_ble_eq_true rfl⟩ (Nat.le_of_ble_eq_true rfl) dX0_append_27 (fun T ho => ?_)
    obtain ⟨o, hoo, hor, c1⟩ := cJ_putF (v := v) (x := x) (cJ_weak (bg a.1 j + a.1 j) ho.1) shF_p (show bg a.1 j + a.1 j < 48 by omega) hs
    refine ig_this C dX0_append_30 ?_
    refine ig_il C 4 dX0_append_31 rfl ?_
    refine ig_iln C 1 dX0_append_33 rfl rfl ?_
    refine ig_iln C 2 dX0_append_34 rfl rfl ?_
    refine ig_il C 3 dX0_append_35 rfl ?_
    refine ig_callv C kX_put (mX_putF (xl X) T (bg a.1 j + a.1 j) s (by omega) hs v x o hoo hor) rfl rfl ⟨Nat.le_of_ble_eq_true rfl, Nat.le_of_ble_eq_true rfl⟩ (Nat.le_of_ble_eq_true rfl) dX0_append_37 (fun S' hp => ?_)
    subst hp
    have I2 : IM (a_im a j (a.1 j) (some s) x) (putF T (bg a.1 j + a.1 j) v s x o) (upF (shF F (bg a.1 j + a.1 j)) (bg a.1 j + a.1 j) (some s)) := IM_im hI0 hj (by omega) (Nat.le_refl _) (fun t q => by cases q; exact hs) ho (fun q hq => ⟨putF_1n hq, putF_3n hq⟩) (fun z => by cases z) (fun _ => putF_3) (putF_k (Or.inl rfl))
    have D2 : DF (a_im a j (a.1 j) (some s) x) (putF T (bg a.1 j + a.1 j) v s x o) := fun m t hm ht => by rw [putF_k (Or.inr (Or.inl rfl)), ho.2.2.2.2.1]; exact hD m t hm ht
    refine ig_this C dX0_append_40 ?_
    refine ig_callv C kX_refresh (mX_refresh (xl X) (putF T (bg a.1 j + a.1 j) v s x o) (upF (shF F (bg a.1 j + a.1 j)) (bg a.1 j + a.1 j) (some s)) (a_im a j (a.1 j) (some s) x) c1 I2.1 (vD_im hV) I2.2.1 D2) rfl rfl ⟨Nat.le_of_ble_eq_true rfl, Nat.le_of_ble_eq_true rfl⟩ (Nat.le_of_ble_eq_true rfl) dX0_append_41 (fun S' hf => ?_)
    have h0f : ∀ k, k ≤ 6 → S' 0 k = nI (bg (a_im a j (a.1 j) (some s) x).1 k) := fun k hk => by rw [hf.2.2.2.1]; exact I2.2.1 k hk
    refine ig_this C dX0_append_44 ?_
    refine ig_iln C 0 dX0_append_45 rfl rfl ?_
    refine ig_calli C kX_words (mX_wordsZ (xl X) S' (a_im a j (a.1 j) (some s) x).1 j hj (h0f j (by omega)) (h0f (j + 1) (by omega))) rfl rfl ⟨Nat.le_of_ble_eq_true rfl, Nat.le_of_ble_eq_true rfl⟩ (Nat.le_of_ble_eq_true rfl) dX0_append_46 (fun r S'' hp => ?_)
    obtain ⟨rfl, rfl⟩ := hp
    exact ig_ret C (nar_int _) dX0_append_49 ⟨by unfold sp_app; rw [if_neg h8]; show nI ((a_im a j (a.1 j) (some s) x).1 j) = nI (a.1 j + 1); rw [show (a_im a j (a.1 j) (some s) x).1 j = a.1 j + 1 from if_pos rfl], by unfold sp_app; rw [if_neg h8]; exact RX_fin I2 D2 (vD_im hV) hf⟩

set_option maxHeartbeats 1000000 in
set_option maxRecDepth 100000 in
theorem mX_constant (l : Launch) (S : il_S) (a : il_A) (hR : RX a S) (x v : Int32) : ig_Mi GX l yX0_constant cX0_constant 3 .int 5 118 [x, v] S (fun r S' => r = (sp_constant a x v).1 ∧ RX (sp_constant a x v).2 S') := by
  refine ig_Mi.of GX_ok (by decide) rfl (Nat.le_of_ble_eq_true rfl) (fun X C => ?_)
  rcases il_cases x (n := 6) (by decide) with ⟨h, e⟩ | ⟨h, h6, e⟩ | ⟨j, hj, rfl, e⟩
  · refine ig_this C dX0_constant_0 ?_
    refine ig_iln C 0 dX0_constant_1 rfl rfl ?_
    refine ig_calli C kX_bad (mX_bad (xl X) S x) rfl rfl ⟨Nat.le_of_ble_eq_true rfl, Nat.le_of_ble_eq_true rfl⟩ (Nat.le_of_ble_eq_true rfl) dX0_constant_2 (fun r S' hp => ?_)
    obtain ⟨rfl, rfl⟩ := hp
    rw [e]
    refine ig_top (nI (1)) rfl ?_
    refine ig_if_eq_F C 10 dX0_constant_5 (by decide) (nI_ne0 (show 0 < 1 by omega) (by omega)) ?_
    refine ig_ic C dX0_constant_8 ki_m1 ?_
    exact ig_ret C (nar_int _) dX0_constant_9 ⟨by unfold sp_constant; rw [e], by unfold sp_constant; rw [e]; exact hR⟩
  · refine ig_this C dX0_constant_0 ?_
    refine ig_iln C 0 dX0_constant_1 rfl rfl ?_
    refine ig_calli C kX_bad (mX_bad (xl X) S x) rfl rfl ⟨Nat.le_of_ble_eq_true rfl, Nat.le_of_ble_eq_true rfl⟩ (Nat.le_of_ble_eq_true rfl) dX0_constant_2 (fun r S' hp => ?_)
    obtain ⟨rfl, rfl⟩ := hp
    rw [e]
    refine ig_top (nI (1)) rfl ?_
    refine ig_if_eq_F C 10 dX0_constant_5 (by decide) (nI_ne0 (show 0 < 1 by omega) (by omega)) ?_
    refine ig_ic C dX0_constant_8 ki_m1 ?_
    exact ig_ret C (nar_int _) dX0_constant_9 ⟨by unfold sp_constant; rw [e], by unfold sp_constant; rw [e]; exact hR⟩
  · refine ig_this C dX0_constant_0 ?_
    refine ig_iln C 0 dX0_constant_1 rfl rfl ?_
    refine ig_calli C kX_bad (mX_bad (xl X) S (nI j)) rfl rfl ⟨Nat.le_of_ble_eq_true rfl, Nat.le_of_ble_eq_true rfl⟩ (Nat.le_of_ble_eq_true rfl) dX0_constant_2 (fun r S' hp => ?_)
    obtain ⟨rfl, rfl⟩ := hp
    rw [e]
    refine ig_top (nI (0)) rfl ?_
    refine ig_if_eq_T C 10 dX0_constant_5 (by decide) (show nI (0) = 0 from by rw [show 0 = 0 by omega]; rfl) ?_
    refine ig_this C dX0_constant_10 ?_
    refine ig_iln C 0 dX0_constant_11 rfl rfl ?_
    refine ig_iln C 1 dX0_constant_12 rfl rfl ?_
    refine ig_bp C dX0_constant_13 kb_m4 ?_
    refine ig_ic C dX0_constant_15 ki_0 ?_
    refine ig_calli C kX_append (mX_appendC (xl X) S a hR j hj v (nI 0)) rfl rfl ⟨Nat.le_of_ble_eq_true rfl, Nat.le_of_ble_eq_true rfl⟩ (Nat.le_of_ble_eq_true rfl) dX0_constant_16 (fun r S' hp => ?_)
    exact ig_ret C (nar_int _) dX0_constant_19 ⟨by unfold sp_constant; rw [e]; exact hp.1, by unfold sp_constant; rw [e]; exact hp.2⟩

set_option maxHeartbeats 1000000 in
set_option maxRecDepth 100000 in
theorem mX_reference (l : Launch) (S : il_S) (a : il_A) (hR : RX a S) (x y v : Int32) : ig_Mi GX l yX0_reference cX0_reference 4 .int 5 118 [x, y, v] S (fun r S' => r = (sp_reference a x y v).1 ∧ RX (sp_reference a x y v).2 S') := by
  refine ig_Mi.of GX_ok (by decide) rfl (Nat.le_of_ble_eq_true rfl) (fun X C => ?_)
  rcases il_cases x (n := 6) (by decide) with ⟨h, e⟩ | ⟨h, h6, e⟩ | ⟨j, hj, rfl, e⟩
  · refine ig_this C dX0_reference_0 ?_
    refine ig_iln C 0 dX0_reference_1 rfl rfl ?_
    refine ig_calli C kX_bad (mX_bad (xl X) S x) rfl rfl ⟨Nat.le_of_ble_eq_true rfl, Nat.le_of_ble_eq_true rfl⟩ (Nat.le_of_ble_eq_true rfl) dX0_reference_2 (fun r S' hp => ?_)
    obtain ⟨rfl, rfl⟩ := hp
    rw [e]
    refine ig_top (nI (1)) rfl ?_
    refine ig_if_ne_T C 28 dX0_reference_5 (by decide) (nI_ne0 (show 0 < 1 by omega) (by omega)) ?_
    refine ig_ic C dX0_reference_28 ki_m1 ?_
    exact ig_ret C (nar_int _) dX0_reference_29 ⟨by unfold sp_reference; rw [e], by unfold sp_reference; rw [e]; exact hR⟩
  · refine ig_this C dX0_reference_0 ?_
    refine ig_iln C 0 dX0_reference_1 rfl rfl ?_
    refine ig_calli C kX_bad (mX_bad (xl X) S x) rfl rfl ⟨Nat.le_of_ble_eq_true rfl, Nat.le_of_ble_eq_true rfl⟩ (Nat.le_of_ble_eq_true rfl) dX0_reference_2 (fun r S' hp => ?_)
    obtain ⟨rfl, rfl⟩ := hp
    rw [e]
    refine ig_top (nI (1)) rfl ?_
    refine ig_if_ne_T C 28 dX0_reference_5 (by decide) (nI_ne0 (show 0 < 1 by omega) (by omega)) ?_
    refine ig_ic C dX0_reference_28 ki_m1 ?_
    exact ig_ret C (nar_int _) dX0_reference_29 ⟨by unfold sp_reference; rw [e], by unfold sp_reference; rw [e]; exact hR⟩
  · rcases il_cases y (n := 10) (by decide) with ⟨h, e2⟩ | ⟨h, h6, e2⟩ | ⟨s, hs, rfl, e2⟩
    · refine ig_this C dX0_reference_0 ?_
      refine ig_iln C 0 dX0_reference_1 rfl rfl ?_
      refine ig_calli C kX_bad (mX_bad (xl X) S (nI j)) rfl rfl ⟨Nat.le_of_ble_eq_true rfl, Nat.le_of_ble_eq_true rfl⟩ (Nat.le_of_ble_eq_true rfl) dX0_reference_2 (fun r S' hp => ?_)
      obtain ⟨rfl, rfl⟩ := hp
      rw [e]
      refine ig_top (nI (0)) rfl ?_
      refine ig_if_ne_F C 28 dX0_reference_5 (by decide) (show nI (0) = 0 from by rw [show 0 = 0 by omega]; rfl) ?_
      refine ig_this C dX0_reference_8 ?_
      refine ig_iln C 1 dX0_reference_9 rfl rfl ?_
      refine ig_calli C kX_badName (mX_badName (xl X) S y) rfl rfl ⟨Nat.le_of_ble_eq_true rfl, Nat.le_of_ble_eq_true rfl⟩ (Nat.le_of_ble_eq_true rfl) dX0_reference_10 (fun r S' hp => ?_)
      obtain ⟨rfl, rfl⟩ := hp
      rw [e2]
      refine ig_top (nI (1)) rfl ?_
      refine ig_if_ne_T C 28 dX0_reference_13 (by decide) (nI_ne0 (show 0 < 1 by omega) (by omega)) ?_
      refine ig_ic C dX0_reference_28 ki_m1 ?_
      exact ig_ret C (nar_int _) dX0_reference_29 ⟨by unfold sp_reference; rw [e]; dsimp only; rw [e2], by unfold sp_reference; rw [e]; dsimp only; rw [e2]; exact hR⟩
    · refine ig_this C dX0_reference_0 ?_
      refine ig_iln C 0 dX0_reference_1 rfl rfl ?_
      refine ig_calli C kX_bad (mX_bad (xl X) S (nI j)) rfl rfl ⟨Nat.le_of_ble_eq_true rfl, Nat.le_of_ble_eq_true rfl⟩ (Nat.le_of_ble_eq_true rfl) dX0_reference_2 (fun r S' hp => ?_)
      obtain ⟨rfl, rfl⟩ := hp
      rw [e]
      refine ig_top (nI (0)) rfl ?_
      refine ig_if_ne_F C 28 dX0_reference_5 (by decide) (show nI (0) = 0 from by rw [show 0 = 0 by omega]; rfl) ?_
      refine ig_this C dX0_reference_8 ?_
      refine ig_iln C 1 dX0_reference_9 rfl rfl ?_
      refine ig_calli C kX_badName (mX_badName (xl X) S y) rfl rfl ⟨Nat.le_of_ble_eq_true rfl, Nat.le_of_ble_eq_true rfl⟩ (Nat.le_of_ble_eq_true rfl) dX0_reference_10 (fun r S' hp => ?_)
      obtain ⟨rfl, rfl⟩ := hp
      rw [e2]
      refine ig_top (nI (1)) rfl ?_
      refine ig_if_ne_T C 28 dX0_reference_13 (by decide) (nI_ne0 (show 0 < 1 by omega) (by omega)) ?_
      refine ig_ic C dX0_reference_28 ki_m1 ?_
      exact ig_ret C (nar_int _) dX0_reference_29 ⟨by unfold sp_reference; rw [e]; dsimp only; rw [e2], by unfold sp_reference; rw [e]; dsimp only; rw [e2]; exact hR⟩
    · by_cases h1 : v < -100
      · refine ig_this C dX0_reference_0 ?_
        refine ig_iln C 0 dX0_reference_1 rfl rfl ?_
        refine ig_calli C kX_bad (mX_bad (xl X) S (nI j)) rfl rfl ⟨Nat.le_of_ble_eq_true rfl, Nat.le_of_ble_eq_true rfl⟩ (Nat.le_of_ble_eq_true rfl) dX0_reference_2 (fun r S' hp => ?_)
        obtain ⟨rfl, rfl⟩ := hp
        rw [e]
        refine ig_top (nI (0)) rfl ?_
        refine ig_if_ne_F C 28 dX0_reference_5 (by decide) (show nI (0) = 0 from by rw [show 0 = 0 by omega]; rfl) ?_
        refine ig_this C dX0_reference_8 ?_
        refine ig_iln C 1 dX0_reference_9 rfl rfl ?_
        refine ig_calli C kX_badName (mX_badName (xl X) S (nI s)) rfl rfl ⟨Nat.le_of_ble_eq_true rfl, Nat.le_of_ble_eq_true rfl⟩ (Nat.le_of_ble_eq_true rfl) dX0_reference_10 (fun r S' hp => ?_)
        obtain ⟨rfl, rfl⟩ := hp
        rw [e2]
        refine ig_top (nI (0)) rfl ?_
        refine ig_if_ne_F C 28 dX0_reference_13 (by decide) (show nI (0) = 0 from by rw [show 0 = 0 by omega]; rfl) ?_
        refine ig_iln C 2 dX0_reference_16 rfl rfl ?_
        refine ig_bp C dX0_reference_17 kb_m100 ?_
        refine ig_icmp_lt_T C 28 dX0_reference_19 (by decide) h1 ?_
        refine ig_ic C dX0_reference_28 ki_m1 ?_
        exact ig_ret C (nar_int _) dX0_reference_29 ⟨by unfold sp_reference; rw [e]; dsimp only; rw [e2]; dsimp only; rw [if_pos h1], by unfold sp_reference; rw [e]; dsimp only; rw [e2]; dsimp only; rw [if_pos h1]; exact hR⟩
      · by_cases h2 : nI 100 < v
        · refine ig_this C dX0_reference_0 ?_
          refine ig_iln C 0 dX0_reference_1 rfl rfl ?_
          refine ig_calli C kX_bad (mX_bad (xl X) S (nI j)) rfl rfl ⟨Nat.le_of_ble_eq_true rfl, Nat.le_of_ble_eq_true rfl⟩ (Nat.le_of_ble_eq_true rfl) dX0_reference_2 (fun r S' hp => ?_)
          obtain ⟨rfl, rfl⟩ := hp
          rw [e]
          refine ig_top (nI (0)) rfl ?_
          refine ig_if_ne_F C 28 dX0_reference_5 (by decide) (show nI (0) = 0 from by rw [show 0 = 0 by omega]; rfl) ?_
          refine ig_this C dX0_reference_8 ?_
          refine ig_iln C 1 dX0_reference_9 rfl rfl ?_
          refine ig_calli C kX_badName (mX_badName (xl X) S (nI s)) rfl rfl ⟨Nat.le_of_ble_eq_true rfl, Nat.le_of_ble_eq_true rfl⟩ (Nat.le_of_ble_eq_true rfl) dX0_reference_10 (fun r S' hp => ?_)
          obtain ⟨rfl, rfl⟩ := hp
          rw [e2]
          refine ig_top (nI (0)) rfl ?_
          refine ig_if_ne_F C 28 dX0_reference_13 (by decide) (show nI (0) = 0 from by rw [show 0 = 0 by omega]; rfl) ?_
          refine ig_iln C 2 dX0_reference_16 rfl rfl ?_
          refine ig_bp C dX0_reference_17 kb_m100 ?_
          refine ig_icmp_lt_F C 28 dX0_reference_19 (by decide) h1 ?_
          refine ig_iln C 2 dX0_reference_22 rfl rfl ?_
          refine ig_bp C dX0_reference_23 kb_100 ?_
          refine ig_icmp_le_F C 30 dX0_reference_25 (by decide) (Int32.not_le.mpr h2) ?_
          refine ig_ic C dX0_reference_28 ki_m1 ?_
          exact ig_ret C (nar_int _) dX0_reference_29 ⟨by unfold sp_reference; rw [e]; dsimp only; rw [e2]; dsimp only; rw [if_neg h1, if_pos h2], by unfold sp_reference; rw [e]; dsimp only; rw [e2]; dsimp only; rw [if_neg h1, if_pos h2]; exact hR⟩
        · refine ig_this C dX0_reference_0 ?_
          refine ig_iln C 0 dX0_reference_1 rfl rfl ?_
          refine ig_calli C kX_bad (mX_bad (xl X) S (nI j)) rfl rfl ⟨Nat.le_of_ble_eq_true rfl, Nat.le_of_ble_eq_true rfl⟩ (Nat.le_of_ble_eq_true rfl) dX0_reference_2 (fun r S' hp => ?_)
          obtain ⟨rfl, rfl⟩ := hp
          rw [e]
          refine ig_top (nI (0)) rfl ?_
          refine ig_if_ne_F C 28 dX0_reference_5 (by decide) (show nI (0) = 0 from by rw [show 0 = 0 by omega]; rfl) ?_
          refine ig_this C dX0_reference_8 ?_
          refine ig_iln C 1 dX0_reference_9 rfl rfl ?_
          refine ig_calli C kX_badName (mX_badName (xl X) S (nI s)) rfl rfl ⟨Nat.le_of_ble_eq_true rfl, Nat.le_of_ble_eq_true rfl⟩ (Nat.le_of_ble_eq_true rfl) dX0_reference_10 (fun r S' hp => ?_)
          obtain ⟨rfl, rfl⟩ := hp
          rw [e2]
          refine ig_top (nI (0)) rfl ?_
          refine ig_if_ne_F C 28 dX0_reference_13 (by decide) (show nI (0) = 0 from by rw [show 0 = 0 by omega]; rfl) ?_
          refine ig_iln C 2 dX0_reference_16 rfl rfl ?_
          refine ig_bp C dX0_reference_17 kb_m100 ?_
          refine ig_icmp_lt_F C 28 dX0_reference_19 (by decide) h1 ?_
          refine ig_iln C 2 dX0_reference_22 rfl rfl ?_
          refine ig_bp C dX0_reference_23 kb_100 ?_
          refine ig_icmp_le_T C 30 dX0_reference_25 (by decide) (Int32.not_lt.mp h2) ?_
          refine ig_this C dX0_reference_30 ?_
          refine ig_iln C 0 dX0_reference_31 rfl rfl ?_
          refine ig_ic C dX0_reference_32 ki_0 ?_
          refine ig_iln C 1 dX0_reference_33 rfl rfl ?_
          refine ig_iln C 2 dX0_reference_34 rfl rfl ?_
          refine ig_calli C kX_append (mX_appendF (xl X) S a hR j hj s hs (nI 0) v) rfl rfl ⟨Nat.le_of_ble_eq_true rfl, Nat.le_of_ble_eq_true rfl⟩ (Nat.le_of_ble_eq_true rfl) dX0_reference_35 (fun r S' hp => ?_)
          exact ig_ret C (nar_int _) dX0_reference_38 ⟨by unfold sp_reference; rw [e]; dsimp only; rw [e2]; dsimp only; rw [if_neg h1, if_neg h2]; exact hp.1, by unfold sp_reference; rw [e]; dsimp only; rw [e2]; dsimp only; rw [if_neg h1, if_neg h2]; exact hp.2⟩

set_option maxHeartbeats 1000000 in
set_option maxRecDepth 100000 in
theorem mX_patch (l : Launch) (S : il_S) (a : il_A) (hR : RX a S) (x y v : Int32) : ig_Mi GX l yX0_patch cX0_patch 6 .int 2 47 [x, y, v] S (fun r S' => r = (sp_patch a x y v).1 ∧ RX (sp_patch a x y v).2 S') := by
  refine ig_Mi.of GX_ok (by decide) rfl (Nat.le_of_ble_eq_true rfl) (fun X C => ?_)
  rcases il_cases x (n := 6) (by decide) with ⟨h, e⟩ | ⟨h, h6, e⟩ | ⟨j, hj, rfl, e⟩
  · refine ig_this C dX0_patch_0 ?_
    refine ig_iln C 0 dX0_patch_1 rfl rfl ?_
    refine ig_calli C kX_bad (mX_bad (xl X) S x) rfl rfl ⟨Nat.le_of_ble_eq_true rfl, Nat.le_of_ble_eq_true rfl⟩ (Nat.le_of_ble_eq_true rfl) dX0_patch_2 (fun r S' hp => ?_)
    obtain ⟨rfl, rfl⟩ := hp
    rw [e]
    refine ig_top (nI (1)) rfl ?_
    refine ig_if_eq_F C 10 dX0_patch_5 (by decide) (nI_ne0 (show 0 < 1 by omega) (by omega)) ?_
    refine ig_ic C dX0_patch_8 ki_m1 ?_
    exact ig_ret C (nar_int _) dX0_patch_9 ⟨by unfold sp_patch; rw [e], by unfold sp_patch; rw [e]; exact hR⟩
  · refine ig_this C dX0_patch_0 ?_
    refine ig_iln C 0 dX0_patch_1 rfl rfl ?_
    refine ig_calli C kX_bad (mX_bad (xl X) S x) rfl rfl ⟨Nat.le_of_ble_eq_true rfl, Nat.le_of_ble_eq_true rfl⟩ (Nat.le_of_ble_eq_true rfl) dX0_patch_2 (fun r S' hp => ?_)
    obtain ⟨rfl, rfl⟩ := hp
    rw [e]
    refine ig_top (nI (1)) rfl ?_
    refine ig_if_eq_F C 10 dX0_patch_5 (by decide) (nI_ne0 (show 0 < 1 by omega) (by omega)) ?_
    refine ig_ic C dX0_patch_8 ki_m1 ?_
    exact ig_ret C (nar_int _) dX0_patch_9 ⟨by unfold sp_patch; rw [e], by unfold sp_patch; rw [e]; exact hR⟩
  · have hR0 := hR
    obtain ⟨F, hJ, hI, hD, hV, hk⟩ := hR
    have hI0 := hI
    obtain ⟨hZ, h0, himg, hend⟩ := hI
    have hz8 := hZ.1 j hj
    have hj6 : bg a.1 (j + 1) ≤ bg a.1 6 := bg_mono a.1 (by omega)
    rw [bg_s] at hj6
    have hb48 := bg_le hZ.1 6 (by omega)
    rcases il_cases y (n := a.1 j) (by omega) with ⟨h, e2⟩ | ⟨h, h6, e2⟩ | ⟨i, hi, rfl, e2⟩
    · refine ig_this C dX0_patch_0 ?_
      refine ig_iln C 0 dX0_patch_1 rfl rfl ?_
      refine ig_calli C kX_bad (mX_bad (xl X) S (nI j)) rfl rfl ⟨Nat.le_of_ble_eq_true rfl, Nat.le_of_ble_eq_true rfl⟩ (Nat.le_of_ble_eq_true rfl) dX0_patch_2 (fun r S' hp => ?_)
      obtain ⟨rfl, rfl⟩ := hp
      rw [e]
      refine ig_top (nI (0)) rfl ?_
      refine ig_if_eq_T C 10 dX0_patch_5 (by decide) (show nI (0) = 0 from by rw [show 0 = 0 by omega]; rfl) ?_
      refine ig_iln C 1 dX0_patch_10 rfl rfl ?_
      refine ig_if_lt_T C 23 dX0_patch_11 (by decide) h ?_
      refine ig_bp C dX0_patch_23 kb_m4 ?_
      exact ig_ret C (nar_int _) dX0_patch_25 ⟨by unfold sp_patch; rw [e]; dsimp only; rw [e2], by unfold sp_patch; rw [e]; dsimp only; rw [e2]; exact hR0⟩
    · refine ig_this C dX0_patch_0 ?_
      refine ig_iln C 0 dX0_patch_1 rfl rfl ?_
      refine ig_calli C kX_bad (mX_bad (xl X) S (nI j)) rfl rfl ⟨Nat.le_of_ble_eq_true rfl, Nat.le_of_ble_eq_true rfl⟩ (Nat.le_of_ble_eq_true rfl) dX0_patch_2 (fun r S' hp => ?_)
      obtain ⟨rfl, rfl⟩ := hp
      rw [e]
      refine ig_top (nI (0)) rfl ?_
      refine ig_if_eq_T C 10 dX0_patch_5 (by decide) (show nI (0) = 0 from by rw [show 0 = 0 by omega]; rfl) ?_
      refine ig_iln C 1 dX0_patch_10 rfl rfl ?_
      refine ig_if_lt_F C 23 dX0_patch_11 (by decide) h ?_
      refine ig_iln C 1 dX0_patch_14 rfl rfl ?_
      refine ig_this C dX0_patch_15 ?_
      refine ig_iln C 0 dX0_patch_16 rfl rfl ?_
      refine ig_calli C kX_words (mX_wordsZ (xl X) S a.1 j hj (h0 j (by omega)) (h0 (j + 1) (by omega))) rfl rfl ⟨Nat.le_of_ble_eq_true rfl, Nat.le_of_ble_eq_true rfl⟩ (Nat.le_of_ble_eq_true rfl) dX0_patch_17 (fun r S' hp => ?_)
      obtain ⟨rfl, rfl⟩ := hp
      refine ig_icmp_lt_F C 26 dX0_patch_20 (by decide) (il_nlt (Nat.le_refl _) (by omega) h6) ?_
      refine ig_bp C dX0_patch_23 kb_m4 ?_
      exact ig_ret C (nar_int _) dX0_patch_25 ⟨by unfold sp_patch; rw [e]; dsimp only; rw [e2], by unfold sp_patch; rw [e]; dsimp only; rw [e2]; exact hR0⟩
    · have hc := himg j i hj hi
      have hnm := hJ.1 (bg a.1 j + i) (by omega) (fun z => by cases z)
      rw [hc.1] at hnm
      cases hn : a.2.1 j i with
      | none =>
        rw [hn] at hnm hc
        have c1 : cJ (putC S (bg a.1 j + i) v (nI 0)) (upF F (bg a.1 j + i) none) [] := by
          rw [show upF F (bg a.1 j + i) none = F from funext fun q => by by_cases hq : q = (bg a.1 j + i); rw [hq, upF_s, hc.1]; rw [upF_n hq]]
          exact cJ_putC (cJ_weak (bg a.1 j + i) hJ) hc.1
        have R2 : RX (a_patch a j i v) (putC S (bg a.1 j + i) v (nI 0)) := ⟨_, c1, IM_patch hI0 hj hi (fun q hq => ⟨putC_1n hq, putC_3n hq⟩) putC_1 (putC_k (by decide) (by decide) (by decide)), fun m t hm ht => by rw [putC_k (by decide) (by decide) (by decide)]; exact hD m t hm ht, hV, fun t ht => by rw [putC_k (by decide) (by decide) (by decide), putC_k (by decide) (by decide) (by decide)]; exact hk t ht⟩
        refine ig_this C dX0_patch_0 ?_
        refine ig_iln C 0 dX0_patch_1 rfl rfl ?_
        refine ig_calli C kX_bad (mX_bad (xl X) S (nI j)) rfl rfl ⟨Nat.le_of_ble_eq_true rfl, Nat.le_of_ble_eq_true rfl⟩ (Nat.le_of_ble_eq_true rfl) dX0_patch_2 (fun r S' hp => ?_)
        obtain ⟨rfl, rfl⟩ := hp
        rw [e]
        refine ig_top (nI (0)) rfl ?_
        refine ig_if_eq_T C 10 dX0_patch_5 (by decide) (show nI (0) = 0 from by rw [show 0 = 0 by omega]; rfl) ?_
        refine ig_iln C 1 dX0_patch_10 rfl rfl ?_
        refine ig_if_lt_F C 23 dX0_patch_11 (by decide) (nI_pos (show i < 2 ^ 31 by omega)) ?_
        refine ig_iln C 1 dX0_patch_14 rfl rfl ?_
        refine ig_this C dX0_patch_15 ?_
        refine ig_iln C 0 dX0_patch_16 rfl rfl ?_
        refine ig_calli C kX_words (mX_wordsZ (xl X) S a.1 j hj (h0 j (by omega)) (h0 (j + 1) (by omega))) rfl rfl ⟨Nat.le_of_ble_eq_true rfl, Nat.le_of_ble_eq_true rfl⟩ (Nat.le_of_ble_eq_true rfl) dX0_patch_17 (fun r S' hp => ?_)
        obtain ⟨rfl, rfl⟩ := hp
        refine ig_icmp_lt_T C 26 dX0_patch_20 (by decide) (nI_lt (show i < a.1 j by omega) (by omega)) ?_
        refine ig_this C dX0_patch_26 ?_
        refine ig_get C fX_start dX0_patch_27 ?_
        refine ig_iln C 0 dX0_patch_30 rfl rfl ?_
        refine ig_ald C 0 rfl (show j < 7 by omega) (v := nI (bg a.1 j)) (h0 j (by omega)) dX0_patch_31 ?_
        refine ig_iln C 1 dX0_patch_32 rfl rfl ?_
        refine ig_iaddN C dX0_patch_33 ?_
        refine ig_is C 3 [nI (j), nI (i), v, nI ((bg a.1 j) + i)] dX0_patch_34 rfl rfl rfl ?_
        refine ig_this C dX0_patch_36 ?_
        refine ig_get C fX_name dX0_patch_37 ?_
        refine ig_il C 3 dX0_patch_40 rfl ?_
        refine ig_ald C 2 rfl (show (bg a.1 j) + i < 48 by omega) (v := (-4)) hnm dX0_patch_42 ?_
        refine ig_if_lt_T C 50 dX0_patch_43 (by decide) (by decide) ?_
        refine ig_ic C dX0_patch_50 ki_0 ?_
        refine ig_is C 4 [nI (j), nI (i), v, nI ((bg a.1 j) + i), nI (0)] dX0_patch_51 rfl rfl rfl ?_
        refine ig_il C 4 dX0_patch_53 rfl ?_
        refine ig_ic C dX0_patch_55 ki_1 ?_
        refine ig_icmp_ne_T C 72 dX0_patch_56 (by decide) (fun q => absurd ((nI_eq (by omega) (by omega)).mp q) (show ¬ 0 = 1 by omega)) ?_
        refine ig_this C dX0_patch_72 ?_
        refine ig_il C 3 dX0_patch_73 rfl ?_
        refine ig_iln C 2 dX0_patch_75 rfl rfl ?_
        refine ig_bp C dX0_patch_76 kb_m4 ?_
        refine ig_ic C dX0_patch_78 ki_0 ?_
        refine ig_callv C kX_put (mX_putC (xl X) S (bg a.1 j + i) (by omega) v (nI 0)) rfl rfl ⟨Nat.le_of_ble_eq_true rfl, Nat.le_of_ble_eq_true rfl⟩ (Nat.le_of_ble_eq_true rfl) dX0_patch_79 (fun S' hp => ?_)
        subst hp
        refine ig_il C 4 dX0_patch_82 rfl ?_
        exact ig_ret C (nar_int _) dX0_patch_84 ⟨by unfold sp_patch; rw [e]; dsimp only; rw [e2]; show nI 0 = if a.2.1 j i = none then nI 0 else nI 1; rw [if_pos hn], by unfold sp_patch; rw [e]; dsimp only; rw [e2]; exact R2⟩
      | some s =>
        rw [hn] at hnm
        have hFs : F (bg a.1 j + i) = some s := by rw [hc.1, hn]
        obtain ⟨-, hs⟩ := hJ.2.1 _ s hFs
        obtain ⟨b, n, hb, hnn, hbr, hyr, h1⟩ := cJ_unlink hJ hFs
        have u1 : ∀ k, k ≠ 7 → k ≠ 8 → k ≠ 9 → ulkF S s b n k = S k := fun k h7 h8 h9 => ulkF_k h7 h8 h9
        have c1 : cJ (putC (ulkF S s b n) (bg a.1 j + i) v (nI 0)) (upF F (bg a.1 j + i) none) [] := cJ_putC h1 upF_s
        have R2 : RX (a_patch a j i v) (putC (ulkF S s b n) (bg a.1 j + i) v (nI 0)) := ⟨_, c1, IM_patch hI0 hj hi (fun q hq => by rw [putC_1n hq, putC_3n hq, u1 1 (by decide) (by decide) (by decide), u1 3 (by decide) (by decide) (by decide)]; exact ⟨rfl, rfl⟩) putC_1 (by rw [putC_k (by decide) (by decide) (by decide), u1 0 (by decide) (by decide) (by decide)]), fun m t hm ht => by rw [putC_k (by decide) (by decide) (by decide), u1 4 (by decide) (by decide) (by decide)]; exact hD m t hm ht, hV, fun t ht => by rw [putC_k (by decide) (by decide) (by decide), putC_k (by decide) (by decide) (by decide), u1 5 (by decide) (by decide) (by decide), u1 6 (by decide) (by decide) (by decide)]; exact hk t ht⟩
        refine ig_this C dX0_patch_0 ?_
        refine ig_iln C 0 dX0_patch_1 rfl rfl ?_
        refine ig_calli C kX_bad (mX_bad (xl X) S (nI j)) rfl rfl ⟨Nat.le_of_ble_eq_true rfl, Nat.le_of_ble_eq_true rfl⟩ (Nat.le_of_ble_eq_true rfl) dX0_patch_2 (fun r S' hp => ?_)
        obtain ⟨rfl, rfl⟩ := hp
        rw [e]
        refine ig_top (nI (0)) rfl ?_
        refine ig_if_eq_T C 10 dX0_patch_5 (by decide) (show nI (0) = 0 from by rw [show 0 = 0 by omega]; rfl) ?_
        refine ig_iln C 1 dX0_patch_10 rfl rfl ?_
        refine ig_if_lt_F C 23 dX0_patch_11 (by decide) (nI_pos (show i < 2 ^ 31 by omega)) ?_
        refine ig_iln C 1 dX0_patch_14 rfl rfl ?_
        refine ig_this C dX0_patch_15 ?_
        refine ig_iln C 0 dX0_patch_16 rfl rfl ?_
        refine ig_calli C kX_words (mX_wordsZ (xl X) S a.1 j hj (h0 j (by omega)) (h0 (j + 1) (by omega))) rfl rfl ⟨Nat.le_of_ble_eq_true rfl, Nat.le_of_ble_eq_true rfl⟩ (Nat.le_of_ble_eq_true rfl) dX0_patch_17 (fun r S' hp => ?_)
        obtain ⟨rfl, rfl⟩ := hp
        refine ig_icmp_lt_T C 26 dX0_patch_20 (by decide) (nI_lt (show i < a.1 j by omega) (by omega)) ?_
        refine ig_this C dX0_patch_26 ?_
        refine ig_get C fX_start dX0_patch_27 ?_
        refine ig_iln C 0 dX0_patch_30 rfl rfl ?_
        refine ig_ald C 0 rfl (show j < 7 by omega) (v := nI (bg a.1 j)) (h0 j (by omega)) dX0_patch_31 ?_
        refine ig_iln C 1 dX0_patch_32 rfl rfl ?_
        refine ig_iaddN C dX0_patch_33 ?_
        refine ig_is C 3 [nI (j), nI (i), v, nI ((bg a.1 j) + i)] dX0_patch_34 rfl rfl rfl ?_
        refine ig_this C dX0_patch_36 ?_
        refine ig_get C fX_name dX0_patch_37 ?_
        refine ig_il C 3 dX0_patch_40 rfl ?_
        refine ig_ald C 2 rfl (show (bg a.1 j) + i < 48 by omega) (v := nI (s)) hnm dX0_patch_42 ?_
        refine ig_if_lt_F C 50 dX0_patch_43 (by decide) (nI_pos (show s < 2 ^ 31 by omega)) ?_
        refine ig_ic C dX0_patch_46 ki_1 ?_
        refine ig_goto C 51 dX0_patch_47 (by decide) ?_
        refine ig_is C 4 [nI (j), nI (i), v, nI ((bg a.1 j) + i), nI (1)] dX0_patch_51 rfl rfl rfl ?_
        refine ig_il C 4 dX0_patch_53 rfl ?_
        refine ig_ic C dX0_patch_55 ki_1 ?_
        refine ig_icmp_ne_F C 72 dX0_patch_56 (by decide) (congrArg nI (show 1 = 1 by omega)) ?_
        refine ig_this C dX0_patch_59 ?_
        refine ig_il C 3 dX0_patch_60 rfl ?_
        refine ig_this C dX0_patch_62 ?_
        refine ig_get C fX_name dX0_patch_63 ?_
        refine ig_il C 3 dX0_patch_66 rfl ?_
        refine ig_ald C 2 rfl (show (bg a.1 j) + i < 48 by omega) (v := nI (s)) hnm dX0_patch_68 ?_
        refine ig_callv C kX_unlink (mX_unlink (xl X) S (bg a.1 j + i) s (by omega) hs b n hb hnn hbr hyr) rfl rfl ⟨Nat.le_of_ble_eq_true rfl, Nat.le_of_ble_eq_true rfl⟩ (Nat.le_of_ble_eq_true rfl) dX0_patch_69 (fun S' hp => ?_)
        subst hp
        refine ig_this C dX0_patch_72 ?_
        refine ig_il C 3 dX0_patch_73 rfl ?_
        refine ig_iln C 2 dX0_patch_75 rfl rfl ?_
        refine ig_bp C dX0_patch_76 kb_m4 ?_
        refine ig_ic C dX0_patch_78 ki_0 ?_
        refine ig_callv C kX_put (mX_putC (xl X) (ulkF S s b n) (bg a.1 j + i) (by omega) v (nI 0)) rfl rfl ⟨Nat.le_of_ble_eq_true rfl, Nat.le_of_ble_eq_true rfl⟩ (Nat.le_of_ble_eq_true rfl) dX0_patch_79 (fun S' hp => ?_)
        subst hp
        refine ig_il C 4 dX0_patch_82 rfl ?_
        exact ig_ret C (nar_int _) dX0_patch_84 ⟨by unfold sp_patch; rw [e]; dsimp only; rw [e2]; show nI 1 = if a.2.1 j i = none then nI 0 else nI 1; rw [if_neg (by rw [hn]; exact fun q => by cases q)], by unfold sp_patch; rw [e]; dsimp only; rw [e2]; exact R2⟩

set_option maxHeartbeats 1000000 in
set_option maxRecDepth 100000 in
theorem mX_insert_df {X : il_X} (C : ig_C GX cX0_insert 6 ({ frames := 4, cells := 0, slots := 0, locals := 93 }) (some .int) X) {Q : State → Prop} {T : il_S} {j i : Nat} {p : Nat} {v : Int32} (hj : j < 6) (kk : ig_W GX 6 X Q (mapF T 4 (fUp i) (j * 10) (j * 10 + 10)) 124 [nI (j), nI (i), v, nI (p), nI (10)] []) :
    ∀ (d s : Nat), s + d = 10 → ig_W GX 6 X Q (mapF T 4 (fUp i) (j * 10) (j * 10 + s)) 69 [nI (j), nI (i), v, nI (p), nI (s)] [] := by
  intro d
  induction d with
  | zero =>
    intro s hs
    have hs : s = 10 := by omega
    subst hs
    refine ig_il C 4 dX0_insert_69 rfl ?_
    refine ig_bp C dX0_insert_71 kb_10 ?_
    refine ig_icmp_ge_T C 124 dX0_insert_73 (by decide) (nI_le (show 10 ≤ 10 by omega) (by omega)) ?_
    exact kk
  | succ d ih =>
    intro s hs
    by_cases hc : T 4 (j * 10 + s) < nI i
    · have hf : fUp i (T 4 (j * 10 + s)) = T 4 (j * 10 + s) := if_pos hc
      refine ig_il C 4 dX0_insert_69 rfl ?_
      refine ig_bp C dX0_insert_71 kb_10 ?_
      refine ig_icmp_ge_F C 124 dX0_insert_73 (by decide) (nI_ge (show s < 10 by omega) (by omega)) ?_
      refine ig_this C dX0_insert_76 ?_
      refine ig_get C fX_defined dX0_insert_77 ?_
      refine ig_iln C 0 dX0_insert_80 rfl rfl ?_
      refine ig_bp C dX0_insert_81 kb_10 ?_
      refine ig_imulN C dX0_insert_83 ?_
      refine ig_il C 4 dX0_insert_84 rfl ?_
      refine ig_iaddN C dX0_insert_86 ?_
      refine ig_ald C 4 rfl (show (j * 10) + s < 60 by omega) (v := (T 4 (j * 10 + s))) (mapF_n (Nat.le_refl _)) dX0_insert_87 ?_
      refine ig_iln C 1 dX0_insert_88 rfl rfl ?_
      refine ig_icmp_lt_T C 118 dX0_insert_89 (by decide) hc ?_
      refine ig_st (mapF_id hf) ?_
      refine ig_inc C 4 (nI (s + 1)) [nI (j), nI (i), v, nI (p), nI (s + 1)] dX0_insert_118 rfl (il_inc1 _) rfl rfl ?_
      refine ig_goto C 69 dX0_insert_121 (by decide) ?_
      exact ih (s + 1) (by omega)
    · have hf : fUp i (T 4 (j * 10 + s)) = T 4 (j * 10 + s) + nI 1 := if_neg hc
      have hst : sU (mapF T 4 (fUp i) (j * 10) (j * 10 + s)) 4 (j * 10 + s) (fUp i (T 4 (j * 10 + s))) = _ := mapF_s (Nat.le_add_right _ _)
      rw [hf] at hst
      refine ig_il C 4 dX0_insert_69 rfl ?_
      refine ig_bp C dX0_insert_71 kb_10 ?_
      refine ig_icmp_ge_F C 124 dX0_insert_73 (by decide) (nI_ge (show s < 10 by omega) (by omega)) ?_
      refine ig_this C dX0_insert_76 ?_
      refine ig_get C fX_defined dX0_insert_77 ?_
      refine ig_iln C 0 dX0_insert_80 rfl rfl ?_
      refine ig_bp C dX0_insert_81 kb_10 ?_
      refine ig_imulN C dX0_insert_83 ?_
      refine ig_il C 4 dX0_insert_84 rfl ?_
      refine ig_iaddN C dX0_insert_86 ?_
      refine ig_ald C 4 rfl (show (j * 10) + s < 60 by omega) (v := (T 4 (j * 10 + s))) (mapF_n (Nat.le_refl _)) dX0_insert_87 ?_
      refine ig_iln C 1 dX0_insert_88 rfl rfl ?_
      refine ig_icmp_lt_F C 118 dX0_insert_89 (by decide) hc ?_
      refine ig_this C dX0_insert_92 ?_
      refine ig_get C fX_defined dX0_insert_93 ?_
      refine ig_iln C 0 dX0_insert_96 rfl rfl ?_
      refine ig_bp C dX0_insert_97 kb_10 ?_
      refine ig_imulN C dX0_insert_99 ?_
      refine ig_il C 4 dX0_insert_100 rfl ?_
      refine ig_iaddN C dX0_insert_102 ?_
      refine ig_this C dX0_insert_103 ?_
      refine ig_get C fX_defined dX0_insert_104 ?_
      refine ig_iln C 0 dX0_insert_107 rfl rfl ?_
      refine ig_bp C dX0_insert_108 kb_10 ?_
      refine ig_imulN C dX0_insert_110 ?_
      refine ig_il C 4 dX0_insert_111 rfl ?_
      refine ig_iaddN C dX0_insert_113 ?_
      refine ig_ald C 4 rfl (show (j * 10) + s < 60 by omega) (v := (T 4 (j * 10 + s))) (mapF_n (Nat.le_refl _)) dX0_insert_114 ?_
      refine ig_ic C dX0_insert_115 ki_1 ?_
      refine ig_iadd C dX0_insert_116 ?_
      refine ig_ast C 4 rfl (show (j * 10) + s < 60 by omega) dX0_insert_117 ?_
      refine ig_st hst ?_
      refine ig_inc C 4 (nI (s + 1)) [nI (j), nI (i), v, nI (p), nI (s + 1)] dX0_insert_118 rfl (il_inc1 _) rfl rfl ?_
      refine ig_goto C 69 dX0_insert_121 (by decide) ?_
      exact ih (s + 1) (by omega)
set_option maxHeartbeats 1000000 in
set_option maxRecDepth 100000 in
theorem mX_delete_df {X : il_X} (C : ig_C GX cX0_delete 4 ({ frames := 4, cells := 0, slots := 0, locals := 93 }) (some .int) X) {Q : State → Prop} {T : il_S} {j i : Nat}  (hj : j < 6) (kk : ig_W GX 4 X Q (mapF T 4 (fDn i) (j * 10) (j * 10 + 10)) 92 [nI (j), nI (i), nI (10)] []) :
    ∀ (d s : Nat), s + d = 10 → ig_W GX 4 X Q (mapF T 4 (fDn i) (j * 10) (j * 10 + s)) 41 [nI (j), nI (i), nI (s)] [] := by
  intro d
  induction d with
  | zero =>
    intro s hs
    have hs : s = 10 := by omega
    subst hs
    refine ig_iln C 2 dX0_delete_41 rfl rfl ?_
    refine ig_bp C dX0_delete_42 kb_10 ?_
    refine ig_icmp_ge_T C 92 dX0_delete_44 (by decide) (nI_le (show 10 ≤ 10 by omega) (by omega)) ?_
    exact kk
  | succ d ih =>
    intro s hs
    by_cases hc : T 4 (j * 10 + s) ≤ nI i
    · have hf : fDn i (T 4 (j * 10 + s)) = T 4 (j * 10 + s) := if_pos hc
      refine ig_iln C 2 dX0_delete_41 rfl rfl ?_
      refine ig_bp C dX0_delete_42 kb_10 ?_
      refine ig_icmp_ge_F C 92 dX0_delete_44 (by decide) (nI_ge (show s < 10 by omega) (by omega)) ?_
      refine ig_this C dX0_delete_47 ?_
      refine ig_get C fX_defined dX0_delete_48 ?_
      refine ig_iln C 0 dX0_delete_51 rfl rfl ?_
      refine ig_bp C dX0_delete_52 kb_10 ?_
      refine ig_imulN C dX0_delete_54 ?_
      refine ig_iln C 2 dX0_delete_55 rfl rfl ?_
      refine ig_iaddN C dX0_delete_56 ?_
      refine ig_ald C 4 rfl (show (j * 10) + s < 60 by omega) (v := (T 4 (j * 10 + s))) (mapF_n (Nat.le_refl _)) dX0_delete_57 ?_
      refine ig_iln C 1 dX0_delete_58 rfl rfl ?_
      refine ig_icmp_le_T C 86 dX0_delete_59 (by decide) hc ?_
      refine ig_st (mapF_id hf) ?_
      refine ig_inc C 2 (nI (s + 1)) [nI (j), nI (i), nI (s + 1)] dX0_delete_86 rfl (il_inc1 _) rfl rfl ?_
      refine ig_goto C 41 dX0_delete_89 (by decide) ?_
      exact ih (s + 1) (by omega)
    · have hf : fDn i (T 4 (j * 10 + s)) = T 4 (j * 10 + s) - nI 1 := if_neg hc
      have hst : sU (mapF T 4 (fDn i) (j * 10) (j * 10 + s)) 4 (j * 10 + s) (fDn i (T 4 (j * 10 + s))) = _ := mapF_s (Nat.le_add_right _ _)
      rw [hf] at hst
      refine ig_iln C 2 dX0_delete_41 rfl rfl ?_
      refine ig_bp C dX0_delete_42 kb_10 ?_
      refine ig_icmp_ge_F C 92 dX0_delete_44 (by decide) (nI_ge (show s < 10 by omega) (by omega)) ?_
      refine ig_this C dX0_delete_47 ?_
      refine ig_get C fX_defined dX0_delete_48 ?_
      refine ig_iln C 0 dX0_delete_51 rfl rfl ?_
      refine ig_bp C dX0_delete_52 kb_10 ?_
      refine ig_imulN C dX0_delete_54 ?_
      refine ig_iln C 2 dX0_delete_55 rfl rfl ?_
      refine ig_iaddN C dX0_delete_56 ?_
      refine ig_ald C 4 rfl (show (j * 10) + s < 60 by omega) (v := (T 4 (j * 10 + s))) (mapF_n (Nat.le_refl _)) dX0_delete_57 ?_
      refine ig_iln C 1 dX0_delete_58 rfl rfl ?_
      refine ig_icmp_le_F C 86 dX0_delete_59 (by decide) hc ?_
      refine ig_this C dX0_delete_62 ?_
      refine ig_get C fX_defined dX0_delete_63 ?_
      refine ig_iln C 0 dX0_delete_66 rfl rfl ?_
      refine ig_bp C dX0_delete_67 kb_10 ?_
      refine ig_imulN C dX0_delete_69 ?_
      refine ig_iln C 2 dX0_delete_70 rfl rfl ?_
      refine ig_iaddN C dX0_delete_71 ?_
      refine ig_this C dX0_delete_72 ?_
      refine ig_get C fX_defined dX0_delete_73 ?_
      refine ig_iln C 0 dX0_delete_76 rfl rfl ?_
      refine ig_bp C dX0_delete_77 kb_10 ?_
      refine ig_imulN C dX0_delete_79 ?_
      refine ig_iln C 2 dX0_delete_80 rfl rfl ?_
      refine ig_iaddN C dX0_delete_81 ?_
      refine ig_ald C 4 rfl (show (j * 10) + s < 60 by omega) (v := (T 4 (j * 10 + s))) (mapF_n (Nat.le_refl _)) dX0_delete_82 ?_
      refine ig_ic C dX0_delete_83 ki_1 ?_
      refine ig_isub C dX0_delete_84 ?_
      refine ig_ast C 4 rfl (show (j * 10) + s < 60 by omega) dX0_delete_85 ?_
      refine ig_st hst ?_
      refine ig_inc C 2 (nI (s + 1)) [nI (j), nI (i), nI (s + 1)] dX0_delete_86 rfl (il_inc1 _) rfl rfl ?_
      refine ig_goto C 41 dX0_delete_89 (by decide) ?_
      exact ih (s + 1) (by omega)
set_option maxHeartbeats 1000000 in
set_option maxRecDepth 100000 in
theorem mX_unload_df {X : il_X} (C : ig_C GX cX0_unload 4 ({ frames := 4, cells := 0, slots := 0, locals := 93 }) (some .int) X) {Q : State → Prop} {T : il_S} {j i : Nat} {zz : Int32} (hj : j < 6) (kk : ig_W GX 4 X Q (mapF T 4 (fun _ => -4) (j * 10) (j * 10 + 10)) 67 [nI (j), zz, nI (10)] []) :
    ∀ (d s : Nat), s + d = 10 → ig_W GX 4 X Q (mapF T 4 (fun _ => -4) (j * 10) (j * 10 + s)) 42 [nI (j), zz, nI (s)] [] := by
  intro d
  induction d with
  | zero =>
    intro s hs
    have hs : s = 10 := by omega
    subst hs
    refine ig_iln C 2 dX0_unload_42 rfl rfl ?_
    refine ig_bp C dX0_unload_43 kb_10 ?_
    refine ig_icmp_ge_T C 67 dX0_unload_45 (by decide) (nI_le (show 10 ≤ 10 by omega) (by omega)) ?_
    exact kk
  | succ d ih =>
    intro s hs
    refine ig_iln C 2 dX0_unload_42 rfl rfl ?_
    refine ig_bp C dX0_unload_43 kb_10 ?_
    refine ig_icmp_ge_F C 67 dX0_unload_45 (by decide) (nI_ge (show s < 10 by omega) (by omega)) ?_
    refine ig_this C dX0_unload_48 ?_
    refine ig_get C fX_defined dX0_unload_49 ?_
    refine ig_iln C 0 dX0_unload_52 rfl rfl ?_
    refine ig_bp C dX0_unload_53 kb_10 ?_
    refine ig_imulN C dX0_unload_55 ?_
    refine ig_iln C 2 dX0_unload_56 rfl rfl ?_
    refine ig_iaddN C dX0_unload_57 ?_
    refine ig_bp C dX0_unload_58 kb_m4 ?_
    refine ig_ast C 4 rfl (show (j * 10) + s < 60 by omega) dX0_unload_60 ?_
    refine ig_st (mapF_s (f := fun _ => -4) (Nat.le_add_right _ _)) ?_
    refine ig_inc C 2 (nI (s + 1)) [nI (j), zz, nI (s + 1)] dX0_unload_61 rfl (il_inc1 _) rfl rfl ?_
    refine ig_goto C 42 dX0_unload_64 (by decide) ?_
    exact ih (s + 1) (by omega)
set_option maxHeartbeats 1000000 in
set_option maxRecDepth 100000 in
theorem mX_insert (l : Launch) (S : il_S) (a : il_A) (hR : RX a S) (x y v : Int32) : ig_Mi GX l yX0_insert cX0_insert 6 .int 4 93 [x, y, v] S (fun r S' => r = (sp_insert a x y v).1 ∧ RX (sp_insert a x y v).2 S') := by
  refine ig_Mi.of GX_ok (by decide) rfl (Nat.le_of_ble_eq_true rfl) (fun X C => ?_)
  rcases il_cases x (n := 6) (by decide) with ⟨h, e⟩ | ⟨h, h6, e⟩ | ⟨j, hj, rfl, e⟩
  · refine ig_this C dX0_insert_0 ?_
    refine ig_iln C 0 dX0_insert_1 rfl rfl ?_
    refine ig_calli C kX_bad (mX_bad (xl X) S x) rfl rfl ⟨Nat.le_of_ble_eq_true rfl, Nat.le_of_ble_eq_true rfl⟩ (Nat.le_of_ble_eq_true rfl) dX0_insert_2 (fun r S' hp => ?_)
    obtain ⟨rfl, rfl⟩ := hp
    rw [e]
    refine ig_top (nI (1)) rfl ?_
    refine ig_if_eq_F C 10 dX0_insert_5 (by decide) (nI_ne0 (show 0 < 1 by omega) (by omega)) ?_
    refine ig_ic C dX0_insert_8 ki_m1 ?_
    exact ig_ret C (nar_int _) dX0_insert_9 ⟨by unfold sp_insert; rw [e], by unfold sp_insert; rw [e]; exact hR⟩
  · refine ig_this C dX0_insert_0 ?_
    refine ig_iln C 0 dX0_insert_1 rfl rfl ?_
    refine ig_calli C kX_bad (mX_bad (xl X) S x) rfl rfl ⟨Nat.le_of_ble_eq_true rfl, Nat.le_of_ble_eq_true rfl⟩ (Nat.le_of_ble_eq_true rfl) dX0_insert_2 (fun r S' hp => ?_)
    obtain ⟨rfl, rfl⟩ := hp
    rw [e]
    refine ig_top (nI (1)) rfl ?_
    refine ig_if_eq_F C 10 dX0_insert_5 (by decide) (nI_ne0 (show 0 < 1 by omega) (by omega)) ?_
    refine ig_ic C dX0_insert_8 ki_m1 ?_
    exact ig_ret C (nar_int _) dX0_insert_9 ⟨by unfold sp_insert; rw [e], by unfold sp_insert; rw [e]; exact hR⟩
  · have hR0 := hR
    obtain ⟨F, hJ, hI, hD, hV, hk⟩ := hR
    have hI0 := hI
    obtain ⟨hZ, h0, himg, hend⟩ := hI
    have hz8 := hZ.1 j hj
    have hj6 : bg a.1 (j + 1) ≤ bg a.1 6 := bg_mono a.1 (by omega)
    rw [bg_s] at hj6
    have hb48 := bg_le hZ.1 6 (by omega)
    rcases il_cases y (n := a.1 j + 1) (by omega) with ⟨h, e2⟩ | ⟨h, h6, e2⟩ | ⟨i, hi, rfl, e2⟩
    · refine ig_this C dX0_insert_0 ?_
      refine ig_iln C 0 dX0_insert_1 rfl rfl ?_
      refine ig_calli C kX_bad (mX_bad (xl X) S (nI j)) rfl rfl ⟨Nat.le_of_ble_eq_true rfl, Nat.le_of_ble_eq_true rfl⟩ (Nat.le_of_ble_eq_true rfl) dX0_insert_2 (fun r S' hp => ?_)
      obtain ⟨rfl, rfl⟩ := hp
      rw [e]
      refine ig_top (nI (0)) rfl ?_
      refine ig_if_eq_T C 10 dX0_insert_5 (by decide) (show nI (0) = 0 from by rw [show 0 = 0 by omega]; rfl) ?_
      refine ig_iln C 1 dX0_insert_10 rfl rfl ?_
      refine ig_if_lt_T C 23 dX0_insert_11 (by decide) h ?_
      refine ig_bp C dX0_insert_23 kb_m4 ?_
      exact ig_ret C (nar_int _) dX0_insert_25 ⟨by unfold sp_insert; rw [e]; dsimp only; rw [e2], by unfold sp_insert; rw [e]; dsimp only; rw [e2]; exact hR0⟩
    · refine ig_this C dX0_insert_0 ?_
      refine ig_iln C 0 dX0_insert_1 rfl rfl ?_
      refine ig_calli C kX_bad (mX_bad (xl X) S (nI j)) rfl rfl ⟨Nat.le_of_ble_eq_true rfl, Nat.le_of_ble_eq_true rfl⟩ (Nat.le_of_ble_eq_true rfl) dX0_insert_2 (fun r S' hp => ?_)
      obtain ⟨rfl, rfl⟩ := hp
      rw [e]
      refine ig_top (nI (0)) rfl ?_
      refine ig_if_eq_T C 10 dX0_insert_5 (by decide) (show nI (0) = 0 from by rw [show 0 = 0 by omega]; rfl) ?_
      refine ig_iln C 1 dX0_insert_10 rfl rfl ?_
      refine ig_if_lt_F C 23 dX0_insert_11 (by decide) h ?_
      refine ig_iln C 1 dX0_insert_14 rfl rfl ?_
      refine ig_this C dX0_insert_15 ?_
      refine ig_iln C 0 dX0_insert_16 rfl rfl ?_
      refine ig_calli C kX_words (mX_wordsZ (xl X) S a.1 j hj (h0 j (by omega)) (h0 (j + 1) (by omega))) rfl rfl ⟨Nat.le_of_ble_eq_true rfl, Nat.le_of_ble_eq_true rfl⟩ (Nat.le_of_ble_eq_true rfl) dX0_insert_17 (fun r S' hp => ?_)
      obtain ⟨rfl, rfl⟩ := hp
      refine ig_icmp_le_F C 26 dX0_insert_20 (by decide) (il_nle (show a.1 j < a.1 j + 1 by omega) (by omega) h6) ?_
      refine ig_bp C dX0_insert_23 kb_m4 ?_
      exact ig_ret C (nar_int _) dX0_insert_25 ⟨by unfold sp_insert; rw [e]; dsimp only; rw [e2], by unfold sp_insert; rw [e]; dsimp only; rw [e2]; exact hR0⟩
    · by_cases h8 : a.1 j = 8
      · refine ig_this C dX0_insert_0 ?_
        refine ig_iln C 0 dX0_insert_1 rfl rfl ?_
        refine ig_calli C kX_bad (mX_bad (xl X) S (nI j)) rfl rfl ⟨Nat.le_of_ble_eq_true rfl, Nat.le_of_ble_eq_true rfl⟩ (Nat.le_of_ble_eq_true rfl) dX0_insert_2 (fun r S' hp => ?_)
        obtain ⟨rfl, rfl⟩ := hp
        rw [e]
        refine ig_top (nI (0)) rfl ?_
        refine ig_if_eq_T C 10 dX0_insert_5 (by decide) (show nI (0) = 0 from by rw [show 0 = 0 by omega]; rfl) ?_
        refine ig_iln C 1 dX0_insert_10 rfl rfl ?_
        refine ig_if_lt_F C 23 dX0_insert_11 (by decide) (nI_pos (show i < 2 ^ 31 by omega)) ?_
        refine ig_iln C 1 dX0_insert_14 rfl rfl ?_
        refine ig_this C dX0_insert_15 ?_
        refine ig_iln C 0 dX0_insert_16 rfl rfl ?_
        refine ig_calli C kX_words (mX_wordsZ (xl X) S a.1 j hj (h0 j (by omega)) (h0 (j + 1) (by omega))) rfl rfl ⟨Nat.le_of_ble_eq_true rfl, Nat.le_of_ble_eq_true rfl⟩ (Nat.le_of_ble_eq_true rfl) dX0_insert_17 (fun r S' hp => ?_)
        obtain ⟨rfl, rfl⟩ := hp
        refine ig_icmp_le_T C 26 dX0_insert_20 (by decide) (nI_le (show i ≤ a.1 j by omega) (by omega)) ?_
        refine ig_this C dX0_insert_26 ?_
        refine ig_iln C 0 dX0_insert_27 rfl rfl ?_
        refine ig_calli C kX_words (mX_wordsZ (xl X) S a.1 j hj (h0 j (by omega)) (h0 (j + 1) (by omega))) rfl rfl ⟨Nat.le_of_ble_eq_true rfl, Nat.le_of_ble_eq_true rfl⟩ (Nat.le_of_ble_eq_true rfl) dX0_insert_28 (fun r S' hp => ?_)
        obtain ⟨rfl, rfl⟩ := hp
        refine ig_bp C dX0_insert_31 kb_8 ?_
        refine ig_icmp_ne_F C 39 dX0_insert_33 (by decide) (congrArg nI (show a.1 j = 8 by omega)) ?_
        refine ig_bp C dX0_insert_36 kb_m2 ?_
        exact ig_ret C (nar_int _) dX0_insert_38 ⟨by unfold sp_insert; rw [e]; dsimp only; rw [e2]; dsimp only; rw [if_pos h8], by unfold sp_insert; rw [e]; dsimp only; rw [e2]; dsimp only; rw [if_pos h8]; exact hR0⟩
      · have h48 := bg_lt48 hZ hj (show a.1 j < 8 by omega)
        refine ig_this C dX0_insert_0 ?_
        refine ig_iln C 0 dX0_insert_1 rfl rfl ?_
        refine ig_calli C kX_bad (mX_bad (xl X) S (nI j)) rfl rfl ⟨Nat.le_of_ble_eq_true rfl, Nat.le_of_ble_eq_true rfl⟩ (Nat.le_of_ble_eq_true rfl) dX0_insert_2 (fun r S' hp => ?_)
        obtain ⟨rfl, rfl⟩ := hp
        rw [e]
        refine ig_top (nI (0)) rfl ?_
        refine ig_if_eq_T C 10 dX0_insert_5 (by decide) (show nI (0) = 0 from by rw [show 0 = 0 by omega]; rfl) ?_
        refine ig_iln C 1 dX0_insert_10 rfl rfl ?_
        refine ig_if_lt_F C 23 dX0_insert_11 (by decide) (nI_pos (show i < 2 ^ 31 by omega)) ?_
        refine ig_iln C 1 dX0_insert_14 rfl rfl ?_
        refine ig_this C dX0_insert_15 ?_
        refine ig_iln C 0 dX0_insert_16 rfl rfl ?_
        refine ig_calli C kX_words (mX_wordsZ (xl X) S a.1 j hj (h0 j (by omega)) (h0 (j + 1) (by omega))) rfl rfl ⟨Nat.le_of_ble_eq_true rfl, Nat.le_of_ble_eq_true rfl⟩ (Nat.le_of_ble_eq_true rfl) dX0_insert_17 (fun r S' hp => ?_)
        obtain ⟨rfl, rfl⟩ := hp
        refine ig_icmp_le_T C 26 dX0_insert_20 (by decide) (nI_le (show i ≤ a.1 j by omega) (by omega)) ?_
        refine ig_this C dX0_insert_26 ?_
        refine ig_iln C 0 dX0_insert_27 rfl rfl ?_
        refine ig_calli C kX_words (mX_wordsZ (xl X) S a.1 j hj (h0 j (by omega)) (h0 (j + 1) (by omega))) rfl rfl ⟨Nat.le_of_ble_eq_true rfl, Nat.le_of_ble_eq_true rfl⟩ (Nat.le_of_ble_eq_true rfl) dX0_insert_28 (fun r S' hp => ?_)
        obtain ⟨rfl, rfl⟩ := hp
        refine ig_bp C dX0_insert_31 kb_8 ?_
        refine ig_icmp_ne_T C 39 dX0_insert_33 (by decide) (fun q => absurd ((nI_eq (by omega) (by omega)).mp q) (show ¬ a.1 j = 8 by omega)) ?_
        refine ig_this C dX0_insert_39 ?_
        refine ig_get C fX_start dX0_insert_40 ?_
        refine ig_iln C 0 dX0_insert_43 rfl rfl ?_
        refine ig_ald C 0 rfl (show j < 7 by omega) (v := nI (bg a.1 j)) (h0 j (by omega)) dX0_insert_44 ?_
        refine ig_iln C 1 dX0_insert_45 rfl rfl ?_
        refine ig_iaddN C dX0_insert_46 ?_
        refine ig_is C 3 [nI (j), nI (i), v, nI ((bg a.1 j) + i)] dX0_insert_47 rfl rfl rfl ?_
        refine ig_this C dX0_insert_49 ?_
        refine ig_iln C 0 dX0_insert_50 rfl rfl ?_
        refine ig_il C 3 dX0_insert_51 rfl ?_
        refine ig_callv C kX_open (mX_open (xl X) S F hJ j (bg a.1 j + i) (bg a.1 6) (bg a.1) h0 rfl h48 (by omega) hj hend) rfl rfl ⟨Nat.le_of_ble_eq_true rfl, Nat.le_of_ble_eq_true rfl⟩ (Nat.le_of_ble_eq_true rfl) dX0_insert_53 (fun T ho => ?_)
        refine ig_this C dX0_insert_56 ?_
        refine ig_il C 3 dX0_insert_57 rfl ?_
        refine ig_iln C 2 dX0_insert_59 rfl rfl ?_
        refine ig_bp C dX0_insert_60 kb_m4 ?_
        refine ig_ic C dX0_insert_62 ki_0 ?_
        refine ig_callv C kX_put (mX_putC (xl X) T (bg a.1 j + i) (by omega) v (nI 0)) rfl rfl ⟨Nat.le_of_ble_eq_true rfl, Nat.le_of_ble_eq_true rfl⟩ (Nat.le_of_ble_eq_true rfl) dX0_insert_63 (fun S' hp => ?_)
        subst hp
        have c1 : cJ (putC T (bg a.1 j + i) v (nI 0)) (upF (shF F (bg a.1 j + i)) (bg a.1 j + i) none) [] := by
          rw [show upF (shF F (bg a.1 j + i)) (bg a.1 j + i) none = shF F (bg a.1 j + i) from funext fun q => by by_cases hq : q = (bg a.1 j + i); rw [hq, upF_s, shF_p]; rw [upF_n hq]]
          exact cJ_putC (cJ_weak (bg a.1 j + i) ho.1) shF_p
        have I2 : IM (a_im a j i none v) (putC T (bg a.1 j + i) v (nI 0)) (upF (shF F (bg a.1 j + i)) (bg a.1 j + i) none) := IM_im hI0 hj (by omega) (by omega) (fun s q => by cases q) ho (fun q hq => ⟨putC_1n hq, putC_3n hq⟩) (fun _ => putC_1) (fun z => absurd rfl z) (putC_k (by decide) (by decide) (by decide))
        have k4 : (putC T (bg a.1 j + i) v (nI 0)) 4 = S 4 := by rw [putC_k (by decide) (by decide) (by decide), ho.2.2.2.2.1]
        have km : ∀ k, k ≠ 4 → (mapF (putC T (bg a.1 j + i) v (nI 0)) 4 (fUp i) (j * 10) (j * 10 + 10)) k = (putC T (bg a.1 j + i) v (nI 0)) k := fun k hk => mapF_k hk
        have I3 : IM (a_df (a_im a j i none v) (d_up a.2.2.2 j i)) (mapF (putC T (bg a.1 j + i) v (nI 0)) 4 (fUp i) (j * 10) (j * 10 + 10)) (upF (shF F (bg a.1 j + i)) (bg a.1 j + i) none) := IM_congr I2 (km 0 (by decide)) (fun q _ => by rw [km 1 (by decide)]) (km 3 (by decide)) rfl (fun m w _ _ => ⟨rfl, rfl⟩)
        have D3 : DF (a_df (a_im a j i none v) (d_up a.2.2.2 j i)) (mapF (putC T (bg a.1 j + i) v (nI 0)) 4 (fUp i) (j * 10) (j * 10 + 10)) := DF_up hZ hV hD hj (by omega) k4
        refine ig_ic C dX0_insert_66 ki_0 ?_
        refine ig_is C 4 [nI (j), nI (i), v, nI ((bg a.1 j) + i), nI (0)] dX0_insert_67 rfl rfl rfl ?_
        refine ig_st (mapF_0 (k := 4) (lo := j * 10) (f := fUp i)).symm ?_
        refine mX_insert_df (p := bg a.1 j + i) C hj ?_ 10 0 rfl
        refine ig_this C dX0_insert_124 ?_
        refine ig_callv C kX_refresh (mX_refresh (xl X) (mapF (putC T (bg a.1 j + i) v (nI 0)) 4 (fUp i) (j * 10) (j * 10 + 10)) (upF (shF F (bg a.1 j + i)) (bg a.1 j + i) none) (a_df (a_im a j i none v) (d_up a.2.2.2 j i)) (cJ_k c1 km) I3.1 (vD_up hV) I3.2.1 D3) rfl rfl ⟨Nat.le_of_ble_eq_true rfl, Nat.le_of_ble_eq_true rfl⟩ (Nat.le_of_ble_eq_true rfl) dX0_insert_125 (fun S' hf => ?_)
        have h0f : ∀ k, k ≤ 6 → S' 0 k = nI (bg (a_df (a_im a j i none v) (d_up a.2.2.2 j i)).1 k) := fun k hk => by rw [hf.2.2.2.1]; exact I3.2.1 k hk
        refine ig_this C dX0_insert_128 ?_
        refine ig_iln C 0 dX0_insert_129 rfl rfl ?_
        refine ig_calli C kX_words (mX_wordsZ (xl X) S' (a_df (a_im a j i none v) (d_up a.2.2.2 j i)).1 j hj (h0f j (by omega)) (h0f (j + 1) (by omega))) rfl rfl ⟨Nat.le_of_ble_eq_true rfl, Nat.le_of_ble_eq_true rfl⟩ (Nat.le_of_ble_eq_true rfl) dX0_insert_130 (fun r S'' hp => ?_)
        obtain ⟨rfl, rfl⟩ := hp
        exact ig_ret C (nar_int _) dX0_insert_133 ⟨by unfold sp_insert; rw [e]; dsimp only; rw [e2]; dsimp only; rw [if_neg h8]; show nI ((a_df (a_im a j i none v) (d_up a.2.2.2 j i)).1 j) = nI (a.1 j + 1); rw [show (a_df (a_im a j i none v) (d_up a.2.2.2 j i)).1 j = a.1 j + 1 from if_pos rfl], by unfold sp_insert; rw [e]; dsimp only; rw [e2]; dsimp only; rw [if_neg h8]; exact RX_fin I3 D3 (vD_up hV) hf⟩

set_option maxHeartbeats 1000000 in
set_option maxRecDepth 100000 in
theorem mX_delete (l : Launch) (S : il_S) (a : il_A) (hR : RX a S) (x y : Int32) : ig_Mi GX l yX0_delete cX0_delete 4 .int 4 93 [x, y] S (fun r S' => r = (sp_delete a x y).1 ∧ RX (sp_delete a x y).2 S') := by
  refine ig_Mi.of GX_ok (by decide) rfl (Nat.le_of_ble_eq_true rfl) (fun X C => ?_)
  rcases il_cases x (n := 6) (by decide) with ⟨h, e⟩ | ⟨h, h6, e⟩ | ⟨j, hj, rfl, e⟩
  · refine ig_this C dX0_delete_0 ?_
    refine ig_iln C 0 dX0_delete_1 rfl rfl ?_
    refine ig_calli C kX_bad (mX_bad (xl X) S x) rfl rfl ⟨Nat.le_of_ble_eq_true rfl, Nat.le_of_ble_eq_true rfl⟩ (Nat.le_of_ble_eq_true rfl) dX0_delete_2 (fun r S' hp => ?_)
    obtain ⟨rfl, rfl⟩ := hp
    rw [e]
    refine ig_top (nI (1)) rfl ?_
    refine ig_if_eq_F C 10 dX0_delete_5 (by decide) (nI_ne0 (show 0 < 1 by omega) (by omega)) ?_
    refine ig_ic C dX0_delete_8 ki_m1 ?_
    exact ig_ret C (nar_int _) dX0_delete_9 ⟨by unfold sp_delete; rw [e], by unfold sp_delete; rw [e]; exact hR⟩
  · refine ig_this C dX0_delete_0 ?_
    refine ig_iln C 0 dX0_delete_1 rfl rfl ?_
    refine ig_calli C kX_bad (mX_bad (xl X) S x) rfl rfl ⟨Nat.le_of_ble_eq_true rfl, Nat.le_of_ble_eq_true rfl⟩ (Nat.le_of_ble_eq_true rfl) dX0_delete_2 (fun r S' hp => ?_)
    obtain ⟨rfl, rfl⟩ := hp
    rw [e]
    refine ig_top (nI (1)) rfl ?_
    refine ig_if_eq_F C 10 dX0_delete_5 (by decide) (nI_ne0 (show 0 < 1 by omega) (by omega)) ?_
    refine ig_ic C dX0_delete_8 ki_m1 ?_
    exact ig_ret C (nar_int _) dX0_delete_9 ⟨by unfold sp_delete; rw [e], by unfold sp_delete; rw [e]; exact hR⟩
  · have hR0 := hR
    obtain ⟨F, hJ, hI, hD, hV, hk⟩ := hR
    have hI0 := hI
    obtain ⟨hZ, h0, himg, hend⟩ := hI
    have hz8 := hZ.1 j hj
    have hj6 : bg a.1 (j + 1) ≤ bg a.1 6 := bg_mono a.1 (by omega)
    rw [bg_s] at hj6
    have hb48 := bg_le hZ.1 6 (by omega)
    rcases il_cases y (n := a.1 j) (by omega) with ⟨h, e2⟩ | ⟨h, h6, e2⟩ | ⟨i, hi, rfl, e2⟩
    · refine ig_this C dX0_delete_0 ?_
      refine ig_iln C 0 dX0_delete_1 rfl rfl ?_
      refine ig_calli C kX_bad (mX_bad (xl X) S (nI j)) rfl rfl ⟨Nat.le_of_ble_eq_true rfl, Nat.le_of_ble_eq_true rfl⟩ (Nat.le_of_ble_eq_true rfl) dX0_delete_2 (fun r S' hp => ?_)
      obtain ⟨rfl, rfl⟩ := hp
      rw [e]
      refine ig_top (nI (0)) rfl ?_
      refine ig_if_eq_T C 10 dX0_delete_5 (by decide) (show nI (0) = 0 from by rw [show 0 = 0 by omega]; rfl) ?_
      refine ig_iln C 1 dX0_delete_10 rfl rfl ?_
      refine ig_if_lt_T C 23 dX0_delete_11 (by decide) h ?_
      refine ig_bp C dX0_delete_23 kb_m4 ?_
      exact ig_ret C (nar_int _) dX0_delete_25 ⟨by unfold sp_delete; rw [e]; dsimp only; rw [e2], by unfold sp_delete; rw [e]; dsimp only; rw [e2]; exact hR0⟩
    · refine ig_this C dX0_delete_0 ?_
      refine ig_iln C 0 dX0_delete_1 rfl rfl ?_
      refine ig_calli C kX_bad (mX_bad (xl X) S (nI j)) rfl rfl ⟨Nat.le_of_ble_eq_true rfl, Nat.le_of_ble_eq_true rfl⟩ (Nat.le_of_ble_eq_true rfl) dX0_delete_2 (fun r S' hp => ?_)
      obtain ⟨rfl, rfl⟩ := hp
      rw [e]
      refine ig_top (nI (0)) rfl ?_
      refine ig_if_eq_T C 10 dX0_delete_5 (by decide) (show nI (0) = 0 from by rw [show 0 = 0 by omega]; rfl) ?_
      refine ig_iln C 1 dX0_delete_10 rfl rfl ?_
      refine ig_if_lt_F C 23 dX0_delete_11 (by decide) h ?_
      refine ig_iln C 1 dX0_delete_14 rfl rfl ?_
      refine ig_this C dX0_delete_15 ?_
      refine ig_iln C 0 dX0_delete_16 rfl rfl ?_
      refine ig_calli C kX_words (mX_wordsZ (xl X) S a.1 j hj (h0 j (by omega)) (h0 (j + 1) (by omega))) rfl rfl ⟨Nat.le_of_ble_eq_true rfl, Nat.le_of_ble_eq_true rfl⟩ (Nat.le_of_ble_eq_true rfl) dX0_delete_17 (fun r S' hp => ?_)
      obtain ⟨rfl, rfl⟩ := hp
      refine ig_icmp_lt_F C 26 dX0_delete_20 (by decide) (il_nlt (Nat.le_refl _) (by omega) h6) ?_
      refine ig_bp C dX0_delete_23 kb_m4 ?_
      exact ig_ret C (nar_int _) dX0_delete_25 ⟨by unfold sp_delete; rw [e]; dsimp only; rw [e2], by unfold sp_delete; rw [e]; dsimp only; rw [e2]; exact hR0⟩
    · obtain ⟨e6, he6⟩ : ∃ e, bg a.1 6 = e + 1 := ⟨bg a.1 6 - 1, by omega⟩
      have hs1 : ∀ k, j < k → k ≤ 6 → 1 ≤ bg a.1 k := fun k h1 h2 => by
        have h3 : bg a.1 (j + 1) ≤ bg a.1 k := bg_mono a.1 (by omega)
        rw [bg_s] at h3
        omega
      refine ig_this C dX0_delete_0 ?_
      refine ig_iln C 0 dX0_delete_1 rfl rfl ?_
      refine ig_calli C kX_bad (mX_bad (xl X) S (nI j)) rfl rfl ⟨Nat.le_of_ble_eq_true rfl, Nat.le_of_ble_eq_true rfl⟩ (Nat.le_of_ble_eq_true rfl) dX0_delete_2 (fun r S' hp => ?_)
      obtain ⟨rfl, rfl⟩ := hp
      rw [e]
      refine ig_top (nI (0)) rfl ?_
      refine ig_if_eq_T C 10 dX0_delete_5 (by decide) (show nI (0) = 0 from by rw [show 0 = 0 by omega]; rfl) ?_
      refine ig_iln C 1 dX0_delete_10 rfl rfl ?_
      refine ig_if_lt_F C 23 dX0_delete_11 (by decide) (nI_pos (show i < 2 ^ 31 by omega)) ?_
      refine ig_iln C 1 dX0_delete_14 rfl rfl ?_
      refine ig_this C dX0_delete_15 ?_
      refine ig_iln C 0 dX0_delete_16 rfl rfl ?_
      refine ig_calli C kX_words (mX_wordsZ (xl X) S a.1 j hj (h0 j (by omega)) (h0 (j + 1) (by omega))) rfl rfl ⟨Nat.le_of_ble_eq_true rfl, Nat.le_of_ble_eq_true rfl⟩ (Nat.le_of_ble_eq_true rfl) dX0_delete_17 (fun r S' hp => ?_)
      obtain ⟨rfl, rfl⟩ := hp
      refine ig_icmp_lt_T C 26 dX0_delete_20 (by decide) (nI_lt (show i < a.1 j by omega) (by omega)) ?_
      refine ig_this C dX0_delete_26 ?_
      refine ig_iln C 0 dX0_delete_27 rfl rfl ?_
      refine ig_this C dX0_delete_28 ?_
      refine ig_get C fX_start dX0_delete_29 ?_
      refine ig_iln C 0 dX0_delete_32 rfl rfl ?_
      refine ig_ald C 0 rfl (show j < 7 by omega) (v := nI (bg a.1 j)) (h0 j (by omega)) dX0_delete_33 ?_
      refine ig_iln C 1 dX0_delete_34 rfl rfl ?_
      refine ig_iaddN C dX0_delete_35 ?_
      refine ig_callv C kX_close (mX_close (xl X) S F hJ j (bg a.1 j + i) e6 (bg a.1) h0 he6 (by omega) (by omega) hj hs1 (fun q hq => hend q (by omega))) rfl rfl ⟨Nat.le_of_ble_eq_true rfl, Nat.le_of_ble_eq_true rfl⟩ (Nat.le_of_ble_eq_true rfl) dX0_delete_36 (fun T ho => ?_)
      rw [← he6] at ho
      have I2 : IM (a_rm a j i) T (dnF F (bg a.1 j + i)) := IM_rm hI0 hj hi ho
      have km : ∀ k, k ≠ 4 → (mapF T 4 (fDn i) (j * 10) (j * 10 + 10)) k = T k := fun k hk => mapF_k hk
      have I3 : IM (a_df (a_rm a j i) (d_dn a.2.2.2 j i)) (mapF T 4 (fDn i) (j * 10) (j * 10 + 10)) (dnF F (bg a.1 j + i)) := IM_congr I2 (km 0 (by decide)) (fun q _ => by rw [km 1 (by decide)]) (km 3 (by decide)) rfl (fun m w _ _ => ⟨rfl, rfl⟩)
      have D3 : DF (a_df (a_rm a j i) (d_dn a.2.2.2 j i)) (mapF T 4 (fDn i) (j * 10) (j * 10 + 10)) := DF_dn hZ hV hD hj (by omega) ho.2.2.2.2.1
      refine ig_ic C dX0_delete_39 ki_0 ?_
      refine ig_isn C 2 [nI (j), nI (i), nI (0)] dX0_delete_40 rfl rfl rfl rfl ?_
      refine ig_st (mapF_0 (k := 4) (lo := j * 10) (f := fDn i)).symm ?_
      refine mX_delete_df C hj ?_ 10 0 rfl
      refine ig_this C dX0_delete_92 ?_
      refine ig_callv C kX_refresh (mX_refresh (xl X) (mapF T 4 (fDn i) (j * 10) (j * 10 + 10)) (dnF F (bg a.1 j + i)) (a_df (a_rm a j i) (d_dn a.2.2.2 j i)) (cJ_k ho.1 km) I3.1 (vD_dn hV hi) I3.2.1 D3) rfl rfl ⟨Nat.le_of_ble_eq_true rfl, Nat.le_of_ble_eq_true rfl⟩ (Nat.le_of_ble_eq_true rfl) dX0_delete_93 (fun S' hf => ?_)
      have h0f : ∀ k, k ≤ 6 → S' 0 k = nI (bg (a_df (a_rm a j i) (d_dn a.2.2.2 j i)).1 k) := fun k hk => by rw [hf.2.2.2.1]; exact I3.2.1 k hk
      refine ig_this C dX0_delete_96 ?_
      refine ig_iln C 0 dX0_delete_97 rfl rfl ?_
      refine ig_calli C kX_words (mX_wordsZ (xl X) S' (a_df (a_rm a j i) (d_dn a.2.2.2 j i)).1 j hj (h0f j (by omega)) (h0f (j + 1) (by omega))) rfl rfl ⟨Nat.le_of_ble_eq_true rfl, Nat.le_of_ble_eq_true rfl⟩ (Nat.le_of_ble_eq_true rfl) dX0_delete_98 (fun r S'' hp => ?_)
      obtain ⟨rfl, rfl⟩ := hp
      exact ig_ret C (nar_int _) dX0_delete_101 ⟨by unfold sp_delete; rw [e]; dsimp only; rw [e2]; show nI ((a_df (a_rm a j i) (d_dn a.2.2.2 j i)).1 j) = nI (a.1 j - 1); rw [show (a_df (a_rm a j i) (d_dn a.2.2.2 j i)).1 j = a.1 j - 1 from if_pos rfl], by unfold sp_delete; rw [e]; dsimp only; rw [e2]; exact RX_fin I3 D3 (vD_dn hV hi) hf⟩

set_option maxHeartbeats 1000000 in
set_option maxRecDepth 100000 in
theorem mX_unload_mv {X : il_X} (C : ig_C GX cX0_unload 4 ({ frames := 4, cells := 0, slots := 0, locals := 93 }) (some .int) X) {Q : State → Prop} {a : il_A} {j : Nat} {d4 : Nat → Int32} (hj : j < 6) (hz8 : a.1 j ≤ 8) (kk : ∀ T G, cJ T G [] → IM (rmN a j (a.1 j)) T G → T 4 = d4 → ig_W GX 4 X Q T 40 [nI (j), nI (a.1 j), nI (a.1 j)] []) :
    ∀ (d k : Nat) (T : il_S) (G : Nat → Option Nat), k + d = a.1 j → cJ T G [] → IM (rmN a j k) T G → T 4 = d4 → ig_W GX 4 X Q T 18 [nI (j), nI (a.1 j), nI (k)] [] := by
  intro d
  induction d with
  | zero =>
    intro k T G hk hJ hI h4
    have hk : k = a.1 j := by omega
    subst hk
    refine ig_iln C 2 dX0_unload_18 rfl rfl ?_
    refine ig_iln C 1 dX0_unload_19 rfl rfl ?_
    refine ig_icmp_ge_T C 40 dX0_unload_20 (by decide) (nI_le (show a.1 j ≤ a.1 j by omega) (by omega)) ?_
    exact kk T G hJ hI h4
  | succ d ih =>
    intro k T G hk hJ hI h4
    have hI0 := hI
    obtain ⟨hZ, h0, himg, hend⟩ := hI
    have hzk : (rmN a j k).1 j = a.1 j - k := by rw [rmN_z, if_pos rfl]
    have hj6 : bg (rmN a j k).1 (j + 1) ≤ bg (rmN a j k).1 6 := bg_mono _ (by omega)
    rw [bg_s] at hj6
    have hb48 := bg_le hZ.1 6 (by omega)
    obtain ⟨e6, he6⟩ : ∃ e, bg (rmN a j k).1 6 = e + 1 := ⟨bg (rmN a j k).1 6 - 1, by omega⟩
    have hs1 : ∀ i, j < i → i ≤ 6 → 1 ≤ bg (rmN a j k).1 i := fun i h1 h2 => by
      have h3 : bg (rmN a j k).1 (j + 1) ≤ bg (rmN a j k).1 i := bg_mono _ (by omega)
      rw [bg_s] at h3
      omega
    refine ig_iln C 2 dX0_unload_18 rfl rfl ?_
    refine ig_iln C 1 dX0_unload_19 rfl rfl ?_
    refine ig_icmp_ge_F C 40 dX0_unload_20 (by decide) (nI_ge (show k < a.1 j by omega) (by omega)) ?_
    refine ig_this C dX0_unload_23 ?_
    refine ig_iln C 0 dX0_unload_24 rfl rfl ?_
    refine ig_this C dX0_unload_25 ?_
    refine ig_get C fX_start dX0_unload_26 ?_
    refine ig_iln C 0 dX0_unload_29 rfl rfl ?_
    refine ig_ald C 0 rfl (show j < 7 by omega) (v := nI (bg (rmN a j k).1 j + 0)) (h0 j (by omega)) dX0_unload_30 ?_
    refine ig_callv C kX_close (mX_close (xl X) T G hJ j (bg (rmN a j k).1 j + 0) e6 (bg (rmN a j k).1) h0 he6 (by omega) (by omega) hj hs1 (fun q hq => hend q (by omega))) rfl rfl ⟨Nat.le_of_ble_eq_true rfl, Nat.le_of_ble_eq_true rfl⟩ (Nat.le_of_ble_eq_true rfl) dX0_unload_31 (fun T' ho => ?_)
    rw [← he6] at ho
    refine ig_inc C 2 (nI (k + 1)) [nI (j), nI (a.1 j), nI (k + 1)] dX0_unload_34 rfl (il_inc1 _) rfl rfl ?_
    refine ig_goto C 18 dX0_unload_37 (by decide) ?_
    exact ih (k + 1) T' _ (by omega) ho.1 (IM_rm hI0 hj (by omega) ho) (ho.2.2.2.2.1.trans h4)
set_option maxHeartbeats 1000000 in
set_option maxRecDepth 100000 in
theorem mX_unload (l : Launch) (S : il_S) (a : il_A) (hR : RX a S) (x : Int32) : ig_Mi GX l yX0_unload cX0_unload 4 .int 4 93 [x] S (fun r S' => r = (sp_unload a x).1 ∧ RX (sp_unload a x).2 S') := by
  refine ig_Mi.of GX_ok (by decide) rfl (Nat.le_of_ble_eq_true rfl) (fun X C => ?_)
  rcases il_cases x (n := 6) (by decide) with ⟨h, e⟩ | ⟨h, h6, e⟩ | ⟨j, hj, rfl, e⟩
  · refine ig_this C dX0_unload_0 ?_
    refine ig_iln C 0 dX0_unload_1 rfl rfl ?_
    refine ig_calli C kX_bad (mX_bad (xl X) S x) rfl rfl ⟨Nat.le_of_ble_eq_true rfl, Nat.le_of_ble_eq_true rfl⟩ (Nat.le_of_ble_eq_true rfl) dX0_unload_2 (fun r S' hp => ?_)
    obtain ⟨rfl, rfl⟩ := hp
    rw [e]
    refine ig_top (nI (1)) rfl ?_
    refine ig_if_eq_F C 10 dX0_unload_5 (by decide) (nI_ne0 (show 0 < 1 by omega) (by omega)) ?_
    refine ig_ic C dX0_unload_8 ki_m1 ?_
    exact ig_ret C (nar_int _) dX0_unload_9 ⟨by unfold sp_unload; rw [e], by unfold sp_unload; rw [e]; exact hR⟩
  · refine ig_this C dX0_unload_0 ?_
    refine ig_iln C 0 dX0_unload_1 rfl rfl ?_
    refine ig_calli C kX_bad (mX_bad (xl X) S x) rfl rfl ⟨Nat.le_of_ble_eq_true rfl, Nat.le_of_ble_eq_true rfl⟩ (Nat.le_of_ble_eq_true rfl) dX0_unload_2 (fun r S' hp => ?_)
    obtain ⟨rfl, rfl⟩ := hp
    rw [e]
    refine ig_top (nI (1)) rfl ?_
    refine ig_if_eq_F C 10 dX0_unload_5 (by decide) (nI_ne0 (show 0 < 1 by omega) (by omega)) ?_
    refine ig_ic C dX0_unload_8 ki_m1 ?_
    exact ig_ret C (nar_int _) dX0_unload_9 ⟨by unfold sp_unload; rw [e], by unfold sp_unload; rw [e]; exact hR⟩
  · have hR0 := hR
    obtain ⟨F, hJ, hI, hD, hV, hk⟩ := hR
    have hI0 := hI
    obtain ⟨hZ, h0, himg, hend⟩ := hI
    have hz8 := hZ.1 j hj
    have hj6 : bg a.1 (j + 1) ≤ bg a.1 6 := bg_mono a.1 (by omega)
    rw [bg_s] at hj6
    have hb48 := bg_le hZ.1 6 (by omega)
    refine ig_this C dX0_unload_0 ?_
    refine ig_iln C 0 dX0_unload_1 rfl rfl ?_
    refine ig_calli C kX_bad (mX_bad (xl X) S (nI j)) rfl rfl ⟨Nat.le_of_ble_eq_true rfl, Nat.le_of_ble_eq_true rfl⟩ (Nat.le_of_ble_eq_true rfl) dX0_unload_2 (fun r S' hp => ?_)
    obtain ⟨rfl, rfl⟩ := hp
    rw [e]
    refine ig_top (nI (0)) rfl ?_
    refine ig_if_eq_T C 10 dX0_unload_5 (by decide) (show nI (0) = 0 from by rw [show 0 = 0 by omega]; rfl) ?_
    refine ig_this C dX0_unload_10 ?_
    refine ig_iln C 0 dX0_unload_11 rfl rfl ?_
    refine ig_calli C kX_words (mX_wordsZ (xl X) S a.1 j hj (h0 j (by omega)) (h0 (j + 1) (by omega))) rfl rfl ⟨Nat.le_of_ble_eq_true rfl, Nat.le_of_ble_eq_true rfl⟩ (Nat.le_of_ble_eq_true rfl) dX0_unload_12 (fun r S' hp => ?_)
    obtain ⟨rfl, rfl⟩ := hp
    refine ig_isn C 1 [nI (j), nI (a.1 j)] dX0_unload_15 rfl rfl rfl rfl ?_
    refine ig_ic C dX0_unload_16 ki_0 ?_
    refine ig_isn C 2 [nI (j), nI (a.1 j), nI (0)] dX0_unload_17 rfl rfl rfl rfl ?_
    refine mX_unload_mv (a := a) C hj hz8 (fun T G hJT hIT h4T => ?_) (a.1 j) 0 S F (by omega) hJ hI0 rfl
    refine ig_ic C dX0_unload_40 ki_0 ?_
    refine ig_isn C 2 [nI (j), nI (a.1 j), nI (0)] dX0_unload_41 rfl rfl rfl rfl ?_
    refine ig_st (mapF_0 (k := 4) (lo := j * 10) (f := fun _ => -4)).symm ?_
    refine mX_unload_df (i := 0) C hj ?_ 10 0 rfl
    have km : ∀ k, k ≠ 4 → (mapF T 4 (fun _ => -4) (j * 10) (j * 10 + 10)) k = T k := fun k hk => mapF_k hk
    have I3 : IM (a_unl a j) (mapF T 4 (fun _ => -4) (j * 10) (j * 10 + 10)) G := IM_unl hIT km
    have D3 : DF (a_unl a j) (mapF T 4 (fun _ => -4) (j * 10) (j * 10 + 10)) := DF_cl hD hj h4T
    refine ig_this C dX0_unload_67 ?_
    refine ig_callv C kX_refresh (mX_refresh (xl X) (mapF T 4 (fun _ => -4) (j * 10) (j * 10 + 10)) G (a_unl a j) (cJ_k hJT km) I3.1 (vD_cl hV) I3.2.1 D3) rfl rfl ⟨Nat.le_of_ble_eq_true rfl, Nat.le_of_ble_eq_true rfl⟩ (Nat.le_of_ble_eq_true rfl) dX0_unload_68 (fun S' hf => ?_)
    refine ig_iln C 1 dX0_unload_71 rfl rfl ?_
    exact ig_ret C (nar_int _) dX0_unload_72 ⟨by unfold sp_unload; rw [e], by unfold sp_unload; rw [e]; exact RX_fin I3 D3 (vD_cl hV) hf⟩

set_option maxHeartbeats 1000000 in
set_option maxRecDepth 100000 in
theorem mX_define (l : Launch) (S : il_S) (a : il_A) (hR : RX a S) (x y v : Int32) : ig_Mi GX l yX0_define cX0_define 5 .int 3 68 [x, y, v] S (fun r S' => r = (sp_define a x y v).1 ∧ RX (sp_define a x y v).2 S') := by
  refine ig_Mi.of GX_ok (by decide) rfl (Nat.le_of_ble_eq_true rfl) (fun X C => ?_)
  rcases il_cases x (n := 6) (by decide) with ⟨h, e⟩ | ⟨h, h6, e⟩ | ⟨j, hj, rfl, e⟩
  · refine ig_this C dX0_define_0 ?_
    refine ig_iln C 0 dX0_define_1 rfl rfl ?_
    refine ig_calli C kX_bad (mX_bad (xl X) S x) rfl rfl ⟨Nat.le_of_ble_eq_true rfl, Nat.le_of_ble_eq_true rfl⟩ (Nat.le_of_ble_eq_true rfl) dX0_define_2 (fun r S' hp => ?_)
    obtain ⟨rfl, rfl⟩ := hp
    rw [e]
    refine ig_top (nI (1)) rfl ?_
    refine ig_if_ne_T C 16 dX0_define_5 (by decide) (nI_ne0 (show 0 < 1 by omega) (by omega)) ?_
    refine ig_ic C dX0_define_16 ki_m1 ?_
    exact ig_ret C (nar_int _) dX0_define_17 ⟨by unfold sp_define; rw [e], by unfold sp_define; rw [e]; exact hR⟩
  · refine ig_this C dX0_define_0 ?_
    refine ig_iln C 0 dX0_define_1 rfl rfl ?_
    refine ig_calli C kX_bad (mX_bad (xl X) S x) rfl rfl ⟨Nat.le_of_ble_eq_true rfl, Nat.le_of_ble_eq_true rfl⟩ (Nat.le_of_ble_eq_true rfl) dX0_define_2 (fun r S' hp => ?_)
    obtain ⟨rfl, rfl⟩ := hp
    rw [e]
    refine ig_top (nI (1)) rfl ?_
    refine ig_if_ne_T C 16 dX0_define_5 (by decide) (nI_ne0 (show 0 < 1 by omega) (by omega)) ?_
    refine ig_ic C dX0_define_16 ki_m1 ?_
    exact ig_ret C (nar_int _) dX0_define_17 ⟨by unfold sp_define; rw [e], by unfold sp_define; rw [e]; exact hR⟩
  · have hR0 := hR
    obtain ⟨F, hJ, hI, hD, hV, hk⟩ := hR
    have hI0 := hI
    obtain ⟨hZ, h0, himg, hend⟩ := hI
    have hz8 := hZ.1 j hj
    have hj6 : bg a.1 (j + 1) ≤ bg a.1 6 := bg_mono a.1 (by omega)
    rw [bg_s] at hj6
    have hb48 := bg_le hZ.1 6 (by omega)
    rcases il_cases y (n := 10) (by decide) with ⟨h, e2⟩ | ⟨h, h6, e2⟩ | ⟨s, hs, rfl, e2⟩
    · refine ig_this C dX0_define_0 ?_
      refine ig_iln C 0 dX0_define_1 rfl rfl ?_
      refine ig_calli C kX_bad (mX_bad (xl X) S (nI j)) rfl rfl ⟨Nat.le_of_ble_eq_true rfl, Nat.le_of_ble_eq_true rfl⟩ (Nat.le_of_ble_eq_true rfl) dX0_define_2 (fun r S' hp => ?_)
      obtain ⟨rfl, rfl⟩ := hp
      rw [e]
      refine ig_top (nI (0)) rfl ?_
      refine ig_if_ne_F C 16 dX0_define_5 (by decide) (show nI (0) = 0 from by rw [show 0 = 0 by omega]; rfl) ?_
      refine ig_this C dX0_define_8 ?_
      refine ig_iln C 1 dX0_define_9 rfl rfl ?_
      refine ig_calli C kX_badName (mX_badName (xl X) S y) rfl rfl ⟨Nat.le_of_ble_eq_true rfl, Nat.le_of_ble_eq_true rfl⟩ (Nat.le_of_ble_eq_true rfl) dX0_define_10 (fun r S' hp => ?_)
      obtain ⟨rfl, rfl⟩ := hp
      rw [e2]
      refine ig_top (nI (1)) rfl ?_
      refine ig_if_eq_F C 18 dX0_define_13 (by decide) (nI_ne0 (show 0 < 1 by omega) (by omega)) ?_
      refine ig_ic C dX0_define_16 ki_m1 ?_
      exact ig_ret C (nar_int _) dX0_define_17 ⟨by unfold sp_define; rw [e]; dsimp only; rw [e2], by unfold sp_define; rw [e]; dsimp only; rw [e2]; exact hR0⟩
    · refine ig_this C dX0_define_0 ?_
      refine ig_iln C 0 dX0_define_1 rfl rfl ?_
      refine ig_calli C kX_bad (mX_bad (xl X) S (nI j)) rfl rfl ⟨Nat.le_of_ble_eq_true rfl, Nat.le_of_ble_eq_true rfl⟩ (Nat.le_of_ble_eq_true rfl) dX0_define_2 (fun r S' hp => ?_)
      obtain ⟨rfl, rfl⟩ := hp
      rw [e]
      refine ig_top (nI (0)) rfl ?_
      refine ig_if_ne_F C 16 dX0_define_5 (by decide) (show nI (0) = 0 from by rw [show 0 = 0 by omega]; rfl) ?_
      refine ig_this C dX0_define_8 ?_
      refine ig_iln C 1 dX0_define_9 rfl rfl ?_
      refine ig_calli C kX_badName (mX_badName (xl X) S y) rfl rfl ⟨Nat.le_of_ble_eq_true rfl, Nat.le_of_ble_eq_true rfl⟩ (Nat.le_of_ble_eq_true rfl) dX0_define_10 (fun r S' hp => ?_)
      obtain ⟨rfl, rfl⟩ := hp
      rw [e2]
      refine ig_top (nI (1)) rfl ?_
      refine ig_if_eq_F C 18 dX0_define_13 (by decide) (nI_ne0 (show 0 < 1 by omega) (by omega)) ?_
      refine ig_ic C dX0_define_16 ki_m1 ?_
      exact ig_ret C (nar_int _) dX0_define_17 ⟨by unfold sp_define; rw [e]; dsimp only; rw [e2], by unfold sp_define; rw [e]; dsimp only; rw [e2]; exact hR0⟩
    · rcases il_cases v (n := a.1 j + 1) (by omega) with ⟨h, e3⟩ | ⟨h, h6, e3⟩ | ⟨i, hi, rfl, e3⟩
      · refine ig_this C dX0_define_0 ?_
        refine ig_iln C 0 dX0_define_1 rfl rfl ?_
        refine ig_calli C kX_bad (mX_bad (xl X) S (nI j)) rfl rfl ⟨Nat.le_of_ble_eq_true rfl, Nat.le_of_ble_eq_true rfl⟩ (Nat.le_of_ble_eq_true rfl) dX0_define_2 (fun r S' hp => ?_)
        obtain ⟨rfl, rfl⟩ := hp
        rw [e]
        refine ig_top (nI (0)) rfl ?_
        refine ig_if_ne_F C 16 dX0_define_5 (by decide) (show nI (0) = 0 from by rw [show 0 = 0 by omega]; rfl) ?_
        refine ig_this C dX0_define_8 ?_
        refine ig_iln C 1 dX0_define_9 rfl rfl ?_
        refine ig_calli C kX_badName (mX_badName (xl X) S (nI s)) rfl rfl ⟨Nat.le_of_ble_eq_true rfl, Nat.le_of_ble_eq_true rfl⟩ (Nat.le_of_ble_eq_true rfl) dX0_define_10 (fun r S' hp => ?_)
        obtain ⟨rfl, rfl⟩ := hp
        rw [e2]
        refine ig_top (nI (0)) rfl ?_
        refine ig_if_eq_T C 18 dX0_define_13 (by decide) (show nI (0) = 0 from by rw [show 0 = 0 by omega]; rfl) ?_
        refine ig_iln C 2 dX0_define_18 rfl rfl ?_
        refine ig_if_lt_T C 31 dX0_define_19 (by decide) h ?_
        refine ig_bp C dX0_define_31 kb_m4 ?_
        exact ig_ret C (nar_int _) dX0_define_33 ⟨by unfold sp_define; rw [e]; dsimp only; rw [e2]; dsimp only; rw [e3], by unfold sp_define; rw [e]; dsimp only; rw [e2]; dsimp only; rw [e3]; exact hR0⟩
      · refine ig_this C dX0_define_0 ?_
        refine ig_iln C 0 dX0_define_1 rfl rfl ?_
        refine ig_calli C kX_bad (mX_bad (xl X) S (nI j)) rfl rfl ⟨Nat.le_of_ble_eq_true rfl, Nat.le_of_ble_eq_true rfl⟩ (Nat.le_of_ble_eq_true rfl) dX0_define_2 (fun r S' hp => ?_)
        obtain ⟨rfl, rfl⟩ := hp
        rw [e]
        refine ig_top (nI (0)) rfl ?_
        refine ig_if_ne_F C 16 dX0_define_5 (by decide) (show nI (0) = 0 from by rw [show 0 = 0 by omega]; rfl) ?_
        refine ig_this C dX0_define_8 ?_
        refine ig_iln C 1 dX0_define_9 rfl rfl ?_
        refine ig_calli C kX_badName (mX_badName (xl X) S (nI s)) rfl rfl ⟨Nat.le_of_ble_eq_true rfl, Nat.le_of_ble_eq_true rfl⟩ (Nat.le_of_ble_eq_true rfl) dX0_define_10 (fun r S' hp => ?_)
        obtain ⟨rfl, rfl⟩ := hp
        rw [e2]
        refine ig_top (nI (0)) rfl ?_
        refine ig_if_eq_T C 18 dX0_define_13 (by decide) (show nI (0) = 0 from by rw [show 0 = 0 by omega]; rfl) ?_
        refine ig_iln C 2 dX0_define_18 rfl rfl ?_
        refine ig_if_lt_F C 31 dX0_define_19 (by decide) h ?_
        refine ig_iln C 2 dX0_define_22 rfl rfl ?_
        refine ig_this C dX0_define_23 ?_
        refine ig_iln C 0 dX0_define_24 rfl rfl ?_
        refine ig_calli C kX_words (mX_wordsZ (xl X) S a.1 j hj (h0 j (by omega)) (h0 (j + 1) (by omega))) rfl rfl ⟨Nat.le_of_ble_eq_true rfl, Nat.le_of_ble_eq_true rfl⟩ (Nat.le_of_ble_eq_true rfl) dX0_define_25 (fun r S' hp => ?_)
        obtain ⟨rfl, rfl⟩ := hp
        refine ig_icmp_le_F C 34 dX0_define_28 (by decide) (il_nle (show a.1 j < a.1 j + 1 by omega) (by omega) h6) ?_
        refine ig_bp C dX0_define_31 kb_m4 ?_
        exact ig_ret C (nar_int _) dX0_define_33 ⟨by unfold sp_define; rw [e]; dsimp only; rw [e2]; dsimp only; rw [e3], by unfold sp_define; rw [e]; dsimp only; rw [e2]; dsimp only; rw [e3]; exact hR0⟩
      · have hd := hD j s hj hs
        have hdl := vA_dlt hZ hV hj hs
        have km : ∀ k, k ≠ 4 → (sU S 4 (j * 10 + s) (nI i)) k = S k := fun k hk => sU_k hk
        have I3 : IM (a_df a (d_st a.2.2.2 j s (some i))) (sU S 4 (j * 10 + s) (nI i)) F := IM_congr hI0 (km 0 (by decide)) (fun q _ => by rw [km 1 (by decide)]) (km 3 (by decide)) rfl (fun m w _ _ => ⟨rfl, rfl⟩)
        have D3 : DF (a_df a (d_st a.2.2.2 j s (some i))) (sU S 4 (j * 10 + s) (nI i)) := DF_st (o := some i) hD hj hs
        have V3 : vD (a_df a (d_st a.2.2.2 j s (some i))) := vD_st (i := 0) hV (fun t q => by cases q; omega)
        cases hn : a.2.2.2 j s with
        | none =>
          rw [hn] at hd
          refine ig_this C dX0_define_0 ?_
          refine ig_iln C 0 dX0_define_1 rfl rfl ?_
          refine ig_calli C kX_bad (mX_bad (xl X) S (nI j)) rfl rfl ⟨Nat.le_of_ble_eq_true rfl, Nat.le_of_ble_eq_true rfl⟩ (Nat.le_of_ble_eq_true rfl) dX0_define_2 (fun r S' hp => ?_)
          obtain ⟨rfl, rfl⟩ := hp
          rw [e]
          refine ig_top (nI (0)) rfl ?_
          refine ig_if_ne_F C 16 dX0_define_5 (by decide) (show nI (0) = 0 from by rw [show 0 = 0 by omega]; rfl) ?_
          refine ig_this C dX0_define_8 ?_
          refine ig_iln C 1 dX0_define_9 rfl rfl ?_
          refine ig_calli C kX_badName (mX_badName (xl X) S (nI s)) rfl rfl ⟨Nat.le_of_ble_eq_true rfl, Nat.le_of_ble_eq_true rfl⟩ (Nat.le_of_ble_eq_true rfl) dX0_define_10 (fun r S' hp => ?_)
          obtain ⟨rfl, rfl⟩ := hp
          rw [e2]
          refine ig_top (nI (0)) rfl ?_
          refine ig_if_eq_T C 18 dX0_define_13 (by decide) (show nI (0) = 0 from by rw [show 0 = 0 by omega]; rfl) ?_
          refine ig_iln C 2 dX0_define_18 rfl rfl ?_
          refine ig_if_lt_F C 31 dX0_define_19 (by decide) (nI_pos (show i < 2 ^ 31 by omega)) ?_
          refine ig_iln C 2 dX0_define_22 rfl rfl ?_
          refine ig_this C dX0_define_23 ?_
          refine ig_iln C 0 dX0_define_24 rfl rfl ?_
          refine ig_calli C kX_words (mX_wordsZ (xl X) S a.1 j hj (h0 j (by omega)) (h0 (j + 1) (by omega))) rfl rfl ⟨Nat.le_of_ble_eq_true rfl, Nat.le_of_ble_eq_true rfl⟩ (Nat.le_of_ble_eq_true rfl) dX0_define_25 (fun r S' hp => ?_)
          obtain ⟨rfl, rfl⟩ := hp
          refine ig_icmp_le_T C 34 dX0_define_28 (by decide) (nI_le (show i ≤ a.1 j by omega) (by omega)) ?_
          refine ig_this C dX0_define_34 ?_
          refine ig_get C fX_defined dX0_define_35 ?_
          refine ig_iln C 0 dX0_define_38 rfl rfl ?_
          refine ig_bp C dX0_define_39 kb_10 ?_
          refine ig_imulN C dX0_define_41 ?_
          refine ig_iln C 1 dX0_define_42 rfl rfl ?_
          refine ig_iaddN C dX0_define_43 ?_
          refine ig_ald C 4 rfl (show (j * 10) + s < 60 by omega) (v := (-4)) hd dX0_define_44 ?_
          refine ig_if_lt_T C 52 dX0_define_45 (by decide) (by decide) ?_
          refine ig_ic C dX0_define_52 ki_0 ?_
          refine ig_is C 3 [nI (j), nI (s), nI (i), nI (0)] dX0_define_53 rfl rfl rfl ?_
          refine ig_this C dX0_define_55 ?_
          refine ig_get C fX_defined dX0_define_56 ?_
          refine ig_iln C 0 dX0_define_59 rfl rfl ?_
          refine ig_bp C dX0_define_60 kb_10 ?_
          refine ig_imulN C dX0_define_62 ?_
          refine ig_iln C 1 dX0_define_63 rfl rfl ?_
          refine ig_iaddN C dX0_define_64 ?_
          refine ig_iln C 2 dX0_define_65 rfl rfl ?_
          refine ig_ast C 4 rfl (show (j * 10) + s < 60 by omega) dX0_define_66 ?_
          refine ig_this C dX0_define_67 ?_
          refine ig_callv C kX_refresh (mX_refresh (xl X) (sU S 4 (j * 10 + s) (nI i)) F (a_df a (d_st a.2.2.2 j s (some i))) (cJ_k hJ km) I3.1 V3 I3.2.1 D3) rfl rfl ⟨Nat.le_of_ble_eq_true rfl, Nat.le_of_ble_eq_true rfl⟩ (Nat.le_of_ble_eq_true rfl) dX0_define_68 (fun S' hf => ?_)
          refine ig_il C 3 dX0_define_71 rfl ?_
          exact ig_ret C (nar_int _) dX0_define_73 ⟨by unfold sp_define; rw [e]; dsimp only; rw [e2]; dsimp only; rw [e3]; show nI 0 = if a.2.2.2 j s = none then nI 0 else nI 1; rw [if_pos hn], by unfold sp_define; rw [e]; dsimp only; rw [e2]; dsimp only; rw [e3]; exact RX_fin I3 D3 V3 hf⟩
        | some u =>
          rw [hn] at hd
          have hu := hdl u hn
          refine ig_this C dX0_define_0 ?_
          refine ig_iln C 0 dX0_define_1 rfl rfl ?_
          refine ig_calli C kX_bad (mX_bad (xl X) S (nI j)) rfl rfl ⟨Nat.le_of_ble_eq_true rfl, Nat.le_of_ble_eq_true rfl⟩ (Nat.le_of_ble_eq_true rfl) dX0_define_2 (fun r S' hp => ?_)
          obtain ⟨rfl, rfl⟩ := hp
          rw [e]
          refine ig_top (nI (0)) rfl ?_
          refine ig_if_ne_F C 16 dX0_define_5 (by decide) (show nI (0) = 0 from by rw [show 0 = 0 by omega]; rfl) ?_
          refine ig_this C dX0_define_8 ?_
          refine ig_iln C 1 dX0_define_9 rfl rfl ?_
          refine ig_calli C kX_badName (mX_badName (xl X) S (nI s)) rfl rfl ⟨Nat.le_of_ble_eq_true rfl, Nat.le_of_ble_eq_true rfl⟩ (Nat.le_of_ble_eq_true rfl) dX0_define_10 (fun r S' hp => ?_)
          obtain ⟨rfl, rfl⟩ := hp
          rw [e2]
          refine ig_top (nI (0)) rfl ?_
          refine ig_if_eq_T C 18 dX0_define_13 (by decide) (show nI (0) = 0 from by rw [show 0 = 0 by omega]; rfl) ?_
          refine ig_iln C 2 dX0_define_18 rfl rfl ?_
          refine ig_if_lt_F C 31 dX0_define_19 (by decide) (nI_pos (show i < 2 ^ 31 by omega)) ?_
          refine ig_iln C 2 dX0_define_22 rfl rfl ?_
          refine ig_this C dX0_define_23 ?_
          refine ig_iln C 0 dX0_define_24 rfl rfl ?_
          refine ig_calli C kX_words (mX_wordsZ (xl X) S a.1 j hj (h0 j (by omega)) (h0 (j + 1) (by omega))) rfl rfl ⟨Nat.le_of_ble_eq_true rfl, Nat.le_of_ble_eq_true rfl⟩ (Nat.le_of_ble_eq_true rfl) dX0_define_25 (fun r S' hp => ?_)
          obtain ⟨rfl, rfl⟩ := hp
          refine ig_icmp_le_T C 34 dX0_define_28 (by decide) (nI_le (show i ≤ a.1 j by omega) (by omega)) ?_
          refine ig_this C dX0_define_34 ?_
          refine ig_get C fX_defined dX0_define_35 ?_
          refine ig_iln C 0 dX0_define_38 rfl rfl ?_
          refine ig_bp C dX0_define_39 kb_10 ?_
          refine ig_imulN C dX0_define_41 ?_
          refine ig_iln C 1 dX0_define_42 rfl rfl ?_
          refine ig_iaddN C dX0_define_43 ?_
          refine ig_ald C 4 rfl (show (j * 10) + s < 60 by omega) (v := nI (u)) hd dX0_define_44 ?_
          refine ig_if_lt_F C 52 dX0_define_45 (by decide) (nI_pos (show u < 2 ^ 31 by omega)) ?_
          refine ig_ic C dX0_define_48 ki_1 ?_
          refine ig_goto C 53 dX0_define_49 (by decide) ?_
          refine ig_is C 3 [nI (j), nI (s), nI (i), nI (1)] dX0_define_53 rfl rfl rfl ?_
          refine ig_this C dX0_define_55 ?_
          refine ig_get C fX_defined dX0_define_56 ?_
          refine ig_iln C 0 dX0_define_59 rfl rfl ?_
          refine ig_bp C dX0_define_60 kb_10 ?_
          refine ig_imulN C dX0_define_62 ?_
          refine ig_iln C 1 dX0_define_63 rfl rfl ?_
          refine ig_iaddN C dX0_define_64 ?_
          refine ig_iln C 2 dX0_define_65 rfl rfl ?_
          refine ig_ast C 4 rfl (show (j * 10) + s < 60 by omega) dX0_define_66 ?_
          refine ig_this C dX0_define_67 ?_
          refine ig_callv C kX_refresh (mX_refresh (xl X) (sU S 4 (j * 10 + s) (nI i)) F (a_df a (d_st a.2.2.2 j s (some i))) (cJ_k hJ km) I3.1 V3 I3.2.1 D3) rfl rfl ⟨Nat.le_of_ble_eq_true rfl, Nat.le_of_ble_eq_true rfl⟩ (Nat.le_of_ble_eq_true rfl) dX0_define_68 (fun S' hf => ?_)
          refine ig_il C 3 dX0_define_71 rfl ?_
          exact ig_ret C (nar_int _) dX0_define_73 ⟨by unfold sp_define; rw [e]; dsimp only; rw [e2]; dsimp only; rw [e3]; show nI 1 = if a.2.2.2 j s = none then nI 0 else nI 1; rw [if_neg (by rw [hn]; exact fun q => by cases q)], by unfold sp_define; rw [e]; dsimp only; rw [e2]; dsimp only; rw [e3]; exact RX_fin I3 D3 V3 hf⟩

set_option maxHeartbeats 1000000 in
set_option maxRecDepth 100000 in
theorem mX_undefine (l : Launch) (S : il_S) (a : il_A) (hR : RX a S) (x y : Int32) : ig_Mi GX l yX0_undefine cX0_undefine 4 .int 3 68 [x, y] S (fun r S' => r = (sp_undefine a x y).1 ∧ RX (sp_undefine a x y).2 S') := by
  refine ig_Mi.of GX_ok (by decide) rfl (Nat.le_of_ble_eq_true rfl) (fun X C => ?_)
  rcases il_cases x (n := 6) (by decide) with ⟨h, e⟩ | ⟨h, h6, e⟩ | ⟨j, hj, rfl, e⟩
  · refine ig_this C dX0_undefine_0 ?_
    refine ig_iln C 0 dX0_undefine_1 rfl rfl ?_
    refine ig_calli C kX_bad (mX_bad (xl X) S x) rfl rfl ⟨Nat.le_of_ble_eq_true rfl, Nat.le_of_ble_eq_true rfl⟩ (Nat.le_of_ble_eq_true rfl) dX0_undefine_2 (fun r S' hp => ?_)
    obtain ⟨rfl, rfl⟩ := hp
    rw [e]
    refine ig_top (nI (1)) rfl ?_
    refine ig_if_ne_T C 16 dX0_undefine_5 (by decide) (nI_ne0 (show 0 < 1 by omega) (by omega)) ?_
    refine ig_ic C dX0_undefine_16 ki_m1 ?_
    exact ig_ret C (nar_int _) dX0_undefine_17 ⟨by unfold sp_undefine; rw [e], by unfold sp_undefine; rw [e]; exact hR⟩
  · refine ig_this C dX0_undefine_0 ?_
    refine ig_iln C 0 dX0_undefine_1 rfl rfl ?_
    refine ig_calli C kX_bad (mX_bad (xl X) S x) rfl rfl ⟨Nat.le_of_ble_eq_true rfl, Nat.le_of_ble_eq_true rfl⟩ (Nat.le_of_ble_eq_true rfl) dX0_undefine_2 (fun r S' hp => ?_)
    obtain ⟨rfl, rfl⟩ := hp
    rw [e]
    refine ig_top (nI (1)) rfl ?_
    refine ig_if_ne_T C 16 dX0_undefine_5 (by decide) (nI_ne0 (show 0 < 1 by omega) (by omega)) ?_
    refine ig_ic C dX0_undefine_16 ki_m1 ?_
    exact ig_ret C (nar_int _) dX0_undefine_17 ⟨by unfold sp_undefine; rw [e], by unfold sp_undefine; rw [e]; exact hR⟩
  · have hR0 := hR
    obtain ⟨F, hJ, hI, hD, hV, hk⟩ := hR
    have hI0 := hI
    obtain ⟨hZ, h0, himg, hend⟩ := hI
    have hz8 := hZ.1 j hj
    have hj6 : bg a.1 (j + 1) ≤ bg a.1 6 := bg_mono a.1 (by omega)
    rw [bg_s] at hj6
    have hb48 := bg_le hZ.1 6 (by omega)
    rcases il_cases y (n := 10) (by decide) with ⟨h, e2⟩ | ⟨h, h6, e2⟩ | ⟨s, hs, rfl, e2⟩
    · refine ig_this C dX0_undefine_0 ?_
      refine ig_iln C 0 dX0_undefine_1 rfl rfl ?_
      refine ig_calli C kX_bad (mX_bad (xl X) S (nI j)) rfl rfl ⟨Nat.le_of_ble_eq_true rfl, Nat.le_of_ble_eq_true rfl⟩ (Nat.le_of_ble_eq_true rfl) dX0_undefine_2 (fun r S' hp => ?_)
      obtain ⟨rfl, rfl⟩ := hp
      rw [e]
      refine ig_top (nI (0)) rfl ?_
      refine ig_if_ne_F C 16 dX0_undefine_5 (by decide) (show nI (0) = 0 from by rw [show 0 = 0 by omega]; rfl) ?_
      refine ig_this C dX0_undefine_8 ?_
      refine ig_iln C 1 dX0_undefine_9 rfl rfl ?_
      refine ig_calli C kX_badName (mX_badName (xl X) S y) rfl rfl ⟨Nat.le_of_ble_eq_true rfl, Nat.le_of_ble_eq_true rfl⟩ (Nat.le_of_ble_eq_true rfl) dX0_undefine_10 (fun r S' hp => ?_)
      obtain ⟨rfl, rfl⟩ := hp
      rw [e2]
      refine ig_top (nI (1)) rfl ?_
      refine ig_if_eq_F C 18 dX0_undefine_13 (by decide) (nI_ne0 (show 0 < 1 by omega) (by omega)) ?_
      refine ig_ic C dX0_undefine_16 ki_m1 ?_
      exact ig_ret C (nar_int _) dX0_undefine_17 ⟨by unfold sp_undefine; rw [e]; dsimp only; rw [e2], by unfold sp_undefine; rw [e]; dsimp only; rw [e2]; exact hR0⟩
    · refine ig_this C dX0_undefine_0 ?_
      refine ig_iln C 0 dX0_undefine_1 rfl rfl ?_
      refine ig_calli C kX_bad (mX_bad (xl X) S (nI j)) rfl rfl ⟨Nat.le_of_ble_eq_true rfl, Nat.le_of_ble_eq_true rfl⟩ (Nat.le_of_ble_eq_true rfl) dX0_undefine_2 (fun r S' hp => ?_)
      obtain ⟨rfl, rfl⟩ := hp
      rw [e]
      refine ig_top (nI (0)) rfl ?_
      refine ig_if_ne_F C 16 dX0_undefine_5 (by decide) (show nI (0) = 0 from by rw [show 0 = 0 by omega]; rfl) ?_
      refine ig_this C dX0_undefine_8 ?_
      refine ig_iln C 1 dX0_undefine_9 rfl rfl ?_
      refine ig_calli C kX_badName (mX_badName (xl X) S y) rfl rfl ⟨Nat.le_of_ble_eq_true rfl, Nat.le_of_ble_eq_true rfl⟩ (Nat.le_of_ble_eq_true rfl) dX0_undefine_10 (fun r S' hp => ?_)
      obtain ⟨rfl, rfl⟩ := hp
      rw [e2]
      refine ig_top (nI (1)) rfl ?_
      refine ig_if_eq_F C 18 dX0_undefine_13 (by decide) (nI_ne0 (show 0 < 1 by omega) (by omega)) ?_
      refine ig_ic C dX0_undefine_16 ki_m1 ?_
      exact ig_ret C (nar_int _) dX0_undefine_17 ⟨by unfold sp_undefine; rw [e]; dsimp only; rw [e2], by unfold sp_undefine; rw [e]; dsimp only; rw [e2]; exact hR0⟩
    · have hd := hD j s hj hs
      have hdl := vA_dlt hZ hV hj hs
      cases hn : a.2.2.2 j s with
      | none =>
        rw [hn] at hd
        refine ig_this C dX0_undefine_0 ?_
        refine ig_iln C 0 dX0_undefine_1 rfl rfl ?_
        refine ig_calli C kX_bad (mX_bad (xl X) S (nI j)) rfl rfl ⟨Nat.le_of_ble_eq_true rfl, Nat.le_of_ble_eq_true rfl⟩ (Nat.le_of_ble_eq_true rfl) dX0_undefine_2 (fun r S' hp => ?_)
        obtain ⟨rfl, rfl⟩ := hp
        rw [e]
        refine ig_top (nI (0)) rfl ?_
        refine ig_if_ne_F C 16 dX0_undefine_5 (by decide) (show nI (0) = 0 from by rw [show 0 = 0 by omega]; rfl) ?_
        refine ig_this C dX0_undefine_8 ?_
        refine ig_iln C 1 dX0_undefine_9 rfl rfl ?_
        refine ig_calli C kX_badName (mX_badName (xl X) S (nI s)) rfl rfl ⟨Nat.le_of_ble_eq_true rfl, Nat.le_of_ble_eq_true rfl⟩ (Nat.le_of_ble_eq_true rfl) dX0_undefine_10 (fun r S' hp => ?_)
        obtain ⟨rfl, rfl⟩ := hp
        rw [e2]
        refine ig_top (nI (0)) rfl ?_
        refine ig_if_eq_T C 18 dX0_undefine_13 (by decide) (show nI (0) = 0 from by rw [show 0 = 0 by omega]; rfl) ?_
        refine ig_this C dX0_undefine_18 ?_
        refine ig_get C fX_defined dX0_undefine_19 ?_
        refine ig_iln C 0 dX0_undefine_22 rfl rfl ?_
        refine ig_bp C dX0_undefine_23 kb_10 ?_
        refine ig_imulN C dX0_undefine_25 ?_
        refine ig_iln C 1 dX0_undefine_26 rfl rfl ?_
        refine ig_iaddN C dX0_undefine_27 ?_
        refine ig_ald C 4 rfl (show (j * 10) + s < 60 by omega) (v := (-4)) hd dX0_undefine_28 ?_
        refine ig_isn C 2 [nI (j), nI (s), (-4)] dX0_undefine_29 rfl rfl rfl rfl ?_
        refine ig_iln C 2 dX0_undefine_30 rfl rfl ?_
        refine ig_if_ge_F C 37 dX0_undefine_31 (by decide) (by decide) ?_
        refine ig_bp C dX0_undefine_34 kb_m4 ?_
        exact ig_ret C (nar_int _) dX0_undefine_36 ⟨by unfold sp_undefine; rw [e]; dsimp only; rw [e2]; show (-4 : Int32) = oI (a.2.2.2 j s); rw [hn]; rfl, by unfold sp_undefine; rw [e]; dsimp only; rw [e2]; show RX (a_df a (d_st a.2.2.2 j s none)) S; rw [d_st_id hn]; exact hR0⟩
      | some u =>
        rw [hn] at hd
        have hu := hdl u hn
        have km : ∀ k, k ≠ 4 → (sU S 4 (j * 10 + s) (-4)) k = S k := fun k hk => sU_k hk
        have I3 : IM (a_df a (d_st a.2.2.2 j s none)) (sU S 4 (j * 10 + s) (-4)) F := IM_congr hI0 (km 0 (by decide)) (fun q _ => by rw [km 1 (by decide)]) (km 3 (by decide)) rfl (fun m w _ _ => ⟨rfl, rfl⟩)
        have D3 : DF (a_df a (d_st a.2.2.2 j s none)) (sU S 4 (j * 10 + s) (-4)) := DF_st (o := none) hD hj hs
        have V3 : vD (a_df a (d_st a.2.2.2 j s none)) := vD_st (i := 0) hV (fun t q => by cases q)
        refine ig_this C dX0_undefine_0 ?_
        refine ig_iln C 0 dX0_undefine_1 rfl rfl ?_
        refine ig_calli C kX_bad (mX_bad (xl X) S (nI j)) rfl rfl ⟨Nat.le_of_ble_eq_true rfl, Nat.le_of_ble_eq_true rfl⟩ (Nat.le_of_ble_eq_true rfl) dX0_undefine_2 (fun r S' hp => ?_)
        obtain ⟨rfl, rfl⟩ := hp
        rw [e]
        refine ig_top (nI (0)) rfl ?_
        refine ig_if_ne_F C 16 dX0_undefine_5 (by decide) (show nI (0) = 0 from by rw [show 0 = 0 by omega]; rfl) ?_
        refine ig_this C dX0_undefine_8 ?_
        refine ig_iln C 1 dX0_undefine_9 rfl rfl ?_
        refine ig_calli C kX_badName (mX_badName (xl X) S (nI s)) rfl rfl ⟨Nat.le_of_ble_eq_true rfl, Nat.le_of_ble_eq_true rfl⟩ (Nat.le_of_ble_eq_true rfl) dX0_undefine_10 (fun r S' hp => ?_)
        obtain ⟨rfl, rfl⟩ := hp
        rw [e2]
        refine ig_top (nI (0)) rfl ?_
        refine ig_if_eq_T C 18 dX0_undefine_13 (by decide) (show nI (0) = 0 from by rw [show 0 = 0 by omega]; rfl) ?_
        refine ig_this C dX0_undefine_18 ?_
        refine ig_get C fX_defined dX0_undefine_19 ?_
        refine ig_iln C 0 dX0_undefine_22 rfl rfl ?_
        refine ig_bp C dX0_undefine_23 kb_10 ?_
        refine ig_imulN C dX0_undefine_25 ?_
        refine ig_iln C 1 dX0_undefine_26 rfl rfl ?_
        refine ig_iaddN C dX0_undefine_27 ?_
        refine ig_ald C 4 rfl (show (j * 10) + s < 60 by omega) (v := nI (u)) hd dX0_undefine_28 ?_
        refine ig_isn C 2 [nI (j), nI (s), nI (u)] dX0_undefine_29 rfl rfl rfl rfl ?_
        refine ig_iln C 2 dX0_undefine_30 rfl rfl ?_
        refine ig_if_ge_T C 37 dX0_undefine_31 (by decide) (nI_pos' (show u < 2 ^ 31 by omega)) ?_
        refine ig_this C dX0_undefine_37 ?_
        refine ig_get C fX_defined dX0_undefine_38 ?_
        refine ig_iln C 0 dX0_undefine_41 rfl rfl ?_
        refine ig_bp C dX0_undefine_42 kb_10 ?_
        refine ig_imulN C dX0_undefine_44 ?_
        refine ig_iln C 1 dX0_undefine_45 rfl rfl ?_
        refine ig_iaddN C dX0_undefine_46 ?_
        refine ig_bp C dX0_undefine_47 kb_m4 ?_
        refine ig_ast C 4 rfl (show (j * 10) + s < 60 by omega) dX0_undefine_49 ?_
        refine ig_this C dX0_undefine_50 ?_
        refine ig_callv C kX_refresh (mX_refresh (xl X) (sU S 4 (j * 10 + s) (-4)) F (a_df a (d_st a.2.2.2 j s none)) (cJ_k hJ km) I3.1 V3 I3.2.1 D3) rfl rfl ⟨Nat.le_of_ble_eq_true rfl, Nat.le_of_ble_eq_true rfl⟩ (Nat.le_of_ble_eq_true rfl) dX0_undefine_51 (fun S' hf => ?_)
        refine ig_iln C 2 dX0_undefine_54 rfl rfl ?_
        exact ig_ret C (nar_int _) dX0_undefine_55 ⟨by unfold sp_undefine; rw [e]; dsimp only; rw [e2]; show nI u = oI (a.2.2.2 j s); rw [hn]; rfl, by unfold sp_undefine; rw [e]; dsimp only; rw [e2]; exact RX_fin I3 D3 V3 hf⟩
end
section
/-! PURE: what the linker's answers come to -/
theorem cn_add (P : Nat → Bool) (n : Nat) : ∀ k, (∀ t, n ≤ t → t < n + k → P t = false) → cn P (n + k) = cn P n := by
  intro k
  induction k with
  | zero => intro _; rfl
  | succ k ih =>
    intro h
    show cn P (n + k + 1) = cn P n
    rw [cn_f (h (n + k) (by omega) (by omega))]
    exact ih (fun t h1 h2 => h t h1 (by omega))
theorem cn_shift (P Q : Nat → Bool) (n m : Nat) (hnm : cn P n = cn Q m) : ∀ k, (∀ t, t < k → P (n + t) = Q (m + t)) → cn P (n + k) = cn Q (m + k) := by
  intro k
  induction k with
  | zero => intro _; exact hnm
  | succ k ih =>
    intro h
    show cn P (n + k) + (if P (n + k) = true then 1 else 0) = cn Q (m + k) + (if Q (m + k) = true then 1 else 0)
    rw [ih (fun t ht => h t (by omega)), h k (by omega)]
theorem flat_cn {a : il_A} {S : il_S} {F : Nat → Option Nat} (hI : IM a S F) {f : Option Nat → Bool} (hf : f none = false) : cn (fun q => f (F q)) 48 = cn (iw a f) 48 := by
  obtain ⟨hZ, -, himg, hend⟩ := hI
  have step : ∀ m, m ≤ 6 → cn (fun q => f (F q)) (bg a.1 m) = cn (iw a f) (8 * m) := by
    intro m
    induction m with
    | zero => intro _; rfl
    | succ m ih =>
      intro hm
      have hz := hZ.1 m (by omega)
      have h1 := cn_shift (fun q => f (F q)) (iw a f) (bg a.1 m) (8 * m) (ih (by omega)) (a.1 m) (fun t ht => by
        have e1 : (8 * m + t) / 8 = m := by omega
        have e2 : (8 * m + t) % 8 = t := by omega
        show f (F (bg a.1 m + t)) = iw a f (8 * m + t)
        rw [iw_at (by rw [e1, e2]; exact ht), e1, e2, (himg m t (by omega) ht).1])
      rw [bg_s, h1, show 8 * (m + 1) = 8 * m + a.1 m + (8 - a.1 m) by omega]
      refine (cn_add (iw a f) (8 * m + a.1 m) (8 - a.1 m) (fun t h2 h3 => ?_)).symm
      have e1 : t / 8 = m := by omega
      exact iw_out (by rw [e1]; omega)
  have hb := bg_le hZ.1 6 (by omega)
  rw [show (48 : Nat) = 8 * 6 by decide, ← step 6 (by omega), show 8 * 6 = bg a.1 6 + (48 - bg a.1 6) by omega]
  refine cn_add _ (bg a.1 6) (48 - bg a.1 6) (fun t h1 h2 => ?_)
  show f (F t) = false
  rw [hend t h1]
  exact hf
theorem len_use {F : Nat → Option Nat} {L : List Nat} {s : Nat} (hn : L.Nodup) (hlt : ∀ x ∈ L, x < 48) (hm : ∀ p, p ∈ L ↔ F p = some s) : L.length = cn (fun q => f_use s (F q)) 48 := by
  rw [len_cn 48 L hn hlt]
  refine cn_congr 48 (fun q _ => ?_)
  show decide (q ∈ L) = decide (F q = some s)
  simp [hm q]
theorem cn_or {P Q R : Nat → Bool} : ∀ n, (∀ q, q < n → R q = (P q || Q q) ∧ (P q && Q q) = false) → cn R n = cn P n + cn Q n := by
  intro n
  induction n with
  | zero => intro _; rfl
  | succ n ih =>
    intro h
    have h1 := ih (fun q hq => h q (by omega))
    have h2 := h n (by omega)
    show cn R n + (if R n = true then 1 else 0) = cn P n + (if P n = true then 1 else 0) + (cn Q n + (if Q n = true then 1 else 0))
    rw [h1, h2.1]
    cases hp : P n <;> cases hq : Q n <;> simp [hp, hq] at h2 ⊢ <;> omega
def gU (a : il_A) (s : Nat) (o : Option Nat) : Bool := match o with
  | none => false
  | some t => decide (t < s) && (mf a.2.2.2 t).isNone
theorem gU_0 {a : il_A} {F : Nat → Option Nat} : ∀ n, cn (fun q => gU a 0 (F q)) n = 0 := by
  intro n
  induction n with
  | zero => rfl
  | succ n ih =>
    rw [cn_f, ih]
    cases h : F n with
    | none => simp [gU, h]
    | some t => simp [gU, h]
theorem gU_y {a : il_A} {F : Nat → Option Nat} {s : Nat} (h : mf a.2.2.2 s = none) : cn (fun q => gU a (s + 1) (F q)) 48 = cn (fun q => gU a s (F q)) 48 + cn (fun q => f_use s (F q)) 48 := by
  refine cn_or 48 (fun q _ => ?_)
  cases hq : F q with
  | none => simp [gU, f_use, hq]
  | some t =>
    by_cases e : t = s
    · subst e; simp [gU, f_use, h]
    · have h1 : (t < s + 1) ↔ (t < s) := by omega
      simp [gU, f_use, e, h1]
theorem gU_n {a : il_A} {F : Nat → Option Nat} {s m : Nat} (h : mf a.2.2.2 s = some m) : cn (fun q => gU a (s + 1) (F q)) 48 = cn (fun q => gU a s (F q)) 48 := by
  refine cn_congr 48 (fun q _ => ?_)
  cases hq : F q with
  | none => simp [gU]
  | some t =>
    by_cases e : t = s
    · subst e; simp [gU, h]
    · have h1 : (t < s + 1) ↔ (t < s) := by omega
      simp [gU, h1]
theorem gU_10 {a : il_A} {F : Nat → Option Nat} (hF : ∀ q s, F q = some s → q < 48 ∧ s < 10) : cn (fun q => gU a 10 (F q)) 48 = cn (fun q => f_und a (F q)) 48 := by
  refine cn_congr 48 (fun q _ => ?_)
  cases hq : F q with
  | none => rfl
  | some t =>
    have := (hF q t hq).2
    simp [gU, f_und, this]
/-- the value of every place is right -/
theorem RX_val {a : il_A} {S : il_S} {F : Nat → Option Nat} (hJ : cJ S F []) (hI : IM a S F) (hk : ∀ s, s < 10 → S 5 s = oI (wh a s) ∧ S 6 s = oI (mf a.2.2.2 s)) {p : Nat} (hp : p < bg a.1 6) : S 1 p = vl a p := by
  obtain ⟨m, w, hm, hw, rfl⟩ := bg_find 6 hp
  have h := hI.2.2.1 m w hm hw
  rw [vl_at hm hw]
  cases hn : a.2.1 m w with
  | none => rw [wv_none hn]; exact h.2.1 hn
  | some s =>
    rw [wv_some hn]
    have h1 : F (bg a.1 m + w) = some s := by rw [h.1, hn]
    have hs := (hJ.2.1 _ s h1).2
    rw [hJ.2.2.2 _ s (fun z => by cases z) h1, (hk s hs).1, h.2.2 (by rw [hn]; exact fun q => by cases q)]
theorem sm_out {a : il_A} : ∀ k, sm (vl a) (bg a.1 6 + k) = sm (vl a) (bg a.1 6) := by
  intro k
  induction k with
  | zero => rfl
  | succ k ih =>
    show sm (vl a) (bg a.1 6 + k) + nI (bg a.1 6 + k + 1) * vl a (bg a.1 6 + k) = _
    rw [ih, vl_out (by omega), Int32.mul_zero, Int32.add_zero]
theorem sm_48 {a : il_A} (hZ : vZ a) : sm (vl a) 48 = sm (vl a) (bg a.1 6) := by
  have hb := bg_le hZ.1 6 (by omega)
  have := sm_out (a := a) (48 - bg a.1 6)
  rw [show bg a.1 6 + (48 - bg a.1 6) = 48 by omega] at this
  exact this
/-- idle: by names, or by places of the table -/
def h_idl (a : il_A) (m s : Nat) : Bool := (a.2.2.2 m s).isSome && decide (¬ mf a.2.2.2 s = some m)
def isN (h : Nat → Nat → Bool) : Nat → Nat
  | 0 => 0
  | s + 1 => isN h s + cn (fun m => h m s) 6
def sn (g : Nat → Nat) : Nat → Nat
  | 0 => 0
  | n + 1 => sn g n + g n
theorem cn_sn (P : Nat → Bool) : ∀ n, cn P n = sn (fun i => if P i = true then 1 else 0) n := by
  intro n
  induction n with
  | zero => rfl
  | succ n ih =>
    show cn P n + (if P n = true then 1 else 0) = sn (fun i => if P i = true then 1 else 0) n + (if P n = true then 1 else 0)
    rw [ih]
def sn2 (g : Nat → Nat → Nat) : Nat → Nat
  | 0 => 0
  | s + 1 => sn2 g s + sn (fun m => g m s) 6
theorem isN_sn (h : Nat → Nat → Bool) : ∀ n, isN h n = sn2 (fun m s => if h m s = true then 1 else 0) n := by
  intro n
  induction n with
  | zero => rfl
  | succ n ih =>
    show isN h n + cn (fun m => h m n) 6 = sn2 _ n + sn _ 6
    rw [ih, cn_sn]
theorem sn_swap (g : Nat → Nat → Nat) : sn (fun i => g (i / 10) (i % 10)) 60 = sn2 g 10 := by
  simp only [sn, sn2]
  simp only [Nat.reduceDiv, Nat.reduceMod]
  omega
theorem idl_eq (a : il_A) : isN (h_idl a) 10 = cn (f_idl a) 60 := by
  rw [isN_sn, cn_sn]
  exact (sn_swap (fun m s => if h_idl a m s = true then 1 else 0)).symm
/-! bits (the first rows out of kit/laws/BITS.to-paste) -/
def bt (x : Int32) (i : Nat) : Bool := x.toBitVec.getLsbD i
theorem b_ext {x y : Int32} (h : ∀ i, i < 32 → bt x i = bt y i) : x = y := Int32.toBitVec_inj.mp (BitVec.eq_of_getLsbD_eq (fun i hi => h i hi))
theorem b_or (x y : Int32) (i : Nat) : bt (x ||| y) i = (bt x i || bt y i) := by unfold bt; rw [Int32.toBitVec_or, BitVec.getLsbD_or]
theorem b_one : ∀ m, m < 6 → ∀ i, i < 32 → bt (nI 1 <<< (nI m &&& 31)) i = decide (i = m) := by decide +kernel
theorem b_zero : ∀ i, i < 32 → bt (nI 0) i = false := by decide +kernel
def bS (x : Int32) (P : Nat → Prop) : Prop := ∀ i, i < 32 → (bt x i = true ↔ P i)
theorem bS_0 {P : Nat → Prop} (h : ∀ i, ¬ P i) : bS (nI 0) P := fun i hi => by
  rw [b_zero i hi]
  exact ⟨fun z => (by cases z), fun z => absurd z (h i)⟩
theorem bS_or {x : Int32} {P : Nat → Prop} {m : Nat} (h : bS x P) (hm : m < 6) : bS (x ||| (nI 1 <<< (nI m &&& 31))) (fun i => P i ∨ i = m) := fun i hi => by
  rw [b_or, b_one m hm i hi, Bool.or_eq_true, h i hi]
  simp
theorem bS_eq {x y : Int32} {P Q : Nat → Prop} (hx : bS x P) (hy : bS y Q) (h : ∀ i, P i ↔ Q i) : x = y := b_ext (fun i hi => by
  have h1 := hx i hi
  have h2 := hy i hi
  have h3 := h i
  cases e1 : bt x i <;> cases e2 : bt y i <;> simp [e1, e2] at h1 h2 ⊢
  · exact h1 (h3.mpr h2)
  · exact h2 (h3.mp h1))
theorem bS_imp {x : Int32} {P Q : Nat → Prop} (hx : bS x P) (h : ∀ i, P i ↔ Q i) : bS x Q := fun i hi => (hx i hi).trans (h i)
theorem bS_ou (P : Nat → Bool) : ∀ n, n ≤ 48 → bS (ou P n) (fun i => ∃ k, k < n ∧ P k = true ∧ i = k / 8) := by
  intro n
  induction n with
  | zero => intro _; exact bS_0 (fun i ⟨k, h, _⟩ => absurd h (Nat.not_lt_zero k))
  | succ n ih =>
    intro hn
    have h := ih (by omega)
    by_cases hp : P n = true
    · rw [ou_t hp]
      refine bS_imp (bS_or h (show n / 8 < 6 by omega)) (fun i => ⟨fun z => ?_, fun z => ?_⟩)
      · rcases z with ⟨k, h1, h2⟩ | h1
        · exact ⟨k, by omega, h2⟩
        · exact ⟨n, by omega, hp, h1⟩
      · obtain ⟨k, h1, h2, h3⟩ := z
        by_cases e : k = n
        · subst e; exact Or.inr h3
        · exact Or.inl ⟨k, by omega, h2, h3⟩
    · rw [ou_f (by simpa using hp)]
      refine bS_imp h (fun i => ⟨fun ⟨k, h1, h2⟩ => ⟨k, by omega, h2⟩, fun ⟨k, h1, h2, h3⟩ => ⟨k, ?_, h2, h3⟩⟩)
      have e : k ≠ n := fun e => hp (e ▸ h2)
      omega
theorem users_eq {a : il_A} {S : il_S} {F : Nat → Option Nat} {j : Nat} {x : Int32} (hJ : cJ S F []) (hI : IM a S F) (hx : bS x (fun i => ∃ t, t < 10 ∧ mf a.2.2.2 t = some j ∧ ∃ p, F p = some t ∧ mo a.1 p = some i)) : x = ou (iw a (f_usr a j)) 48 := by
  refine bS_eq hx (bS_ou _ 48 (Nat.le_refl 48)) (fun i => ⟨fun z => ?_, fun z => ?_⟩)
  · obtain ⟨t, ht, hmf, p, hp, hmo⟩ := z
    have hp6 : p < bg a.1 6 := by
      rcases Nat.lt_or_ge p (bg a.1 6) with h | h
      · exact h
      · rw [hI.2.2.2 p h] at hp; cases hp
    obtain ⟨m, w, hm, hw, rfl⟩ := bg_find 6 hp6
    have hz := hI.1.1 m hm
    rw [mo_at hm hw] at hmo
    have him : m = i := Option.some.inj hmo
    subst him
    have e1 : (8 * m + w) / 8 = m := by omega
    have e2 : (8 * m + w) % 8 = w := by omega
    refine ⟨8 * m + w, by omega, ?_, e1.symm⟩
    rw [iw_at (by rw [e1, e2]; exact hw), e1, e2, ← (hI.2.2.1 m w hm hw).1, hp]
    exact decide_eq_true hmf
  · obtain ⟨k, hk, hP, rfl⟩ := z
    by_cases hin : k % 8 < a.1 (k / 8)
    · rw [iw_at hin] at hP
      cases hn : a.2.1 (k / 8) (k % 8) with
      | none => rw [hn] at hP; cases hP
      | some t =>
        rw [hn] at hP
        have hF : F (bg a.1 (k / 8) + k % 8) = some t := by rw [(hI.2.2.1 (k / 8) (k % 8) (by omega) hin).1, hn]
        exact ⟨t, (hJ.2.1 _ t hF).2, of_decide_eq_true hP, _, hF, mo_at (by omega) hin⟩
    · rw [iw_out hin] at hP; cases hP
end
section
/-! THE LINKER, questions -/
set_option maxHeartbeats 1000000 in
set_option maxRecDepth 100000 in
theorem mX_size (l : Launch) (S : il_S) (a : il_A) (hR : RX a S) : ig_Mi GX l yX0_size cX0_size 1 .int 0 0 [] S (fun r S' => r = nI (bg a.1 6) ∧ S = S') := by
  refine ig_Mi.of GX_ok (by decide) rfl (Nat.le_of_ble_eq_true rfl) (fun X C => ?_)
  have hR0 := hR
  obtain ⟨F, hJ, hI, hD, hV, hk⟩ := hR
  have hI0 := hI
  obtain ⟨hZ, h0, himg, hend⟩ := hI
  have hb48 := bg_le hZ.1 6 (by omega)
  refine ig_this C dX0_size_0 ?_
  refine ig_get C fX_start dX0_size_1 ?_
  refine ig_bp C dX0_size_4 kb_6 ?_
  refine ig_ald C 0 rfl (show 6 < 7 by omega) (v := nI (bg a.1 6)) (h0 6 (by omega)) dX0_size_6 ?_
  exact ig_ret C (nar_int _) dX0_size_7 ⟨rfl, rfl⟩

set_option maxHeartbeats 1000000 in
set_option maxRecDepth 100000 in
theorem mX_value (l : Launch) (S : il_S) (a : il_A) (hR : RX a S) (x : Int32) : ig_Mi GX l yX0_value cX0_value 2 .int 0 0 [x] S (fun r S' => r = q_value a x ∧ S = S') := by
  refine ig_Mi.of GX_ok (by decide) rfl (Nat.le_of_ble_eq_true rfl) (fun X C => ?_)
  have hR0 := hR
  obtain ⟨F, hJ, hI, hD, hV, hk⟩ := hR
  have hI0 := hI
  obtain ⟨hZ, h0, himg, hend⟩ := hI
  have hb48 := bg_le hZ.1 6 (by omega)
  rcases il_cases x (n := bg a.1 6) (by omega) with ⟨h, e⟩ | ⟨h, h6, e⟩ | ⟨p, hp, rfl, e⟩
  · refine ig_iln C 0 dX0_value_0 rfl rfl ?_
    refine ig_if_lt_T C 15 dX0_value_1 (by decide) h ?_
    refine ig_ic C dX0_value_15 ki_0 ?_
    refine ig_goto C 25 dX0_value_16 (by decide) ?_
    exact ig_ret C (nar_int _) dX0_value_25 ⟨by unfold q_value; rw [e], rfl⟩
  · refine ig_iln C 0 dX0_value_0 rfl rfl ?_
    refine ig_if_lt_F C 15 dX0_value_1 (by decide) h ?_
    refine ig_iln C 0 dX0_value_4 rfl rfl ?_
    refine ig_this C dX0_value_5 ?_
    refine ig_get C fX_start dX0_value_6 ?_
    refine ig_bp C dX0_value_9 kb_6 ?_
    refine ig_ald C 0 rfl (show 6 < 7 by omega) (v := nI (bg a.1 6)) (h0 6 (by omega)) dX0_value_11 ?_
    refine ig_icmp_lt_F C 19 dX0_value_12 (by decide) (il_nlt (Nat.le_refl _) (by omega) h6) ?_
    refine ig_ic C dX0_value_15 ki_0 ?_
    refine ig_goto C 25 dX0_value_16 (by decide) ?_
    exact ig_ret C (nar_int _) dX0_value_25 ⟨by unfold q_value; rw [e], rfl⟩
  · refine ig_iln C 0 dX0_value_0 rfl rfl ?_
    refine ig_if_lt_F C 15 dX0_value_1 (by decide) (nI_pos (show p < 2 ^ 31 by omega)) ?_
    refine ig_iln C 0 dX0_value_4 rfl rfl ?_
    refine ig_this C dX0_value_5 ?_
    refine ig_get C fX_start dX0_value_6 ?_
    refine ig_bp C dX0_value_9 kb_6 ?_
    refine ig_ald C 0 rfl (show 6 < 7 by omega) (v := nI (bg a.1 6)) (h0 6 (by omega)) dX0_value_11 ?_
    refine ig_icmp_lt_T C 19 dX0_value_12 (by decide) (nI_lt (show p < bg a.1 6 by omega) (by omega)) ?_
    refine ig_this C dX0_value_19 ?_
    refine ig_get C fX_value dX0_value_20 ?_
    refine ig_iln C 0 dX0_value_23 rfl rfl ?_
    refine ig_ald C 1 rfl (show p < 48 by omega) (v := (vl a p)) (RX_val hJ hI0 hk hp) dX0_value_24 ?_
    exact ig_ret C (nar_int _) dX0_value_25 ⟨by unfold q_value; rw [e], rfl⟩

set_option maxHeartbeats 1000000 in
set_option maxRecDepth 100000 in
theorem mX_address (l : Launch) (S : il_S) (a : il_A) (hR : RX a S) (x : Int32) : ig_Mi GX l yX0_address cX0_address 2 .int 1 21 [x] S (fun r S' => r = q_address a x ∧ S = S') := by
  refine ig_Mi.of GX_ok (by decide) rfl (Nat.le_of_ble_eq_true rfl) (fun X C => ?_)
  have hR0 := hR
  obtain ⟨F, hJ, hI, hD, hV, hk⟩ := hR
  have hI0 := hI
  obtain ⟨hZ, h0, himg, hend⟩ := hI
  have hb48 := bg_le hZ.1 6 (by omega)
  rcases il_cases x (n := 6) (by decide) with ⟨h, e⟩ | ⟨h, h6, e⟩ | ⟨j, hj, rfl, e⟩
  · refine ig_this C dX0_address_0 ?_
    refine ig_iln C 0 dX0_address_1 rfl rfl ?_
    refine ig_calli C kX_bad (mX_bad (xl X) S x) rfl rfl ⟨Nat.le_of_ble_eq_true rfl, Nat.le_of_ble_eq_true rfl⟩ (Nat.le_of_ble_eq_true rfl) dX0_address_2 (fun r S' hp => ?_)
    obtain ⟨rfl, rfl⟩ := hp
    rw [e]
    refine ig_top (nI (1)) rfl ?_
    refine ig_if_eq_F C 12 dX0_address_5 (by decide) (nI_ne0 (show 0 < 1 by omega) (by omega)) ?_
    refine ig_ic C dX0_address_8 ki_m1 ?_
    refine ig_goto C 18 dX0_address_9 (by decide) ?_
    exact ig_ret C (nar_int _) dX0_address_18 ⟨by unfold q_address; rw [e], rfl⟩
  · refine ig_this C dX0_address_0 ?_
    refine ig_iln C 0 dX0_address_1 rfl rfl ?_
    refine ig_calli C kX_bad (mX_bad (xl X) S x) rfl rfl ⟨Nat.le_of_ble_eq_true rfl, Nat.le_of_ble_eq_true rfl⟩ (Nat.le_of_ble_eq_true rfl) dX0_address_2 (fun r S' hp => ?_)
    obtain ⟨rfl, rfl⟩ := hp
    rw [e]
    refine ig_top (nI (1)) rfl ?_
    refine ig_if_eq_F C 12 dX0_address_5 (by decide) (nI_ne0 (show 0 < 1 by omega) (by omega)) ?_
    refine ig_ic C dX0_address_8 ki_m1 ?_
    refine ig_goto C 18 dX0_address_9 (by decide) ?_
    exact ig_ret C (nar_int _) dX0_address_18 ⟨by unfold q_address; rw [e], rfl⟩
  · refine ig_this C dX0_address_0 ?_
    refine ig_iln C 0 dX0_address_1 rfl rfl ?_
    refine ig_calli C kX_bad (mX_bad (xl X) S (nI j)) rfl rfl ⟨Nat.le_of_ble_eq_true rfl, Nat.le_of_ble_eq_true rfl⟩ (Nat.le_of_ble_eq_true rfl) dX0_address_2 (fun r S' hp => ?_)
    obtain ⟨rfl, rfl⟩ := hp
    rw [e]
    refine ig_top (nI (0)) rfl ?_
    refine ig_if_eq_T C 12 dX0_address_5 (by decide) (show nI (0) = 0 from by rw [show 0 = 0 by omega]; rfl) ?_
    refine ig_this C dX0_address_12 ?_
    refine ig_get C fX_start dX0_address_13 ?_
    refine ig_iln C 0 dX0_address_16 rfl rfl ?_
    refine ig_ald C 0 rfl (show j < 7 by omega) (v := nI (bg a.1 j)) (h0 j (by omega)) dX0_address_17 ?_
    exact ig_ret C (nar_int _) dX0_address_18 ⟨by unfold q_address; rw [e], rfl⟩

set_option maxHeartbeats 1000000 in
set_option maxRecDepth 100000 in
theorem mX_where (l : Launch) (S : il_S) (a : il_A) (hR : RX a S) (x : Int32) : ig_Mi GX l yX0_where cX0_where 2 .int 1 21 [x] S (fun r S' => r = q_where a x ∧ S = S') := by
  refine ig_Mi.of GX_ok (by decide) rfl (Nat.le_of_ble_eq_true rfl) (fun X C => ?_)
  have hR0 := hR
  obtain ⟨F, hJ, hI, hD, hV, hk⟩ := hR
  have hI0 := hI
  obtain ⟨hZ, h0, himg, hend⟩ := hI
  have hb48 := bg_le hZ.1 6 (by omega)
  rcases il_cases x (n := 10) (by decide) with ⟨h, e⟩ | ⟨h, h6, e⟩ | ⟨s, hs, rfl, e⟩
  · refine ig_this C dX0_where_0 ?_
    refine ig_iln C 0 dX0_where_1 rfl rfl ?_
    refine ig_calli C kX_badName (mX_badName (xl X) S x) rfl rfl ⟨Nat.le_of_ble_eq_true rfl, Nat.le_of_ble_eq_true rfl⟩ (Nat.le_of_ble_eq_true rfl) dX0_where_2 (fun r S' hp => ?_)
    obtain ⟨rfl, rfl⟩ := hp
    rw [e]
    refine ig_top (nI (1)) rfl ?_
    refine ig_if_eq_F C 13 dX0_where_5 (by decide) (nI_ne0 (show 0 < 1 by omega) (by omega)) ?_
    refine ig_bp C dX0_where_8 kb_m4 ?_
    refine ig_goto C 19 dX0_where_10 (by decide) ?_
    exact ig_ret C (nar_int _) dX0_where_19 ⟨by unfold q_where; rw [e], rfl⟩
  · refine ig_this C dX0_where_0 ?_
    refine ig_iln C 0 dX0_where_1 rfl rfl ?_
    refine ig_calli C kX_badName (mX_badName (xl X) S x) rfl rfl ⟨Nat.le_of_ble_eq_true rfl, Nat.le_of_ble_eq_true rfl⟩ (Nat.le_of_ble_eq_true rfl) dX0_where_2 (fun r S' hp => ?_)
    obtain ⟨rfl, rfl⟩ := hp
    rw [e]
    refine ig_top (nI (1)) rfl ?_
    refine ig_if_eq_F C 13 dX0_where_5 (by decide) (nI_ne0 (show 0 < 1 by omega) (by omega)) ?_
    refine ig_bp C dX0_where_8 kb_m4 ?_
    refine ig_goto C 19 dX0_where_10 (by decide) ?_
    exact ig_ret C (nar_int _) dX0_where_19 ⟨by unfold q_where; rw [e], rfl⟩
  · refine ig_this C dX0_where_0 ?_
    refine ig_iln C 0 dX0_where_1 rfl rfl ?_
    refine ig_calli C kX_badName (mX_badName (xl X) S (nI s)) rfl rfl ⟨Nat.le_of_ble_eq_true rfl, Nat.le_of_ble_eq_true rfl⟩ (Nat.le_of_ble_eq_true rfl) dX0_where_2 (fun r S' hp => ?_)
    obtain ⟨rfl, rfl⟩ := hp
    rw [e]
    refine ig_top (nI (0)) rfl ?_
    refine ig_if_eq_T C 13 dX0_where_5 (by decide) (show nI (0) = 0 from by rw [show 0 = 0 by omega]; rfl) ?_
    refine ig_this C dX0_where_13 ?_
    refine ig_get C fX_known dX0_where_14 ?_
    refine ig_iln C 0 dX0_where_17 rfl rfl ?_
    refine ig_ald C 5 rfl (show s < 10 by omega) (v := oI (wh a s)) (hk s hs).1 dX0_where_18 ?_
    exact ig_ret C (nar_int _) dX0_where_19 ⟨by unfold q_where; rw [e], rfl⟩

set_option maxHeartbeats 1000000 in
set_option maxRecDepth 100000 in
theorem mX_chain_loop {X : il_X} (C : ig_C GX cX0_chainLength 5 ({ frames := 0, cells := 0, slots := 0, locals := 0 }) (some .int) X) {S : il_S} {s N : Nat} :
    ∀ (L : List Nat) (b v : Int32) (c k : Nat), sg (S 8) (S 9) b v L → k + L.length ≤ 48 → c + L.length = N → ig_W GX 5 X (ig_Qi GX X (fun r S' => r = nI N ∧ S = S')) S 12 [nI s, nI c, v, nI k] [] := by
  intro L
  induction L with
  | nil =>
    intro b v c k hg hk hN
    have hv : v = -4 := hg
    subst hv
    have hN : c = N := hN
    subst hN
    by_cases h48 : k < 48
    · refine ig_il C 3 dX0_chainLength_12 rfl ?_
      refine ig_bp C dX0_chainLength_14 kb_48 ?_
      refine ig_icmp_ge_F C 39 dX0_chainLength_16 (by decide) (nI_ge (show k < 48 by omega) (by omega)) ?_
      refine ig_iln C 2 dX0_chainLength_19 rfl rfl ?_
      refine ig_if_lt_T C 39 dX0_chainLength_20 (by decide) (by decide) ?_
      refine ig_iln C 1 dX0_chainLength_39 rfl rfl ?_
      exact ig_ret C (nar_int _) dX0_chainLength_40 ⟨rfl, rfl⟩
    · refine ig_il C 3 dX0_chainLength_12 rfl ?_
      refine ig_bp C dX0_chainLength_14 kb_48 ?_
      refine ig_icmp_ge_T C 39 dX0_chainLength_16 (by decide) (nI_le (show 48 ≤ k by omega) (by omega)) ?_
      refine ig_iln C 1 dX0_chainLength_39 rfl rfl ?_
      exact ig_ret C (nar_int _) dX0_chainLength_40 ⟨rfl, rfl⟩
  | cons x L ih =>
    intro b v c k hg hk hN
    obtain ⟨rfl, hx, hbx, hg2⟩ := hg
    have hk : k + (L.length + 1) ≤ 48 := hk
    have hN : c + (L.length + 1) = N := hN
    refine ig_il C 3 dX0_chainLength_12 rfl ?_
    refine ig_bp C dX0_chainLength_14 kb_48 ?_
    refine ig_icmp_ge_F C 39 dX0_chainLength_16 (by decide) (nI_ge (show k < 48 by omega) (by omega)) ?_
    refine ig_iln C 2 dX0_chainLength_19 rfl rfl ?_
    refine ig_if_lt_F C 39 dX0_chainLength_20 (by decide) (nI_pos (show x < 2 ^ 31 by omega)) ?_
    refine ig_inc C 1 (nI (c + 1)) [nI (s), nI (c + 1), nI (x), nI (k)] dX0_chainLength_23 rfl (il_inc1 _) rfl rfl ?_
    refine ig_this C dX0_chainLength_26 ?_
    refine ig_get C fX_next dX0_chainLength_27 ?_
    refine ig_iln C 2 dX0_chainLength_30 rfl rfl ?_
    refine ig_ald C 8 rfl (show x < 48 by omega) (v := (S 8 (x))) rfl dX0_chainLength_31 ?_
    refine ig_isn C 2 [nI (s), nI (c + 1), (S 8 (x)), nI (k)] dX0_chainLength_32 rfl rfl rfl rfl ?_
    refine ig_inc C 3 (nI (k + 1)) [nI (s), nI (c + 1), (S 8 (x)), nI (k + 1)] dX0_chainLength_33 rfl (il_inc1 _) rfl rfl ?_
    refine ig_goto C 12 dX0_chainLength_36 (by decide) ?_
    exact ih (nI x) _ (c + 1) (k + 1) hg2 (by omega) (by omega)
set_option maxHeartbeats 1000000 in
set_option maxRecDepth 100000 in
theorem mX_chainLen (l : Launch) (S : il_S) (s : Nat) (hs : s < 10) (L : List Nat) (hg : sg (S 8) (S 9) (-4) (S 7 s) L) (hL : L.length ≤ 48) : ig_Mi GX l yX0_chainLength cX0_chainLength 5 .int 0 0 [nI (s)] S (fun r S' => r = nI L.length ∧ S = S') := by
  refine ig_Mi.of GX_ok (by decide) rfl (Nat.le_of_ble_eq_true rfl) (fun X C => ?_)
  refine ig_ic C dX0_chainLength_0 ki_0 ?_
  refine ig_isn C 1 [nI (s), nI (0)] dX0_chainLength_1 rfl rfl rfl rfl ?_
  refine ig_this C dX0_chainLength_2 ?_
  refine ig_get C fX_chain dX0_chainLength_3 ?_
  refine ig_iln C 0 dX0_chainLength_6 rfl rfl ?_
  refine ig_ald C 7 rfl (show s < 10 by omega) (v := (S 7 (s))) rfl dX0_chainLength_7 ?_
  refine ig_isn C 2 [nI (s), nI (0), (S 7 (s))] dX0_chainLength_8 rfl rfl rfl rfl ?_
  refine ig_ic C dX0_chainLength_9 ki_0 ?_
  refine ig_is C 3 [nI (s), nI (0), (S 7 (s)), nI (0)] dX0_chainLength_10 rfl rfl rfl ?_
  exact mX_chain_loop C L (-4) (S 7 s) 0 0 hg (by omega) (by omega)

theorem mX_chainLength (l : Launch) (S : il_S) (F : Nat → Option Nat) (hJ : cJ S F []) (s : Nat) (hs : s < 10) : ig_Mi GX l yX0_chainLength cX0_chainLength 5 .int 0 0 [nI (s)] S (fun r S' => r = nI (cn (fun q => f_use s (F q)) 48) ∧ S = S') := by
  obtain ⟨L, hn, hm, hg⟩ := hJ.2.2.1 s hs
  have hlt := sg_lt _ _ _ hg
  have hlen := len_use hn hlt hm
  have h := mX_chainLen l S s hs L hg (by rw [hlen]; exact cn_le _ _)
  rw [hlen] at h
  exact h
set_option maxHeartbeats 1000000 in
set_option maxRecDepth 100000 in
theorem mX_uses (l : Launch) (S : il_S) (a : il_A) (hR : RX a S) (x : Int32) : ig_Mi GX l yX0_uses cX0_uses 2 .int 1 24 [x] S (fun r S' => r = q_uses a x ∧ S = S') := by
  refine ig_Mi.of GX_ok (by decide) rfl (Nat.le_of_ble_eq_true rfl) (fun X C => ?_)
  have hR0 := hR
  obtain ⟨F, hJ, hI, hD, hV, hk⟩ := hR
  have hI0 := hI
  obtain ⟨hZ, h0, himg, hend⟩ := hI
  have hb48 := bg_le hZ.1 6 (by omega)
  rcases il_cases x (n := 10) (by decide) with ⟨h, e⟩ | ⟨h, h6, e⟩ | ⟨s, hs, rfl, e⟩
  · refine ig_this C dX0_uses_0 ?_
    refine ig_iln C 0 dX0_uses_1 rfl rfl ?_
    refine ig_calli C kX_badName (mX_badName (xl X) S x) rfl rfl ⟨Nat.le_of_ble_eq_true rfl, Nat.le_of_ble_eq_true rfl⟩ (Nat.le_of_ble_eq_true rfl) dX0_uses_2 (fun r S' hp => ?_)
    obtain ⟨rfl, rfl⟩ := hp
    rw [e]
    refine ig_top (nI (1)) rfl ?_
    refine ig_if_eq_F C 12 dX0_uses_5 (by decide) (nI_ne0 (show 0 < 1 by omega) (by omega)) ?_
    refine ig_ic C dX0_uses_8 ki_m1 ?_
    refine ig_goto C 17 dX0_uses_9 (by decide) ?_
    exact ig_ret C (nar_int _) dX0_uses_17 ⟨by unfold q_uses; rw [e], rfl⟩
  · refine ig_this C dX0_uses_0 ?_
    refine ig_iln C 0 dX0_uses_1 rfl rfl ?_
    refine ig_calli C kX_badName (mX_badName (xl X) S x) rfl rfl ⟨Nat.le_of_ble_eq_true rfl, Nat.le_of_ble_eq_true rfl⟩ (Nat.le_of_ble_eq_true rfl) dX0_uses_2 (fun r S' hp => ?_)
    obtain ⟨rfl, rfl⟩ := hp
    rw [e]
    refine ig_top (nI (1)) rfl ?_
    refine ig_if_eq_F C 12 dX0_uses_5 (by decide) (nI_ne0 (show 0 < 1 by omega) (by omega)) ?_
    refine ig_ic C dX0_uses_8 ki_m1 ?_
    refine ig_goto C 17 dX0_uses_9 (by decide) ?_
    exact ig_ret C (nar_int _) dX0_uses_17 ⟨by unfold q_uses; rw [e], rfl⟩
  · refine ig_this C dX0_uses_0 ?_
    refine ig_iln C 0 dX0_uses_1 rfl rfl ?_
    refine ig_calli C kX_badName (mX_badName (xl X) S (nI s)) rfl rfl ⟨Nat.le_of_ble_eq_true rfl, Nat.le_of_ble_eq_true rfl⟩ (Nat.le_of_ble_eq_true rfl) dX0_uses_2 (fun r S' hp => ?_)
    obtain ⟨rfl, rfl⟩ := hp
    rw [e]
    refine ig_top (nI (0)) rfl ?_
    refine ig_if_eq_T C 12 dX0_uses_5 (by decide) (show nI (0) = 0 from by rw [show 0 = 0 by omega]; rfl) ?_
    refine ig_this C dX0_uses_12 ?_
    refine ig_iln C 0 dX0_uses_13 rfl rfl ?_
    refine ig_calli C kX_chainLength (mX_chainLength (xl X) S F hJ s hs) rfl rfl ⟨Nat.le_of_ble_eq_true rfl, Nat.le_of_ble_eq_true rfl⟩ (Nat.le_of_ble_eq_true rfl) dX0_uses_14 (fun r S' hp => ?_)
    obtain ⟨rfl, rfl⟩ := hp
    exact ig_ret C (nar_int _) dX0_uses_17 ⟨by unfold q_uses; rw [e]; show nI _ = nI _; rw [flat_cn hI0 (f := f_use s) rfl], rfl⟩

set_option maxHeartbeats 1000000 in
set_option maxRecDepth 100000 in
theorem mX_undefined_loop {X : il_X} (C : ig_C GX cX0_undefined 4 ({ frames := 1, cells := 0, slots := 0, locals := 24 }) (some .int) X) {Q : State → Prop} {S : il_S} {a : il_A} {F : Nat → Option Nat} (hJ : cJ S F []) (hI : IM a S F) (hV : vD a) (hk : ∀ s, s < 10 → S 5 s = oI (wh a s) ∧ S 6 s = oI (mf a.2.2.2 s)) (kk : ig_W GX 4 X Q S 35 [nI (cn (fun q => gU a (10) (F q)) 48), nI (10)] []) :
    ∀ (d s : Nat), s + d = 10 → ig_W GX 4 X Q S 4 [nI (cn (fun q => gU a (s) (F q)) 48), nI (s)] [] := by
  intro d
  induction d with
  | zero =>
    intro s hs
    have hs : s = 10 := by omega
    subst hs
    refine ig_iln C 1 dX0_undefined_4 rfl rfl ?_
    refine ig_bp C dX0_undefined_5 kb_10 ?_
    refine ig_icmp_ge_T C 35 dX0_undefined_7 (by decide) (nI_le (show 10 ≤ 10 by omega) (by omega)) ?_
    exact kk
  | succ d ih =>
    intro s hs
    have h5 := (hk s (by omega)).1
    cases hw : wh a s with
    | none =>
      have hm := wh_iff.mp hw
      rw [hw] at h5
      refine ig_iln C 1 dX0_undefined_4 rfl rfl ?_
      refine ig_bp C dX0_undefined_5 kb_10 ?_
      refine ig_icmp_ge_F C 35 dX0_undefined_7 (by decide) (nI_ge (show s < 10 by omega) (by omega)) ?_
      refine ig_this C dX0_undefined_10 ?_
      refine ig_get C fX_known dX0_undefined_11 ?_
      refine ig_iln C 1 dX0_undefined_14 rfl rfl ?_
      refine ig_ald C 5 rfl (show s < 10 by omega) (v := (-4)) h5 dX0_undefined_15 ?_
      refine ig_if_ge_F C 29 dX0_undefined_16 (by decide) (by decide) ?_
      refine ig_this C dX0_undefined_19 ?_
      refine ig_iln C 1 dX0_undefined_20 rfl rfl ?_
      refine ig_calli C kX_chainLength (mX_chainLength (xl X) S F hJ s (by omega)) rfl rfl ⟨Nat.le_of_ble_eq_true rfl, Nat.le_of_ble_eq_true rfl⟩ (Nat.le_of_ble_eq_true rfl) dX0_undefined_21 (fun r S' hp => ?_)
      obtain ⟨rfl, rfl⟩ := hp
      refine ig_isn C 2 [nI (cn (fun q => gU a (s) (F q)) 48), nI (s), nI (cn (fun q => f_use s (F q)) 48)] dX0_undefined_24 rfl rfl rfl rfl ?_
      refine ig_iln C 0 dX0_undefined_25 rfl rfl ?_
      refine ig_iln C 2 dX0_undefined_26 rfl rfl ?_
      refine ig_iaddN C dX0_undefined_27 ?_
      refine ig_isn C 0 [nI ((cn (fun q => gU a (s) (F q)) 48) + (cn (fun q => f_use s (F q)) 48)), nI (s), nI (cn (fun q => f_use s (F q)) 48)] dX0_undefined_28 rfl rfl rfl rfl ?_
      refine ig_inc C 1 (nI (s + 1)) [nI ((cn (fun q => gU a (s) (F q)) 48) + (cn (fun q => f_use s (F q)) 48)), nI (s + 1), nI (cn (fun q => f_use s (F q)) 48)] dX0_undefined_29 rfl (il_inc1 _) rfl rfl ?_
      refine ig_pre 2 [nI ((cn (fun q => gU a (s) (F q)) 48) + (cn (fun q => f_use s (F q)) 48)), nI (s + 1)] rfl ?_
      refine ig_goto C 4 dX0_undefined_32 (by decide) ?_
      have hi := ih (s + 1) (by omega)
      rw [gU_y hm] at hi
      exact hi
    | some u =>
      have hu := wh_lt hI.1 hV (show s < 10 by omega) hw
      rw [hw] at h5
      cases hm : mf a.2.2.2 s with
      | none => rw [wh_none hm] at hw; cases hw
      | some m =>
        refine ig_iln C 1 dX0_undefined_4 rfl rfl ?_
        refine ig_bp C dX0_undefined_5 kb_10 ?_
        refine ig_icmp_ge_F C 35 dX0_undefined_7 (by decide) (nI_ge (show s < 10 by omega) (by omega)) ?_
        refine ig_this C dX0_undefined_10 ?_
        refine ig_get C fX_known dX0_undefined_11 ?_
        refine ig_iln C 1 dX0_undefined_14 rfl rfl ?_
        refine ig_ald C 5 rfl (show s < 10 by omega) (v := nI (u)) h5 dX0_undefined_15 ?_
        refine ig_if_ge_T C 29 dX0_undefined_16 (by decide) (nI_pos' (show u < 2 ^ 31 by omega)) ?_
        refine ig_inc C 1 (nI (s + 1)) [nI (cn (fun q => gU a (s) (F q)) 48), nI (s + 1)] dX0_undefined_29 rfl (il_inc1 _) rfl rfl ?_
        refine ig_goto C 4 dX0_undefined_32 (by decide) ?_
        have hi := ih (s + 1) (by omega)
        rw [gU_n hm] at hi
        exact hi
set_option maxHeartbeats 1000000 in
set_option maxRecDepth 100000 in
theorem mX_undefined (l : Launch) (S : il_S) (a : il_A) (hR : RX a S) : ig_Mi GX l yX0_undefined cX0_undefined 4 .int 1 24 [] S (fun r S' => r = nI (cn (iw a (f_und a)) 48) ∧ S = S') := by
  refine ig_Mi.of GX_ok (by decide) rfl (Nat.le_of_ble_eq_true rfl) (fun X C => ?_)
  have hR0 := hR
  obtain ⟨F, hJ, hI, hD, hV, hk⟩ := hR
  have hI0 := hI
  obtain ⟨hZ, h0, himg, hend⟩ := hI
  have hb48 := bg_le hZ.1 6 (by omega)
  refine ig_ic C dX0_undefined_0 ki_0 ?_
  refine ig_isn C 0 [nI (0)] dX0_undefined_1 rfl rfl rfl rfl ?_
  refine ig_ic C dX0_undefined_2 ki_0 ?_
  refine ig_isn C 1 [nI (0), nI (0)] dX0_undefined_3 rfl rfl rfl rfl ?_
  have hs := mX_undefined_loop (Q := ig_Qi GX X (fun r S' => r = nI (cn (iw a (f_und a)) 48) ∧ S = S')) C hJ hI0 hV hk ?_ 10 0 rfl
  · rw [gU_0] at hs
    exact hs
  · refine ig_iln C 0 dX0_undefined_35 rfl rfl ?_
    exact ig_ret C (nar_int _) dX0_undefined_36 ⟨by rw [gU_10 hJ.2.1, flat_cn hI0 (f := f_und a) rfl], rfl⟩

set_option maxHeartbeats 1000000 in
set_option maxRecDepth 100000 in
theorem mX_idle_in {X : il_X} (C : ig_C GX cX0_idle 4 ({ frames := 0, cells := 0, slots := 0, locals := 0 }) (some .int) X) {Q : State → Prop} {S : il_S} {a : il_A} (hZ : vZ a) (hV : vD a) (hD : DF a S) {s : Nat} (hs : s < 10) (h6 : S 6 s = oI (mf a.2.2.2 s)) (kk : ig_W GX 4 X Q S 51 [nI (isN (h_idl a) (s) + cn (fun m => h_idl a m (s)) (6)), nI (s), nI (6)] []) :
    ∀ (d m : Nat), m + d = 6 → ig_W GX 4 X Q S 12 [nI (isN (h_idl a) (s) + cn (fun m => h_idl a m (s)) (m)), nI (s), nI (m)] [] := by
  intro d
  induction d with
  | zero =>
    intro m hm
    have hm : m = 6 := by omega
    subst hm
    refine ig_iln C 2 dX0_idle_12 rfl rfl ?_
    refine ig_bp C dX0_idle_13 kb_6 ?_
    refine ig_icmp_ge_T C 51 dX0_idle_15 (by decide) (nI_le (show 6 ≤ 6 by omega) (by omega)) ?_
    exact kk
  | succ d ih =>
    intro m hm
    have hi := ih (m + 1) (by omega)
    have hd := hD m s (by omega) hs
    have hdl := vA_dlt hZ hV (show m < 6 by omega) hs
    cases hn : a.2.2.2 m s with
    | none =>
      rw [hn] at hd
      rw [cn_f (P := fun m => h_idl a m s) (show h_idl a m s = false by unfold h_idl; rw [hn]; rfl)] at hi
      refine ig_iln C 2 dX0_idle_12 rfl rfl ?_
      refine ig_bp C dX0_idle_13 kb_6 ?_
      refine ig_icmp_ge_F C 51 dX0_idle_15 (by decide) (nI_ge (show m < 6 by omega) (by omega)) ?_
      refine ig_this C dX0_idle_18 ?_
      refine ig_get C fX_defined dX0_idle_19 ?_
      refine ig_iln C 2 dX0_idle_22 rfl rfl ?_
      refine ig_bp C dX0_idle_23 kb_10 ?_
      refine ig_imulN C dX0_idle_25 ?_
      refine ig_iln C 1 dX0_idle_26 rfl rfl ?_
      refine ig_iaddN C dX0_idle_27 ?_
      refine ig_ald C 4 rfl (show (m * 10) + s < 60 by omega) (v := (-4)) hd dX0_idle_28 ?_
      refine ig_if_lt_T C 45 dX0_idle_29 (by decide) (by decide) ?_
      refine ig_inc C 2 (nI (m + 1)) [nI (isN (h_idl a) (s) + cn (fun m => h_idl a m (s)) (m)), nI (s), nI (m + 1)] dX0_idle_45 rfl (il_inc1 _) rfl rfl ?_
      refine ig_goto C 12 dX0_idle_48 (by decide) ?_
      exact hi
    | some u =>
      rw [hn] at hd
      have hu := hdl u hn
      by_cases hmf : mf a.2.2.2 s = some m
      · rw [hmf] at h6
        rw [cn_f (P := fun m => h_idl a m s) (show h_idl a m s = false by unfold h_idl; rw [hn, hmf]; simp)] at hi
        refine ig_iln C 2 dX0_idle_12 rfl rfl ?_
        refine ig_bp C dX0_idle_13 kb_6 ?_
        refine ig_icmp_ge_F C 51 dX0_idle_15 (by decide) (nI_ge (show m < 6 by omega) (by omega)) ?_
        refine ig_this C dX0_idle_18 ?_
        refine ig_get C fX_defined dX0_idle_19 ?_
        refine ig_iln C 2 dX0_idle_22 rfl rfl ?_
        refine ig_bp C dX0_idle_23 kb_10 ?_
        refine ig_imulN C dX0_idle_25 ?_
        refine ig_iln C 1 dX0_idle_26 rfl rfl ?_
        refine ig_iaddN C dX0_idle_27 ?_
        refine ig_ald C 4 rfl (show (m * 10) + s < 60 by omega) (v := nI (u)) hd dX0_idle_28 ?_
        refine ig_if_lt_F C 45 dX0_idle_29 (by decide) (nI_pos (show u < 2 ^ 31 by omega)) ?_
        refine ig_iln C 2 dX0_idle_32 rfl rfl ?_
        refine ig_this C dX0_idle_33 ?_
        refine ig_get C fX_counting dX0_idle_34 ?_
        refine ig_iln C 1 dX0_idle_37 rfl rfl ?_
        refine ig_ald C 6 rfl (show s < 10 by omega) (v := nI (m)) h6 dX0_idle_38 ?_
        refine ig_icmp_eq_T C 45 dX0_idle_39 (by decide) rfl ?_
        refine ig_inc C 2 (nI (m + 1)) [nI (isN (h_idl a) (s) + cn (fun m => h_idl a m (s)) (m)), nI (s), nI (m + 1)] dX0_idle_45 rfl (il_inc1 _) rfl rfl ?_
        refine ig_goto C 12 dX0_idle_48 (by decide) ?_
        exact hi
      · rw [cn_t (P := fun m => h_idl a m s) (show h_idl a m s = true by unfold h_idl; rw [hn]; simp [hmf])] at hi
        have hne : ¬ nI m = S 6 s := by
          rw [h6]
          cases hq : mf a.2.2.2 s with
          | none => exact fun z => nI_ne4 (show m < 2 ^ 31 by omega) z
          | some m' =>
            have := mf_lt m' hq
            intro z
            have z : m = m' := (nI_eq (by omega) (by omega)).mp z
            exact hmf (by rw [hq, z])
        refine ig_iln C 2 dX0_idle_12 rfl rfl ?_
        refine ig_bp C dX0_idle_13 kb_6 ?_
        refine ig_icmp_ge_F C 51 dX0_idle_15 (by decide) (nI_ge (show m < 6 by omega) (by omega)) ?_
        refine ig_this C dX0_idle_18 ?_
        refine ig_get C fX_defined dX0_idle_19 ?_
        refine ig_iln C 2 dX0_idle_22 rfl rfl ?_
        refine ig_bp C dX0_idle_23 kb_10 ?_
        refine ig_imulN C dX0_idle_25 ?_
        refine ig_iln C 1 dX0_idle_26 rfl rfl ?_
        refine ig_iaddN C dX0_idle_27 ?_
        refine ig_ald C 4 rfl (show (m * 10) + s < 60 by omega) (v := nI (u)) hd dX0_idle_28 ?_
        refine ig_if_lt_F C 45 dX0_idle_29 (by decide) (nI_pos (show u < 2 ^ 31 by omega)) ?_
        refine ig_iln C 2 dX0_idle_32 rfl rfl ?_
        refine ig_this C dX0_idle_33 ?_
        refine ig_get C fX_counting dX0_idle_34 ?_
        refine ig_iln C 1 dX0_idle_37 rfl rfl ?_
        refine ig_ald C 6 rfl (show s < 10 by omega) (v := (S 6 (s))) rfl dX0_idle_38 ?_
        refine ig_icmp_eq_F C 45 dX0_idle_39 (by decide) hne ?_
        refine ig_inc C 0 (nI (isN (h_idl a) (s) + cn (fun m => h_idl a m (s)) (m) + 1)) [nI (isN (h_idl a) (s) + cn (fun m => h_idl a m (s)) (m) + 1), nI (s), nI (m)] dX0_idle_42 rfl (il_inc1 _) rfl rfl ?_
        refine ig_inc C 2 (nI (m + 1)) [nI (isN (h_idl a) (s) + cn (fun m => h_idl a m (s)) (m) + 1), nI (s), nI (m + 1)] dX0_idle_45 rfl (il_inc1 _) rfl rfl ?_
        refine ig_goto C 12 dX0_idle_48 (by decide) ?_
        exact hi
set_option maxHeartbeats 1000000 in
set_option maxRecDepth 100000 in
theorem mX_idle_out {X : il_X} (C : ig_C GX cX0_idle 4 ({ frames := 0, cells := 0, slots := 0, locals := 0 }) (some .int) X) {Q : State → Prop} {S : il_S} {a : il_A} (hZ : vZ a) (hV : vD a) (hD : DF a S) (hk : ∀ s, s < 10 → S 5 s = oI (wh a s) ∧ S 6 s = oI (mf a.2.2.2 s)) (kk : ig_W GX 4 X Q S 57 [nI (isN (h_idl a) (10)), nI (10)] []) :
    ∀ (d s : Nat), s + d = 10 → ig_W GX 4 X Q S 4 [nI (isN (h_idl a) (s)), nI (s)] [] := by
  intro d
  induction d with
  | zero =>
    intro s hs
    have hs : s = 10 := by omega
    subst hs
    refine ig_iln C 1 dX0_idle_4 rfl rfl ?_
    refine ig_bp C dX0_idle_5 kb_10 ?_
    refine ig_icmp_ge_T C 57 dX0_idle_7 (by decide) (nI_le (show 10 ≤ 10 by omega) (by omega)) ?_
    exact kk
  | succ d ih =>
    intro s hs
    refine ig_iln C 1 dX0_idle_4 rfl rfl ?_
    refine ig_bp C dX0_idle_5 kb_10 ?_
    refine ig_icmp_ge_F C 57 dX0_idle_7 (by decide) (nI_ge (show s < 10 by omega) (by omega)) ?_
    refine ig_ic C dX0_idle_10 ki_0 ?_
    refine ig_isn C 2 [nI (isN (h_idl a) (s)), nI (s), nI (0)] dX0_idle_11 rfl rfl rfl rfl ?_
    refine mX_idle_in C hZ hV hD (show s < 10 by omega) (hk s (by omega)).2 ?_ 6 0 rfl
    refine ig_inc C 1 (nI (s + 1)) [nI (isN (h_idl a) (s) + cn (fun m => h_idl a m (s)) (6)), nI (s + 1), nI (6)] dX0_idle_51 rfl (il_inc1 _) rfl rfl ?_
    refine ig_pre 2 [nI (isN (h_idl a) (s) + cn (fun m => h_idl a m (s)) (6)), nI (s + 1)] rfl ?_
    refine ig_goto C 4 dX0_idle_54 (by decide) ?_
    exact ih (s + 1) (by omega)
set_option maxHeartbeats 1000000 in
set_option maxRecDepth 100000 in
theorem mX_idle (l : Launch) (S : il_S) (a : il_A) (hR : RX a S) : ig_Mi GX l yX0_idle cX0_idle 4 .int 0 0 [] S (fun r S' => r = nI (cn (f_idl a) 60) ∧ S = S') := by
  refine ig_Mi.of GX_ok (by decide) rfl (Nat.le_of_ble_eq_true rfl) (fun X C => ?_)
  have hR0 := hR
  obtain ⟨F, hJ, hI, hD, hV, hk⟩ := hR
  have hI0 := hI
  obtain ⟨hZ, h0, himg, hend⟩ := hI
  have hb48 := bg_le hZ.1 6 (by omega)
  refine ig_ic C dX0_idle_0 ki_0 ?_
  refine ig_isn C 0 [nI (0)] dX0_idle_1 rfl rfl rfl rfl ?_
  refine ig_ic C dX0_idle_2 ki_0 ?_
  refine ig_isn C 1 [nI (0), nI (0)] dX0_idle_3 rfl rfl rfl rfl ?_
  refine mX_idle_out C hZ hV hD hk ?_ 10 0 rfl
  refine ig_iln C 0 dX0_idle_57 rfl rfl ?_
  exact ig_ret C (nar_int _) dX0_idle_58 ⟨by rw [idl_eq], rfl⟩

set_option maxHeartbeats 1000000 in
set_option maxRecDepth 100000 in
theorem mX_moduleAt_loop {X : il_X} (C : ig_C GX cX0_moduleAt 4 ({ frames := 0, cells := 0, slots := 0, locals := 0 }) (some .int) X) {Q : State → Prop} {S : il_S} {z : Nat → Nat} {p m : Nat} (h0 : ∀ k, k ≤ 6 → S 0 k = nI (bg z k)) (hb : bg z 6 ≤ 48) (hm : m < 6) (h1 : bg z m ≤ p) (h2 : p < bg z (m + 1)) (kk : ig_W GX 4 X Q S 32 [nI (p), nI (m), nI (6)] []) :
    ∀ (d k c : Nat), k + d = 6 → 1 ≤ k → c = (if k ≤ m + 1 then k - 1 else m) → ig_W GX 4 X Q S 4 [nI (p), nI (c), nI (k)] [] := by
  intro d
  induction d with
  | zero =>
    intro k c hk h3 hc
    have hk : k = 6 := by omega
    subst hk
    have hc : c = m := by
      rw [hc]
      split <;> omega
    subst hc
    refine ig_iln C 2 dX0_moduleAt_4 rfl rfl ?_
    refine ig_bp C dX0_moduleAt_5 kb_6 ?_
    refine ig_icmp_ge_T C 32 dX0_moduleAt_7 (by decide) (nI_le (show 6 ≤ 6 by omega) (by omega)) ?_
    exact kk
  | succ d ih =>
    intro k c hk h3 hc
    have hb6 : bg z k ≤ bg z 6 := bg_mono z (by omega)
    have hm6 : bg z (m + 1) ≤ bg z 6 := bg_mono z (by omega)
    by_cases hkm : k ≤ m
    · have h4 : bg z k ≤ bg z m := bg_mono z hkm
      refine ig_iln C 2 dX0_moduleAt_4 rfl rfl ?_
      refine ig_bp C dX0_moduleAt_5 kb_6 ?_
      refine ig_icmp_ge_F C 32 dX0_moduleAt_7 (by decide) (nI_ge (show k < 6 by omega) (by omega)) ?_
      refine ig_this C dX0_moduleAt_10 ?_
      refine ig_get C fX_start dX0_moduleAt_11 ?_
      refine ig_iln C 2 dX0_moduleAt_14 rfl rfl ?_
      refine ig_ald C 0 rfl (show k < 7 by omega) (v := nI (bg z k)) (h0 k (by omega)) dX0_moduleAt_15 ?_
      refine ig_iln C 0 dX0_moduleAt_16 rfl rfl ?_
      refine ig_icmp_gt_F C 24 dX0_moduleAt_17 (by decide) (nI_nlt (show bg z k ≤ p by omega) (by omega)) ?_
      refine ig_iln C 2 dX0_moduleAt_20 rfl rfl ?_
      refine ig_goto C 25 dX0_moduleAt_21 (by decide) ?_
      refine ig_isn C 1 [nI (p), nI (k), nI (k)] dX0_moduleAt_25 rfl rfl rfl rfl ?_
      refine ig_inc C 2 (nI (k + 1)) [nI (p), nI (k), nI (k + 1)] dX0_moduleAt_26 rfl (il_inc1 _) rfl rfl ?_
      refine ig_goto C 4 dX0_moduleAt_29 (by decide) ?_
      exact ih (k + 1) k (by omega) (by omega) (by rw [if_pos (by omega)]; omega)
    · have h4 : bg z (m + 1) ≤ bg z k := bg_mono z (by omega)
      refine ig_iln C 2 dX0_moduleAt_4 rfl rfl ?_
      refine ig_bp C dX0_moduleAt_5 kb_6 ?_
      refine ig_icmp_ge_F C 32 dX0_moduleAt_7 (by decide) (nI_ge (show k < 6 by omega) (by omega)) ?_
      refine ig_this C dX0_moduleAt_10 ?_
      refine ig_get C fX_start dX0_moduleAt_11 ?_
      refine ig_iln C 2 dX0_moduleAt_14 rfl rfl ?_
      refine ig_ald C 0 rfl (show k < 7 by omega) (v := nI (bg z k)) (h0 k (by omega)) dX0_moduleAt_15 ?_
      refine ig_iln C 0 dX0_moduleAt_16 rfl rfl ?_
      refine ig_icmp_gt_T C 24 dX0_moduleAt_17 (by decide) (nI_lt (show p < bg z k by omega) (by omega)) ?_
      refine ig_iln C 1 dX0_moduleAt_24 rfl rfl ?_
      refine ig_isn C 1 [nI (p), nI (c), nI (k)] dX0_moduleAt_25 rfl rfl rfl rfl ?_
      refine ig_inc C 2 (nI (k + 1)) [nI (p), nI (c), nI (k + 1)] dX0_moduleAt_26 rfl (il_inc1 _) rfl rfl ?_
      refine ig_goto C 4 dX0_moduleAt_29 (by decide) ?_
      exact ih (k + 1) c (by omega) (by omega) (by rw [hc, if_neg (show ¬ k + 1 ≤ m + 1 by omega)]; split <;> omega)
set_option maxHeartbeats 1000000 in
set_option maxRecDepth 100000 in
theorem mX_moduleAt (l : Launch) (S : il_S) (z : Nat → Nat) (p m : Nat) (h0 : ∀ k, k ≤ 6 → S 0 k = nI (bg z k)) (hb : bg z 6 ≤ 48) (hm : m < 6) (h1 : bg z m ≤ p) (h2 : p < bg z (m + 1)) : ig_Mi GX l yX0_moduleAt cX0_moduleAt 4 .int 0 0 [nI (p)] S (fun r S' => r = nI m ∧ S = S') := by
  refine ig_Mi.of GX_ok (by decide) rfl (Nat.le_of_ble_eq_true rfl) (fun X C => ?_)
  refine ig_ic C dX0_moduleAt_0 ki_0 ?_
  refine ig_isn C 1 [nI (p), nI (0)] dX0_moduleAt_1 rfl rfl rfl rfl ?_
  refine ig_ic C dX0_moduleAt_2 ki_1 ?_
  refine ig_isn C 2 [nI (p), nI (0), nI (1)] dX0_moduleAt_3 rfl rfl rfl rfl ?_
  refine mX_moduleAt_loop C h0 hb hm h1 h2 ?_ 5 1 0 rfl (by omega) (by split <;> omega)
  refine ig_iln C 1 dX0_moduleAt_32 rfl rfl ?_
  exact ig_ret C (nar_int _) dX0_moduleAt_33 ⟨rfl, rfl⟩

set_option maxHeartbeats 1000000 in
set_option maxRecDepth 100000 in
theorem mX_moduleOf (l : Launch) (S : il_S) (a : il_A) (hR : RX a S) (x : Int32) : ig_Mi GX l yX0_moduleOf cX0_moduleOf 2 .int 1 23 [x] S (fun r S' => r = q_moduleOf a x ∧ S = S') := by
  refine ig_Mi.of GX_ok (by decide) rfl (Nat.le_of_ble_eq_true rfl) (fun X C => ?_)
  have hR0 := hR
  obtain ⟨F, hJ, hI, hD, hV, hk⟩ := hR
  have hI0 := hI
  obtain ⟨hZ, h0, himg, hend⟩ := hI
  have hb48 := bg_le hZ.1 6 (by omega)
  rcases il_cases x (n := bg a.1 6) (by omega) with ⟨h, e⟩ | ⟨h, h6, e⟩ | ⟨p, hp, rfl, e⟩
  · refine ig_iln C 0 dX0_moduleOf_0 rfl rfl ?_
    refine ig_if_lt_T C 15 dX0_moduleOf_1 (by decide) h ?_
    refine ig_bp C dX0_moduleOf_15 kb_m4 ?_
    refine ig_goto C 25 dX0_moduleOf_17 (by decide) ?_
    exact ig_ret C (nar_int _) dX0_moduleOf_25 ⟨by rw [q_mo_none e], rfl⟩
  · refine ig_iln C 0 dX0_moduleOf_0 rfl rfl ?_
    refine ig_if_lt_F C 15 dX0_moduleOf_1 (by decide) h ?_
    refine ig_iln C 0 dX0_moduleOf_4 rfl rfl ?_
    refine ig_this C dX0_moduleOf_5 ?_
    refine ig_get C fX_start dX0_moduleOf_6 ?_
    refine ig_bp C dX0_moduleOf_9 kb_6 ?_
    refine ig_ald C 0 rfl (show 6 < 7 by omega) (v := nI (bg a.1 6)) (h0 6 (by omega)) dX0_moduleOf_11 ?_
    refine ig_icmp_lt_F C 20 dX0_moduleOf_12 (by decide) (il_nlt (Nat.le_refl _) (by omega) h6) ?_
    refine ig_bp C dX0_moduleOf_15 kb_m4 ?_
    refine ig_goto C 25 dX0_moduleOf_17 (by decide) ?_
    exact ig_ret C (nar_int _) dX0_moduleOf_25 ⟨by rw [q_mo_none e], rfl⟩
  · obtain ⟨m, w, hm, hw, hpe⟩ := bg_find 6 hp
    refine ig_iln C 0 dX0_moduleOf_0 rfl rfl ?_
    refine ig_if_lt_F C 15 dX0_moduleOf_1 (by decide) (nI_pos (show p < 2 ^ 31 by omega)) ?_
    refine ig_iln C 0 dX0_moduleOf_4 rfl rfl ?_
    refine ig_this C dX0_moduleOf_5 ?_
    refine ig_get C fX_start dX0_moduleOf_6 ?_
    refine ig_bp C dX0_moduleOf_9 kb_6 ?_
    refine ig_ald C 0 rfl (show 6 < 7 by omega) (v := nI (bg a.1 6)) (h0 6 (by omega)) dX0_moduleOf_11 ?_
    refine ig_icmp_lt_T C 20 dX0_moduleOf_12 (by decide) (nI_lt (show p < bg a.1 6 by omega) (by omega)) ?_
    refine ig_this C dX0_moduleOf_20 ?_
    refine ig_iln C 0 dX0_moduleOf_21 rfl rfl ?_
    refine ig_calli C kX_moduleAt (mX_moduleAt (xl X) S a.1 p m h0 hb48 hm (by omega) (by rw [bg_s]; omega)) rfl rfl ⟨Nat.le_of_ble_eq_true rfl, Nat.le_of_ble_eq_true rfl⟩ (Nat.le_of_ble_eq_true rfl) dX0_moduleOf_22 (fun r S' hp => ?_)
    obtain ⟨rfl, rfl⟩ := hp
    exact ig_ret C (nar_int _) dX0_moduleOf_25 ⟨by rw [q_mo_some e, hpe, mo_at hm hw]; rfl, rfl⟩

set_option maxHeartbeats 1000000 in
set_option maxRecDepth 100000 in
theorem mX_digest_loop {X : il_X} (C : ig_C GX cX0_digest 3 ({ frames := 0, cells := 0, slots := 0, locals := 0 }) (some .int) X) {Q : State → Prop} {S : il_S} {a : il_A} {F : Nat → Option Nat} (hJ : cJ S F []) (hI : IM a S F) (hk : ∀ s, s < 10 → S 5 s = oI (wh a s) ∧ S 6 s = oI (mf a.2.2.2 s)) (kk : ig_W GX 3 X Q S 34 [(sm (vl a) (bg a.1 6)), nI (bg a.1 6)] []) :
    ∀ (d p : Nat), p + d = bg a.1 6 → ig_W GX 3 X Q S 4 [(sm (vl a) (p)), nI (p)] [] := by
  have hb48 := bg_le hI.1.1 6 (by omega)
  have h0 := hI.2.1
  intro d
  induction d with
  | zero =>
    intro p hp
    have hp : p = bg a.1 6 := by omega
    subst hp
    refine ig_iln C 1 dX0_digest_4 rfl rfl ?_
    refine ig_this C dX0_digest_5 ?_
    refine ig_get C fX_start dX0_digest_6 ?_
    refine ig_bp C dX0_digest_9 kb_6 ?_
    refine ig_ald C 0 rfl (show 6 < 7 by omega) (v := nI (bg a.1 6)) (h0 6 (by omega)) dX0_digest_11 ?_
    refine ig_icmp_ge_T C 34 dX0_digest_12 (by decide) (nI_le (show bg a.1 6 ≤ bg a.1 6 by omega) (by omega)) ?_
    exact kk
  | succ d ih =>
    intro p hp
    refine ig_iln C 1 dX0_digest_4 rfl rfl ?_
    refine ig_this C dX0_digest_5 ?_
    refine ig_get C fX_start dX0_digest_6 ?_
    refine ig_bp C dX0_digest_9 kb_6 ?_
    refine ig_ald C 0 rfl (show 6 < 7 by omega) (v := nI (bg a.1 6)) (h0 6 (by omega)) dX0_digest_11 ?_
    refine ig_icmp_ge_F C 34 dX0_digest_12 (by decide) (nI_ge (show p < bg a.1 6 by omega) (by omega)) ?_
    refine ig_iln C 0 dX0_digest_15 rfl rfl ?_
    refine ig_iln C 1 dX0_digest_16 rfl rfl ?_
    refine ig_ic C dX0_digest_17 ki_1 ?_
    refine ig_iaddN C dX0_digest_18 ?_
    refine ig_this C dX0_digest_19 ?_
    refine ig_get C fX_value dX0_digest_20 ?_
    refine ig_iln C 1 dX0_digest_23 rfl rfl ?_
    refine ig_ald C 1 rfl (show p < 48 by omega) (v := (vl a p)) (RX_val hJ hI hk (by omega)) dX0_digest_24 ?_
    refine ig_imul C dX0_digest_25 ?_
    refine ig_iadd C dX0_digest_26 ?_
    refine ig_isn C 0 [((sm (vl a) (p)) + (nI (p + 1) * (vl a p))), nI (p)] dX0_digest_27 rfl rfl rfl rfl ?_
    refine ig_inc C 1 (nI (p + 1)) [((sm (vl a) (p)) + (nI (p + 1) * (vl a p))), nI (p + 1)] dX0_digest_28 rfl (il_inc1 _) rfl rfl ?_
    refine ig_goto C 4 dX0_digest_31 (by decide) ?_
    exact ih (p + 1) (by omega)
set_option maxHeartbeats 1000000 in
set_option maxRecDepth 100000 in
theorem mX_digest (l : Launch) (S : il_S) (a : il_A) (hR : RX a S) : ig_Mi GX l yX0_digest cX0_digest 3 .int 0 0 [] S (fun r S' => r = sm (vl a) 48 ∧ S = S') := by
  refine ig_Mi.of GX_ok (by decide) rfl (Nat.le_of_ble_eq_true rfl) (fun X C => ?_)
  have hR0 := hR
  obtain ⟨F, hJ, hI, hD, hV, hk⟩ := hR
  have hI0 := hI
  obtain ⟨hZ, h0, himg, hend⟩ := hI
  have hb48 := bg_le hZ.1 6 (by omega)
  refine ig_ic C dX0_digest_0 ki_0 ?_
  refine ig_isn C 0 [nI (0)] dX0_digest_1 rfl rfl rfl rfl ?_
  refine ig_ic C dX0_digest_2 ki_0 ?_
  refine ig_isn C 1 [nI (0), nI (0)] dX0_digest_3 rfl rfl rfl rfl ?_
  refine mX_digest_loop C hJ hI0 hk ?_ (bg a.1 6) 0 (by omega)
  refine ig_iln C 0 dX0_digest_34 rfl rfl ?_
  exact ig_ret C (nar_int _) dX0_digest_35 ⟨(sm_48 hZ).symm, rfl⟩

set_option maxHeartbeats 1000000 in
set_option maxRecDepth 100000 in
theorem mX_users_in {X : il_X} (C : ig_C GX cX0_users 6 ({ frames := 1, cells := 0, slots := 0, locals := 23 }) (some .int) X) {Q : State → Prop} {S : il_S} {a : il_A} {F : Nat → Option Nat} (hI : IM a S F) {j s : Nat} :
    ∀ (L : List Nat) (b v st : Int32) (k : Nat) (P : Nat → Prop), sg (S 8) (S 9) b v L → (∀ x ∈ L, x < bg a.1 6) → k + L.length ≤ 48 → bS st P → (∀ st', bS st' (fun i => P i ∨ ∃ x, x ∈ L ∧ mo a.1 x = some i) → ig_W GX 6 X Q S 84 [nI (j), st', nI (s)] []) → ig_W GX 6 X Q S 46 [nI (j), st, nI (s), v, nI (k)] [] := by
  have hb48 := bg_le hI.1.1 6 (by omega)
  intro L
  induction L with
  | nil =>
    intro b v st k P hg hx hk hst kk
    have hv : v = -4 := hg
    subst hv
    have kk := kk st (bS_imp hst (fun i => ⟨Or.inl, fun z => z.resolve_right (fun ⟨x, hx, _⟩ => by cases hx)⟩))
    by_cases h48 : k < 48
    · refine ig_il C 4 dX0_users_46 rfl ?_
      refine ig_bp C dX0_users_48 kb_48 ?_
      refine ig_icmp_ge_F C 84 dX0_users_50 (by decide) (nI_ge (show k < 48 by omega) (by omega)) ?_
      refine ig_il C 3 dX0_users_53 rfl ?_
      refine ig_if_lt_T C 84 dX0_users_55 (by decide) (by decide) ?_
      refine ig_pre 3 [nI (j), st, nI (s)] rfl ?_
      exact kk
    · refine ig_il C 4 dX0_users_46 rfl ?_
      refine ig_bp C dX0_users_48 kb_48 ?_
      refine ig_icmp_ge_T C 84 dX0_users_50 (by decide) (nI_le (show 48 ≤ k by omega) (by omega)) ?_
      refine ig_pre 3 [nI (j), st, nI (s)] rfl ?_
      exact kk
  | cons x L ih =>
    intro b v st k P hg hx hk hst kk
    obtain ⟨rfl, hx48, hbx, hg2⟩ := hg
    have hk : k + (L.length + 1) ≤ 48 := hk
    obtain ⟨m, w, hm, hw, hpe⟩ := bg_find 6 (hx x List.mem_cons_self)
    have hmo : mo a.1 x = some m := by rw [hpe]; exact mo_at hm hw
    refine ig_il C 4 dX0_users_46 rfl ?_
    refine ig_bp C dX0_users_48 kb_48 ?_
    refine ig_icmp_ge_F C 84 dX0_users_50 (by decide) (nI_ge (show k < 48 by omega) (by omega)) ?_
    refine ig_il C 3 dX0_users_53 rfl ?_
    refine ig_if_lt_F C 84 dX0_users_55 (by decide) (nI_pos (show x < 2 ^ 31 by omega)) ?_
    refine ig_iln C 1 dX0_users_58 rfl rfl ?_
    refine ig_ic C dX0_users_59 ki_1 ?_
    refine ig_this C dX0_users_60 ?_
    refine ig_il C 3 dX0_users_61 rfl ?_
    refine ig_calli C kX_moduleAt (mX_moduleAt (xl X) S a.1 x m hI.2.1 hb48 hm (by omega) (by rw [bg_s]; omega)) rfl rfl ⟨Nat.le_of_ble_eq_true rfl, Nat.le_of_ble_eq_true rfl⟩ (Nat.le_of_ble_eq_true rfl) dX0_users_63 (fun r S' hp => ?_)
    obtain ⟨rfl, rfl⟩ := hp
    refine ig_ishl C dX0_users_66 ?_
    refine ig_ior C dX0_users_67 ?_
    refine ig_isn C 1 [nI (j), (st ||| (nI (1) <<< (nI (m) &&& 31))), nI (s), nI (x), nI (k)] dX0_users_68 rfl rfl rfl rfl ?_
    refine ig_this C dX0_users_69 ?_
    refine ig_get C fX_next dX0_users_70 ?_
    refine ig_il C 3 dX0_users_73 rfl ?_
    refine ig_ald C 8 rfl (show x < 48 by omega) (v := (S 8 (x))) rfl dX0_users_75 ?_
    refine ig_is C 3 [nI (j), (st ||| (nI (1) <<< (nI (m) &&& 31))), nI (s), (S 8 (x)), nI (k)] dX0_users_76 rfl rfl rfl ?_
    refine ig_inc C 4 (nI (k + 1)) [nI (j), (st ||| (nI (1) <<< (nI (m) &&& 31))), nI (s), (S 8 (x)), nI (k + 1)] dX0_users_78 rfl (il_inc1 _) rfl rfl ?_
    refine ig_goto C 46 dX0_users_81 (by decide) ?_
    refine ih (nI x) _ _ (k + 1) _ hg2 (fun y hy => hx y (List.mem_cons_of_mem _ hy)) (by omega) (bS_or hst hm) (fun st' hs => kk st' (bS_imp hs (fun i => ⟨fun z => ?_, fun z => ?_⟩)))
    · rcases z with (z | z) | ⟨y, hy, z⟩
      · exact Or.inl z
      · exact Or.inr ⟨x, List.mem_cons_self, by rw [hmo, z]⟩
      · exact Or.inr ⟨y, List.mem_cons_of_mem _ hy, z⟩
    · rcases z with z | ⟨y, hy, z⟩
      · exact Or.inl (Or.inl z)
      · rcases List.mem_cons.mp hy with e | e
        · subst e
          rw [hmo] at z
          exact Or.inl (Or.inr (Option.some.inj z).symm)
        · exact Or.inr ⟨y, e, z⟩
set_option maxHeartbeats 1000000 in
set_option maxRecDepth 100000 in
theorem mX_users_out {X : il_X} (C : ig_C GX cX0_users 6 ({ frames := 1, cells := 0, slots := 0, locals := 23 }) (some .int) X) {Q : State → Prop} {S : il_S} {a : il_A} {F : Nat → Option Nat} (hJ : cJ S F []) (hI : IM a S F) (hk : ∀ s, s < 10 → S 5 s = oI (wh a s) ∧ S 6 s = oI (mf a.2.2.2 s)) {j : Nat} (hj : j < 6) (kk : ∀ st, bS st (fun i => ∃ t, t < 10 ∧ mf a.2.2.2 t = some j ∧ ∃ p, F p = some t ∧ mo a.1 p = some i) → ig_W GX 6 X Q S 90 [nI (j), st, nI (10)] []) :
    ∀ (d s : Nat) (st : Int32), s + d = 10 → bS st (fun i => ∃ t, t < s ∧ mf a.2.2.2 t = some j ∧ ∃ p, F p = some t ∧ mo a.1 p = some i) → ig_W GX 6 X Q S 14 [nI (j), st, nI (s)] [] := by
  intro d
  induction d with
  | zero =>
    intro s st hs hst
    have hs : s = 10 := by omega
    subst hs
    refine ig_iln C 2 dX0_users_14 rfl rfl ?_
    refine ig_bp C dX0_users_15 kb_10 ?_
    refine ig_icmp_ge_T C 90 dX0_users_17 (by decide) (nI_le (show 10 ≤ 10 by omega) (by omega)) ?_
    exact kk st hst
  | succ d ih =>
    intro s st hs hst
    have h6 := (hk s (by omega)).2
    by_cases hmf : mf a.2.2.2 s = some j
    · rw [hmf] at h6
      obtain ⟨L, hn, hm, hg⟩ := hJ.2.2.1 s (by omega)
      have hlt := sg_lt _ _ _ hg
      have hlen : L.length ≤ 48 := by rw [len_cn 48 L hn hlt]; exact cn_le _ _
      have hL6 : ∀ x ∈ L, x < bg a.1 6 := fun x hx => by
        rcases Nat.lt_or_ge x (bg a.1 6) with h | h
        · exact h
        · have := (hm x).mp hx
          rw [hI.2.2.2 x h] at this
          cases this
      refine ig_iln C 2 dX0_users_14 rfl rfl ?_
      refine ig_bp C dX0_users_15 kb_10 ?_
      refine ig_icmp_ge_F C 90 dX0_users_17 (by decide) (nI_ge (show s < 10 by omega) (by omega)) ?_
      refine ig_this C dX0_users_20 ?_
      refine ig_get C fX_counting dX0_users_21 ?_
      refine ig_iln C 2 dX0_users_24 rfl rfl ?_
      refine ig_ald C 6 rfl (show s < 10 by omega) (v := nI (j)) h6 dX0_users_25 ?_
      refine ig_iln C 0 dX0_users_26 rfl rfl ?_
      refine ig_icmp_ne_F C 39 dX0_users_27 (by decide) rfl ?_
      refine ig_this C dX0_users_30 ?_
      refine ig_get C fX_chain dX0_users_31 ?_
      refine ig_iln C 2 dX0_users_34 rfl rfl ?_
      refine ig_ald C 7 rfl (show s < 10 by omega) (v := (S 7 (s))) rfl dX0_users_35 ?_
      refine ig_goto C 41 dX0_users_36 (by decide) ?_
      refine ig_is C 3 [nI (j), st, nI (s), (S 7 (s))] dX0_users_41 rfl rfl rfl ?_
      refine ig_ic C dX0_users_43 ki_0 ?_
      refine ig_is C 4 [nI (j), st, nI (s), (S 7 (s)), nI (0)] dX0_users_44 rfl rfl rfl ?_
      refine mX_users_in C hI L (-4) (S 7 s) st 0 _ hg hL6 (by omega) hst (fun st' hs' => ?_)
      refine ig_inc C 2 (nI (s + 1)) [nI (j), st', nI (s + 1)] dX0_users_84 rfl (il_inc1 _) rfl rfl ?_
      refine ig_goto C 14 dX0_users_87 (by decide) ?_
      refine ih (s + 1) st' (by omega) (bS_imp hs' (fun i => ⟨fun z => ?_, fun z => ?_⟩))
      · rcases z with ⟨t, ht, z⟩ | ⟨x, hx, z⟩
        · exact ⟨t, by omega, z⟩
        · exact ⟨s, by omega, hmf, x, (hm x).mp hx, z⟩
      · obtain ⟨t, ht, z1, p, z2, z3⟩ := z
        by_cases e : t = s
        · subst e
          exact Or.inr ⟨p, (hm p).mpr z2, z3⟩
        · exact Or.inl ⟨t, by omega, z1, p, z2, z3⟩
    · have hne : ¬ S 6 s = nI j := by
        rw [h6]
        cases hq : mf a.2.2.2 s with
        | none => exact fun z => nI_ne4 (show j < 2 ^ 31 by omega) z.symm
        | some m' =>
          have := mf_lt m' hq
          intro z
          have z : m' = j := (nI_eq (by omega) (by omega)).mp z
          exact hmf (by rw [hq, z])
      refine ig_iln C 2 dX0_users_14 rfl rfl ?_
      refine ig_bp C dX0_users_15 kb_10 ?_
      refine ig_icmp_ge_F C 90 dX0_users_17 (by decide) (nI_ge (show s < 10 by omega) (by omega)) ?_
      refine ig_this C dX0_users_20 ?_
      refine ig_get C fX_counting dX0_users_21 ?_
      refine ig_iln C 2 dX0_users_24 rfl rfl ?_
      refine ig_ald C 6 rfl (show s < 10 by omega) (v := (S 6 (s))) rfl dX0_users_25 ?_
      refine ig_iln C 0 dX0_users_26 rfl rfl ?_
      refine ig_icmp_ne_T C 39 dX0_users_27 (by decide) hne ?_
      refine ig_bp C dX0_users_39 kb_m4 ?_
      refine ig_is C 3 [nI (j), st, nI (s), (-4)] dX0_users_41 rfl rfl rfl ?_
      refine ig_ic C dX0_users_43 ki_0 ?_
      refine ig_is C 4 [nI (j), st, nI (s), (-4), nI (0)] dX0_users_44 rfl rfl rfl ?_
      refine mX_users_in C hI [] (-4) (-4) st 0 _ rfl (fun x hx => by cases hx) (by decide) hst (fun st' hs' => ?_)
      refine ig_inc C 2 (nI (s + 1)) [nI (j), st', nI (s + 1)] dX0_users_84 rfl (il_inc1 _) rfl rfl ?_
      refine ig_goto C 14 dX0_users_87 (by decide) ?_
      refine ih (s + 1) st' (by omega) (bS_imp hs' (fun i => ⟨fun z => ?_, fun z => ?_⟩))
      · rcases z with ⟨t, ht, z⟩ | ⟨x, hx, z⟩
        · exact ⟨t, by omega, z⟩
        · cases hx
      · obtain ⟨t, ht, z1, z⟩ := z
        have e : t ≠ s := fun e => hmf (e ▸ z1)
        exact Or.inl ⟨t, by omega, z1, z⟩
set_option maxHeartbeats 1000000 in
set_option maxRecDepth 100000 in
theorem mX_users (l : Launch) (S : il_S) (a : il_A) (hR : RX a S) (x : Int32) : ig_Mi GX l yX0_users cX0_users 6 .int 1 23 [x] S (fun r S' => r = q_users a x ∧ S = S') := by
  refine ig_Mi.of GX_ok (by decide) rfl (Nat.le_of_ble_eq_true rfl) (fun X C => ?_)
  have hR0 := hR
  obtain ⟨F, hJ, hI, hD, hV, hk⟩ := hR
  have hI0 := hI
  obtain ⟨hZ, h0, himg, hend⟩ := hI
  have hb48 := bg_le hZ.1 6 (by omega)
  rcases il_cases x (n := 6) (by decide) with ⟨h, e⟩ | ⟨h, h6, e⟩ | ⟨j, hj, rfl, e⟩
  · refine ig_this C dX0_users_0 ?_
    refine ig_iln C 0 dX0_users_1 rfl rfl ?_
    refine ig_calli C kX_bad (mX_bad (xl X) S x) rfl rfl ⟨Nat.le_of_ble_eq_true rfl, Nat.le_of_ble_eq_true rfl⟩ (Nat.le_of_ble_eq_true rfl) dX0_users_2 (fun r S' hp => ?_)
    obtain ⟨rfl, rfl⟩ := hp
    rw [e]
    refine ig_top (nI (1)) rfl ?_
    refine ig_if_eq_F C 10 dX0_users_5 (by decide) (nI_ne0 (show 0 < 1 by omega) (by omega)) ?_
    refine ig_ic C dX0_users_8 ki_m1 ?_
    exact ig_ret C (nar_int _) dX0_users_9 ⟨by unfold q_users; rw [e], rfl⟩
  · refine ig_this C dX0_users_0 ?_
    refine ig_iln C 0 dX0_users_1 rfl rfl ?_
    refine ig_calli C kX_bad (mX_bad (xl X) S x) rfl rfl ⟨Nat.le_of_ble_eq_true rfl, Nat.le_of_ble_eq_true rfl⟩ (Nat.le_of_ble_eq_true rfl) dX0_users_2 (fun r S' hp => ?_)
    obtain ⟨rfl, rfl⟩ := hp
    rw [e]
    refine ig_top (nI (1)) rfl ?_
    refine ig_if_eq_F C 10 dX0_users_5 (by decide) (nI_ne0 (show 0 < 1 by omega) (by omega)) ?_
    refine ig_ic C dX0_users_8 ki_m1 ?_
    exact ig_ret C (nar_int _) dX0_users_9 ⟨by unfold q_users; rw [e], rfl⟩
  · refine ig_this C dX0_users_0 ?_
    refine ig_iln C 0 dX0_users_1 rfl rfl ?_
    refine ig_calli C kX_bad (mX_bad (xl X) S (nI j)) rfl rfl ⟨Nat.le_of_ble_eq_true rfl, Nat.le_of_ble_eq_true rfl⟩ (Nat.le_of_ble_eq_true rfl) dX0_users_2 (fun r S' hp => ?_)
    obtain ⟨rfl, rfl⟩ := hp
    rw [e]
    refine ig_top (nI (0)) rfl ?_
    refine ig_if_eq_T C 10 dX0_users_5 (by decide) (show nI (0) = 0 from by rw [show 0 = 0 by omega]; rfl) ?_
    refine ig_ic C dX0_users_10 ki_0 ?_
    refine ig_isn C 1 [nI (j), nI (0)] dX0_users_11 rfl rfl rfl rfl ?_
    refine ig_ic C dX0_users_12 ki_0 ?_
    refine ig_isn C 2 [nI (j), nI (0), nI (0)] dX0_users_13 rfl rfl rfl rfl ?_
    refine mX_users_out C hJ hI0 hk hj (fun st hst => ?_) 10 0 (nI 0) rfl (bS_0 (fun i ⟨t, ht, _⟩ => absurd ht (Nat.not_lt_zero t)))
    refine ig_iln C 1 dX0_users_90 rfl rfl ?_
    exact ig_ret C (nar_int _) dX0_users_91 ⟨by unfold q_users; rw [e]; exact users_eq hJ hI0 hst, rfl⟩
end
section
/-! THE CONSTRUCTORS -/
def a_0 : il_A := (fun _ => 0, fun _ _ => none, fun _ _ => 0, fun _ _ => none)
def S_0 : il_S := fun _ _ => 0
def f_no : Int32 → Int32 := fun _ => -4
/-- arrays 5, 6, 7 below t -/
def ini3 (S : il_S) (t : Nat) : il_S := mapF (mapF (mapF S 5 f_no 0 t) 6 f_no 0 t) 7 f_no 0 t
theorem ini3_0 {S : il_S} : ini3 S 0 = S := by
  unfold ini3
  rw [mapF_0, mapF_0, mapF_0]
theorem ini3_s {S : il_S} {t : Nat} : sU (sU (sU (ini3 S t) 5 t (-4)) 6 t (-4)) 7 t (-4) = ini3 S (t + 1) := by
  funext a q
  by_cases h5 : a = 5
  · subst h5
    by_cases hq : q = t
    · subst hq; simp [sU, upd, ini3, mapF, f_no]
    · have h1 : (q < t + 1) ↔ (q < t) := by omega
      simp [sU, upd, ini3, mapF, f_no, hq, h1]
  · by_cases h6 : a = 6
    · subst h6
      by_cases hq : q = t
      · subst hq; simp [sU, upd, ini3, mapF, f_no]
      · have h1 : (q < t + 1) ↔ (q < t) := by omega
        simp [sU, upd, ini3, mapF, f_no, hq, h1]
    · by_cases h7 : a = 7
      · subst h7
        by_cases hq : q = t
        · subst hq; simp [sU, upd, ini3, mapF, f_no]
        · have h1 : (q < t + 1) ↔ (q < t) := by omega
          simp [sU, upd, ini3, mapF, f_no, hq, h1]
      · simp [sU, ini3, mapF, h5, h6, h7]
def SX_0 : il_S := mapF (ini3 (mapF S_0 4 f_no 0 60) 10) 2 f_no 0 48
def SM_0 : il_S := mapF S_0 3 f_no 0 60
theorem bg_0 : ∀ k, bg (fun _ => 0) k = 0 := by
  intro k
  induction k with
  | zero => rfl
  | succ k ih => show bg (fun _ => 0) k + 0 = 0; rw [ih]
theorem mf_0 (s : Nat) : mf (fun _ _ => none) s = none := by simp [mf, mfk]
theorem vZ_0 : vZ a_0 := ⟨fun _ _ => Nat.zero_le _, fun _ w _ _ h _ => absurd h (Nat.not_lt_zero w)⟩
theorem vD_0 : vD a_0 := fun _ _ _ _ _ h => by cases h
theorem RX_0 : RX a_0 SX_0 := by
  refine ⟨fun _ => none, ⟨fun q hq _ => ?_, fun q s h => (by cases h), fun s hs => ⟨[], List.nodup_nil, fun p => ⟨fun h => (by cases h), fun h => (by cases h)⟩, ?_⟩, fun q s _ h => (by cases h)⟩, ⟨vZ_0, fun k hk => ?_, fun m w _ h => absurd h (Nat.not_lt_zero w), fun q _ => rfl⟩, fun m s hm hs => ?_, vD_0, fun s hs => ?_⟩
  · simp [SX_0, mapF, hq, f_no, oI]
  · show SX_0 7 s = -4
    simp [SX_0, ini3, mapF, hs, f_no]
  · show SX_0 0 k = nI (bg (fun _ => 0) k)
    rw [bg_0, nI_0]
    simp [SX_0, ini3, mapF, S_0]
  · have h : m * 10 + s < 60 := by omega
    show SX_0 4 (m * 10 + s) = -4
    simp [SX_0, ini3, mapF, h, f_no]
  · have h : wh a_0 s = none := wh_none (mf_0 s)
    have h2 : mf a_0.2.2.2 s = none := mf_0 s
    rw [h, h2]
    simp [SX_0, ini3, mapF, hs, f_no, oI]
theorem RM_0 : RM a_0 SM_0 := by
  refine ⟨vZ_0, vD_0, fun m hm => ?_, fun m s hm hs => ?_, fun m w _ h => absurd h (Nat.not_lt_zero w)⟩
  · show SM_0 2 m = nI 0
    rw [nI_0]
    simp [SM_0, mapF, S_0]
  · have h : 10 * m + s < 60 := by omega
    show SM_0 3 (10 * m + s) = -4
    simp [SM_0, mapF, h, f_no]
theorem cA_eq {D : va_G} {cl : List vw_C} {s : State} {cA cB : ClassId} (hK : va_K D cl [(cA, .int), (cB, .int)] s) : cB = cA := by
  have e1 : s.vm.findClass ("[" ++ FieldType.int.toString) = some cA := (hK.2 0 _ rfl).2
  have e2 : s.vm.findClass ("[" ++ FieldType.int.toString) = some cB := (hK.2 1 _ rfl).2
  exact Option.some.inj (e2.symm.trans e1)
set_option maxHeartbeats 1000000 in
set_option maxRecDepth 100000 in
theorem mX_init_1 {rm : Room} {X : il_X} (C : ig_C GX cX0_init 2 rm none X) {Q : State → Prop} {S : il_S} (kk : ig_W GX 2 X Q (mapF S 4 f_no 0 60) 106 [nI 60] []) :
    ∀ (d k : Nat), k + d = 60 → ig_W GX 2 X Q (mapF S 4 f_no 0 k) 86 [nI k] [] := by
  intro d
  induction d with
  | zero =>
    intro k hk
    have hk : k = 60 := by omega
    subst hk
    refine ig_iln C 0 dX0_init_86 rfl rfl ?_
    refine ig_bp C dX0_init_87 kb_60 ?_
    refine ig_icmp_ge_T C 106 dX0_init_89 (by decide) (nI_le (show 60 ≤ 60 by omega) (by omega)) ?_
    exact kk
  | succ d ih =>
    intro k hk
    refine ig_iln C 0 dX0_init_86 rfl rfl ?_
    refine ig_bp C dX0_init_87 kb_60 ?_
    refine ig_icmp_ge_F C 106 dX0_init_89 (by decide) (nI_ge (show k < 60 by omega) (by omega)) ?_
    refine ig_this C dX0_init_92 ?_
    refine ig_get C fX_defined dX0_init_93 ?_
    refine ig_iln C 0 dX0_init_96 rfl rfl ?_
    refine ig_bp C dX0_init_97 kb_m4 ?_
    refine ig_ast C 4 rfl (show k < 60 by omega) dX0_init_99 ?_
    refine ig_st (mapF_s (f := f_no) (Nat.zero_le _)) ?_
    refine ig_inc C 0 (nI (k + 1)) [nI (k + 1)] dX0_init_100 rfl (il_inc1 _) rfl rfl ?_
    refine ig_goto C 86 dX0_init_103 (by decide) ?_
    exact ih (k + 1) (by omega)
set_option maxHeartbeats 1000000 in
set_option maxRecDepth 100000 in
theorem mX_init_2 {rm : Room} {X : il_X} (C : ig_C GX cX0_init 2 rm none X) {Q : State → Prop} {S : il_S} (kk : ig_W GX 2 X Q (ini3 S 10) 144 [nI 10] []) :
    ∀ (d k : Nat), k + d = 10 → ig_W GX 2 X Q (ini3 S k) 108 [nI k] [] := by
  intro d
  induction d with
  | zero =>
    intro k hk
    have hk : k = 10 := by omega
    subst hk
    refine ig_iln C 0 dX0_init_108 rfl rfl ?_
    refine ig_bp C dX0_init_109 kb_10 ?_
    refine ig_icmp_ge_T C 144 dX0_init_111 (by decide) (nI_le (show 10 ≤ 10 by omega) (by omega)) ?_
    exact kk
  | succ d ih =>
    intro k hk
    refine ig_iln C 0 dX0_init_108 rfl rfl ?_
    refine ig_bp C dX0_init_109 kb_10 ?_
    refine ig_icmp_ge_F C 144 dX0_init_111 (by decide) (nI_ge (show k < 10 by omega) (by omega)) ?_
    refine ig_this C dX0_init_114 ?_
    refine ig_get C fX_known dX0_init_115 ?_
    refine ig_iln C 0 dX0_init_118 rfl rfl ?_
    refine ig_bp C dX0_init_119 kb_m4 ?_
    refine ig_ast C 5 rfl (show k < 10 by omega) dX0_init_121 ?_
    refine ig_this C dX0_init_122 ?_
    refine ig_get C fX_counting dX0_init_123 ?_
    refine ig_iln C 0 dX0_init_126 rfl rfl ?_
    refine ig_bp C dX0_init_127 kb_m4 ?_
    refine ig_ast C 6 rfl (show k < 10 by omega) dX0_init_129 ?_
    refine ig_this C dX0_init_130 ?_
    refine ig_get C fX_chain dX0_init_131 ?_
    refine ig_iln C 0 dX0_init_134 rfl rfl ?_
    refine ig_bp C dX0_init_135 kb_m4 ?_
    refine ig_ast C 7 rfl (show k < 10 by omega) dX0_init_137 ?_
    refine ig_st ini3_s ?_
    refine ig_inc C 0 (nI (k + 1)) [nI (k + 1)] dX0_init_138 rfl (il_inc1 _) rfl rfl ?_
    refine ig_goto C 108 dX0_init_141 (by decide) ?_
    exact ih (k + 1) (by omega)
set_option maxHeartbeats 1000000 in
set_option maxRecDepth 100000 in
theorem mX_init_3 {rm : Room} {X : il_X} (C : ig_C GX cX0_init 2 rm none X) {Q : State → Prop} {S : il_S} (kk : ig_W GX 2 X Q (mapF S 2 f_no 0 48) 166 [nI 48] []) :
    ∀ (d k : Nat), k + d = 48 → ig_W GX 2 X Q (mapF S 2 f_no 0 k) 146 [nI k] [] := by
  intro d
  induction d with
  | zero =>
    intro k hk
    have hk : k = 48 := by omega
    subst hk
    refine ig_iln C 0 dX0_init_146 rfl rfl ?_
    refine ig_bp C dX0_init_147 kb_48 ?_
    refine ig_icmp_ge_T C 166 dX0_init_149 (by decide) (nI_le (show 48 ≤ 48 by omega) (by omega)) ?_
    exact kk
  | succ d ih =>
    intro k hk
    refine ig_iln C 0 dX0_init_146 rfl rfl ?_
    refine ig_bp C dX0_init_147 kb_48 ?_
    refine ig_icmp_ge_F C 166 dX0_init_149 (by decide) (nI_ge (show k < 48 by omega) (by omega)) ?_
    refine ig_this C dX0_init_152 ?_
    refine ig_get C fX_name dX0_init_153 ?_
    refine ig_iln C 0 dX0_init_156 rfl rfl ?_
    refine ig_bp C dX0_init_157 kb_m4 ?_
    refine ig_ast C 2 rfl (show k < 48 by omega) dX0_init_159 ?_
    refine ig_st (mapF_s (f := f_no) (Nat.zero_le _)) ?_
    refine ig_inc C 0 (nI (k + 1)) [nI (k + 1)] dX0_init_160 rfl (il_inc1 _) rfl rfl ?_
    refine ig_goto C 146 dX0_init_163 (by decide) ?_
    exact ih (k + 1) (by omega)
set_option maxHeartbeats 1000000 in
set_option maxRecDepth 100000 in
theorem mM_init_1 {rm : Room} {X : il_X} (C : ig_C GM cX1_init 2 rm none X) {Q : State → Prop} {S : il_S} (kk : ig_W GM 2 X Q (mapF S 3 f_no 0 60) 58 [nI 60] []) :
    ∀ (d k : Nat), k + d = 60 → ig_W GM 2 X Q (mapF S 3 f_no 0 k) 38 [nI k] [] := by
  intro d
  induction d with
  | zero =>
    intro k hk
    have hk : k = 60 := by omega
    subst hk
    refine ig_iln C 0 dX1_init_38 rfl rfl ?_
    refine ig_bp C dX1_init_39 kb_60 ?_
    refine ig_icmp_ge_T C 58 dX1_init_41 (by decide) (nI_le (show 60 ≤ 60 by omega) (by omega)) ?_
    exact kk
  | succ d ih =>
    intro k hk
    refine ig_iln C 0 dX1_init_38 rfl rfl ?_
    refine ig_bp C dX1_init_39 kb_60 ?_
    refine ig_icmp_ge_F C 58 dX1_init_41 (by decide) (nI_ge (show k < 60 by omega) (by omega)) ?_
    refine ig_this C dX1_init_44 ?_
    refine ig_get C fM_defined dX1_init_45 ?_
    refine ig_iln C 0 dX1_init_48 rfl rfl ?_
    refine ig_bp C dX1_init_49 kb_m4 ?_
    refine ig_ast C 3 rfl (show k < 60 by omega) dX1_init_51 ?_
    refine ig_st (mapF_s (f := f_no) (Nat.zero_le _)) ?_
    refine ig_inc C 0 (nI (k + 1)) [nI (k + 1)] dX1_init_52 rfl (il_inc1 _) rfl rfl ?_
    refine ig_goto C 38 dX1_init_55 (by decide) ?_
    exact ih (k + 1) (by omega)
set_option maxHeartbeats 1000000 in
set_option maxRecDepth 100000 in
theorem mX_init (l : Launch) (D : va_G) (h0 sz : Nat) : Met l yX0_init (ws_ yX0_init cX0_init 2 none) ({ frames := 1, cells := 10, slots := 337, locals := 12 }) (va_Pc [.ref h0] (fun U => U.heap.size = sz ∧ va_P D vwCl [(h0, .inr (0, [.null, .null, .null, .null, .null, .null, .null, .null, .null, .null]))] U.heap ∧ va_K D vwCl [] U ∧ va_D (fun _ => True) [(h0, .inr (0, [.null, .null, .null, .null, .null, .null, .null, .null, .null, .null]))])) (va_Qv (fun u : (Nat → Nat) × ClassId × il_S => u.1 0 = h0 ∧ RX a_0 u.2.2) (fun u t => va_P D vwCl (gw GX u.1 u.2.1 u.2.2) t.heap ∧ va_K D vwCl [(u.2.1, .int)] t ∧ va_D (va_A [(h0, .inr (0, [.null, .null, .null, .null, .null, .null, .null, .null, .null, .null]))] sz) (gw GX u.1 u.2.1 u.2.2)) (va_A [(h0, .inr (0, [.null, .null, .null, .null, .null, .null, .null, .null, .null, .null]))] sz)) 10 337 (va_A [(h0, .inr (0, [.null, .null, .null, .null, .null, .null, .null, .null, .null, .null]))] sz) := by
  refine Met.ofW (cc := cX0_init) (maxL := 2) (ret := none) (by decide) rfl ?_
  intro p e s m args below meth c s₁ B hml hv
  obtain ⟨rfl, hsz, hP, hK, hD0⟩ := hv
  have hx := B.exec
  have hb := B.bytes
  have hr := B.returns
  have hts := atoms_spec (ws := ws_ yX0_init cX0_init 2 none) B.pre
  have hts : ∀ w ∈ lw_all, w.before _ s = true := fun w h => hts w (List.mem_cons_of_mem _ h)
  have hown : s.vm.findClass RX0 = some m.cls := findClass_of_methodNamed B.named
  have hlocks := B.notSynchronized
  have hin : meth.name = "<init>" := (name_of_methodNamed B.named B.method).1
  subst hsz
  have hD := hD0.self (sz := s.heap.size)
  generalize hAe : va_A [(h0, .inr (0, [.null, .null, .null, .null, .null, .null, .null, .null, .null, .null]))] s.heap.size = A at hD ⊢
  have hA : ∀ q : Nat, s.heap.size ≤ q → A q := fun q h => by rw [← hAe]; exact Or.inr h
  have hS : va_S A s.heap s.heap [] := va_S.rf
  have hP : va_P D vwCl [(h0, .inr (0, [.null, .null, .null, .null, .null, .null, .null, .null, .null, .null]))] s.heap := hP
  have hl := lv_entry ([.ref h0]) (n := 2) (Nat.le_of_ble_eq_true rfl)
  rw [lg_entry_eq]
  generalize (lg_sl ([.ref h0]) ++ List.replicate (2 - (lg_sl ([.ref h0])).length) Slot.unset).toArray = ls at hl ⊢
  have hl : lv_has ls 2 [(0, .ref h0)] := hl
  refine lv_aload_n hx hb dX0_init_0 rfl (lv_at hl 0 rfl) ?_
  refine W.objInit hx hb hown (hts _ q30) (hts _ q31) (hts _ q32) rfl (by rw [hml]; exact hl.1) rfl dX0_init_1 (Nat.le_of_ble_eq_true rfl) (Nat.le_of_ble_eq_true rfl) ?_
  refine W.eq (g2 := F0 m 4 ls []) rfl ?_
  refine lv_aload_n hx hb dX0_init_4 rfl (lv_at hl 0 rfl) ?_
  refine lv_bipush (v := nI 7) hx hb dX0_init_5 kb_7 ?_
  refine va_newa (atype := .int) (ty := .int) (N' := 7) (a0 := (7, .inl (fun _ => 0))) hx hb (hts _ q64) rfl hK hP hD hS hA (fun _ => rfl) (by decide) (by decide) (by decide) (Nat.le_of_ble_eq_true rfl) (Nat.le_of_ble_eq_true rfl) dX0_init_7 (fun q0 cA H hK hP hD hS => ?_)
  refine W.widen (k := 1) (n := 7) (Nat.le_refl _) (Nat.le_refl _) ?_
  have hP : va_P D vwCl [(h0, .inr (0, [.null, .null, .null, .null, .null, .null, .null, .null, .null, .null])), (q0, .inl (cA, 7, .inl (fun _ => 0)))] H := hP
  have hD : va_D A [(h0, .inr (0, [.null, .null, .null, .null, .null, .null, .null, .null, .null, .null])), (q0, .inl (cA, 7, .inl (fun _ => 0)))] := hD
  refine va_putF (D := D) (ci := 0) (v := .ref q0) (ty := .array .int) (C := RX0) (T := TX0) (N := 10) hx hb hts in_X0 tyX0 tyX0_ok nmX0 hown hK hP hD hS 0 rfl rfl 0 (by decide) (hts _ q33) (fun _ h9 => h9) rfl hin rfl (by decide +kernel) rfl rfl (Nat.le_of_ble_eq_true rfl) dX0_init_9 (fun H locs hP hD hS => ?_)
  have hP : va_P D vwCl [(h0, .inr (0, [.ref q0, .null, .null, .null, .null, .null, .null, .null, .null, .null])), (q0, .inl (cA, 7, .inl (fun _ => 0)))] H := hP
  have hD : va_D A [(h0, .inr (0, [.ref q0, .null, .null, .null, .null, .null, .null, .null, .null, .null])), (q0, .inl (cA, 7, .inl (fun _ => 0)))] := hD
  refine lv_aload_n hx hb dX0_init_12 rfl (lv_at hl 0 rfl) ?_
  refine lv_bipush (v := nI 48) hx hb dX0_init_13 kb_48 ?_
  refine va_newa (atype := .int) (ty := .int) (N' := 48) (a0 := (48, .inl (fun _ => 0))) hx hb (hts _ q64) rfl hK hP hD hS hA (fun _ => rfl) (by decide) (by decide) (by decide) (Nat.le_of_ble_eq_true rfl) (Nat.le_of_ble_eq_true rfl) dX0_init_15 (fun q1 cB H hK hP hD hS => ?_)
  refine W.widen (k := 2) (n := 55) (Nat.le_refl _) (Nat.le_refl _) ?_
  have hcc : cB = cA := cA_eq hK
  rw [hcc] at hK hP hD
  have hK := hK.sub (tys' := [(cA, .int)]) [0] rfl
  have hP : va_P D vwCl [(h0, .inr (0, [.ref q0, .null, .null, .null, .null, .null, .null, .null, .null, .null])), (q0, .inl (cA, 7, .inl (fun _ => 0))), (q1, .inl (cA, 48, .inl (fun _ => 0)))] H := hP
  have hD : va_D A [(h0, .inr (0, [.ref q0, .null, .null, .null, .null, .null, .null, .null, .null, .null])), (q0, .inl (cA, 7, .inl (fun _ => 0))), (q1, .inl (cA, 48, .inl (fun _ => 0)))] := hD
  refine va_putF (D := D) (ci := 0) (v := .ref q1) (ty := .array .int) (C := RX0) (T := TX0) (N := 10) hx hb hts in_X0 tyX0 tyX0_ok nmX0 hown hK hP hD hS 0 rfl rfl 1 (by decide) (hts _ q34) (fun _ h9 => h9) rfl hin rfl (by decide +kernel) rfl rfl (Nat.le_of_ble_eq_true rfl) dX0_init_17 (fun H locs hP hD hS => ?_)
  have hP : va_P D vwCl [(h0, .inr (0, [.ref q0, .ref q1, .null, .null, .null, .null, .null, .null, .null, .null])), (q0, .inl (cA, 7, .inl (fun _ => 0))), (q1, .inl (cA, 48, .inl (fun _ => 0)))] H := hP
  have hD : va_D A [(h0, .inr (0, [.ref q0, .ref q1, .null, .null, .null, .null, .null, .null, .null, .null])), (q0, .inl (cA, 7, .inl (fun _ => 0))), (q1, .inl (cA, 48, .inl (fun _ => 0)))] := hD
  refine lv_aload_n hx hb dX0_init_20 rfl (lv_at hl 0 rfl) ?_
  refine lv_bipush (v := nI 48) hx hb dX0_init_21 kb_48 ?_
  refine va_newa (atype := .int) (ty := .int) (N' := 48) (a0 := (48, .inl (fun _ => 0))) hx hb (hts _ q64) rfl hK hP hD hS hA (fun _ => rfl) (by decide) (by decide) (by decide) (Nat.le_of_ble_eq_true rfl) (Nat.le_of_ble_eq_true rfl) dX0_init_23 (fun q2 cB H hK hP hD hS => ?_)
  refine W.widen (k := 3) (n := 103) (Nat.le_refl _) (Nat.le_refl _) ?_
  have hcc : cB = cA := cA_eq hK
  rw [hcc] at hK hP hD
  have hK := hK.sub (tys' := [(cA, .int)]) [0] rfl
  have hP : va_P D vwCl [(h0, .inr (0, [.ref q0, .ref q1, .null, .null, .null, .null, .null, .null, .null, .null])), (q0, .inl (cA, 7, .inl (fun _ => 0))), (q1, .inl (cA, 48, .inl (fun _ => 0))), (q2, .inl (cA, 48, .inl (fun _ => 0)))] H := hP
  have hD : va_D A [(h0, .inr (0, [.ref q0, .ref q1, .null, .null, .null, .null, .null, .null, .null, .null])), (q0, .inl (cA, 7, .inl (fun _ => 0))), (q1, .inl (cA, 48, .inl (fun _ => 0))), (q2, .inl (cA, 48, .inl (fun _ => 0)))] := hD
  refine va_putF (D := D) (ci := 0) (v := .ref q2) (ty := .array .int) (C := RX0) (T := TX0) (N := 10) hx hb hts in_X0 tyX0 tyX0_ok nmX0 hown hK hP hD hS 0 rfl rfl 2 (by decide) (hts _ q35) (fun _ h9 => h9) rfl hin rfl (by decide +kernel) rfl rfl (Nat.le_of_ble_eq_true rfl) dX0_init_25 (fun H locs hP hD hS => ?_)
  have hP : va_P D vwCl [(h0, .inr (0, [.ref q0, .ref q1, .ref q2, .null, .null, .null, .null, .null, .null, .null])), (q0, .inl (cA, 7, .inl (fun _ => 0))), (q1, .inl (cA, 48, .inl (fun _ => 0))), (q2, .inl (cA, 48, .inl (fun _ => 0)))] H := hP
  have hD : va_D A [(h0, .inr (0, [.ref q0, .ref q1, .ref q2, .null, .null, .null, .null, .null, .null, .null])), (q0, .inl (cA, 7, .inl (fun _ => 0))), (q1, .inl (cA, 48, .inl (fun _ => 0))), (q2, .inl (cA, 48, .inl (fun _ => 0)))] := hD
  refine lv_aload_n hx hb dX0_init_28 rfl (lv_at hl 0 rfl) ?_
  refine lv_bipush (v := nI 48) hx hb dX0_init_29 kb_48 ?_
  refine va_newa (atype := .int) (ty := .int) (N' := 48) (a0 := (48, .inl (fun _ => 0))) hx hb (hts _ q64) rfl hK hP hD hS hA (fun _ => rfl) (by decide) (by decide) (by decide) (Nat.le_of_ble_eq_true rfl) (Nat.le_of_ble_eq_true rfl) dX0_init_31 (fun q3 cB H hK hP hD hS => ?_)
  refine W.widen (k := 4) (n := 151) (Nat.le_refl _) (Nat.le_refl _) ?_
  have hcc : cB = cA := cA_eq hK
  rw [hcc] at hK hP hD
  have hK := hK.sub (tys' := [(cA, .int)]) [0] rfl
  have hP : va_P D vwCl [(h0, .inr (0, [.ref q0, .ref q1, .ref q2, .null, .null, .null, .null, .null, .null, .null])), (q0, .inl (cA, 7, .inl (fun _ => 0))), (q1, .inl (cA, 48, .inl (fun _ => 0))), (q2, .inl (cA, 48, .inl (fun _ => 0))), (q3, .inl (cA, 48, .inl (fun _ => 0)))] H := hP
  have hD : va_D A [(h0, .inr (0, [.ref q0, .ref q1, .ref q2, .null, .null, .null, .null, .null, .null, .null])), (q0, .inl (cA, 7, .inl (fun _ => 0))), (q1, .inl (cA, 48, .inl (fun _ => 0))), (q2, .inl (cA, 48, .inl (fun _ => 0))), (q3, .inl (cA, 48, .inl (fun _ => 0)))] := hD
  refine va_putF (D := D) (ci := 0) (v := .ref q3) (ty := .array .int) (C := RX0) (T := TX0) (N := 10) hx hb hts in_X0 tyX0 tyX0_ok nmX0 hown hK hP hD hS 0 rfl rfl 3 (by decide) (hts _ q36) (fun _ h9 => h9) rfl hin rfl (by decide +kernel) rfl rfl (Nat.le_of_ble_eq_true rfl) dX0_init_33 (fun H locs hP hD hS => ?_)
  have hP : va_P D vwCl [(h0, .inr (0, [.ref q0, .ref q1, .ref q2, .ref q3, .null, .null, .null, .null, .null, .null])), (q0, .inl (cA, 7, .inl (fun _ => 0))), (q1, .inl (cA, 48, .inl (fun _ => 0))), (q2, .inl (cA, 48, .inl (fun _ => 0))), (q3, .inl (cA, 48, .inl (fun _ => 0)))] H := hP
  have hD : va_D A [(h0, .inr (0, [.ref q0, .ref q1, .ref q2, .ref q3, .null, .null, .null, .null, .null, .null])), (q0, .inl (cA, 7, .inl (fun _ => 0))), (q1, .inl (cA, 48, .inl (fun _ => 0))), (q2, .inl (cA, 48, .inl (fun _ => 0))), (q3, .inl (cA, 48, .inl (fun _ => 0)))] := hD
  refine lv_aload_n hx hb dX0_init_36 rfl (lv_at hl 0 rfl) ?_
  refine lv_bipush (v := nI 60) hx hb dX0_init_37 kb_60 ?_
  refine va_newa (atype := .int) (ty := .int) (N' := 60) (a0 := (60, .inl (fun _ => 0))) hx hb (hts _ q64) rfl hK hP hD hS hA (fun _ => rfl) (by decide) (by decide) (by decide) (Nat.le_of_ble_eq_true rfl) (Nat.le_of_ble_eq_true rfl) dX0_init_39 (fun q4 cB H hK hP hD hS => ?_)
  refine W.widen (k := 5) (n := 211) (Nat.le_refl _) (Nat.le_refl _) ?_
  have hcc : cB = cA := cA_eq hK
  rw [hcc] at hK hP hD
  have hK := hK.sub (tys' := [(cA, .int)]) [0] rfl
  have hP : va_P D vwCl [(h0, .inr (0, [.ref q0, .ref q1, .ref q2, .ref q3, .null, .null, .null, .null, .null, .null])), (q0, .inl (cA, 7, .inl (fun _ => 0))), (q1, .inl (cA, 48, .inl (fun _ => 0))), (q2, .inl (cA, 48, .inl (fun _ => 0))), (q3, .inl (cA, 48, .inl (fun _ => 0))), (q4, .inl (cA, 60, .inl (fun _ => 0)))] H := hP
  have hD : va_D A [(h0, .inr (0, [.ref q0, .ref q1, .ref q2, .ref q3, .null, .null, .null, .null, .null, .null])), (q0, .inl (cA, 7, .inl (fun _ => 0))), (q1, .inl (cA, 48, .inl (fun _ => 0))), (q2, .inl (cA, 48, .inl (fun _ => 0))), (q3, .inl (cA, 48, .inl (fun _ => 0))), (q4, .inl (cA, 60, .inl (fun _ => 0)))] := hD
  refine va_putF (D := D) (ci := 0) (v := .ref q4) (ty := .array .int) (C := RX0) (T := TX0) (N := 10) hx hb hts in_X0 tyX0 tyX0_ok nmX0 hown hK hP hD hS 0 rfl rfl 4 (by decide) (hts _ q37) (fun _ h9 => h9) rfl hin rfl (by decide +kernel) rfl rfl (Nat.le_of_ble_eq_true rfl) dX0_init_41 (fun H locs hP hD hS => ?_)
  have hP : va_P D vwCl [(h0, .inr (0, [.ref q0, .ref q1, .ref q2, .ref q3, .ref q4, .null, .null, .null, .null, .null])), (q0, .inl (cA, 7, .inl (fun _ => 0))), (q1, .inl (cA, 48, .inl (fun _ => 0))), (q2, .inl (cA, 48, .inl (fun _ => 0))), (q3, .inl (cA, 48, .inl (fun _ => 0))), (q4, .inl (cA, 60, .inl (fun _ => 0)))] H := hP
  have hD : va_D A [(h0, .inr (0, [.ref q0, .ref q1, .ref q2, .ref q3, .ref q4, .null, .null, .null, .null, .null])), (q0, .inl (cA, 7, .inl (fun _ => 0))), (q1, .inl (cA, 48, .inl (fun _ => 0))), (q2, .inl (cA, 48, .inl (fun _ => 0))), (q3, .inl (cA, 48, .inl (fun _ => 0))), (q4, .inl (cA, 60, .inl (fun _ => 0)))] := hD
  refine lv_aload_n hx hb dX0_init_44 rfl (lv_at hl 0 rfl) ?_
  refine lv_bipush (v := nI 10) hx hb dX0_init_45 kb_10 ?_
  refine va_newa (atype := .int) (ty := .int) (N' := 10) (a0 := (10, .inl (fun _ => 0))) hx hb (hts _ q64) rfl hK hP hD hS hA (fun _ => rfl) (by decide) (by decide) (by decide) (Nat.le_of_ble_eq_true rfl) (Nat.le_of_ble_eq_true rfl) dX0_init_47 (fun q5 cB H hK hP hD hS => ?_)
  refine W.widen (k := 6) (n := 221) (Nat.le_refl _) (Nat.le_refl _) ?_
  have hcc : cB = cA := cA_eq hK
  rw [hcc] at hK hP hD
  have hK := hK.sub (tys' := [(cA, .int)]) [0] rfl
  have hP : va_P D vwCl [(h0, .inr (0, [.ref q0, .ref q1, .ref q2, .ref q3, .ref q4, .null, .null, .null, .null, .null])), (q0, .inl (cA, 7, .inl (fun _ => 0))), (q1, .inl (cA, 48, .inl (fun _ => 0))), (q2, .inl (cA, 48, .inl (fun _ => 0))), (q3, .inl (cA, 48, .inl (fun _ => 0))), (q4, .inl (cA, 60, .inl (fun _ => 0))), (q5, .inl (cA, 10, .inl (fun _ => 0)))] H := hP
  have hD : va_D A [(h0, .inr (0, [.ref q0, .ref q1, .ref q2, .ref q3, .ref q4, .null, .null, .null, .null, .null])), (q0, .inl (cA, 7, .inl (fun _ => 0))), (q1, .inl (cA, 48, .inl (fun _ => 0))), (q2, .inl (cA, 48, .inl (fun _ => 0))), (q3, .inl (cA, 48, .inl (fun _ => 0))), (q4, .inl (cA, 60, .inl (fun _ => 0))), (q5, .inl (cA, 10, .inl (fun _ => 0)))] := hD
  refine va_putF (D := D) (ci := 0) (v := .ref q5) (ty := .array .int) (C := RX0) (T := TX0) (N := 10) hx hb hts in_X0 tyX0 tyX0_ok nmX0 hown hK hP hD hS 0 rfl rfl 5 (by decide) (hts _ q38) (fun _ h9 => h9) rfl hin rfl (by decide +kernel) rfl rfl (Nat.le_of_ble_eq_true rfl) dX0_init_49 (fun H locs hP hD hS => ?_)
  have hP : va_P D vwCl [(h0, .inr (0, [.ref q0, .ref q1, .ref q2, .ref q3, .ref q4, .ref q5, .null, .null, .null, .null])), (q0, .inl (cA, 7, .inl (fun _ => 0))), (q1, .inl (cA, 48, .inl (fun _ => 0))), (q2, .inl (cA, 48, .inl (fun _ => 0))), (q3, .inl (cA, 48, .inl (fun _ => 0))), (q4, .inl (cA, 60, .inl (fun _ => 0))), (q5, .inl (cA, 10, .inl (fun _ => 0)))] H := hP
  have hD : va_D A [(h0, .inr (0, [.ref q0, .ref q1, .ref q2, .ref q3, .ref q4, .ref q5, .null, .null, .null, .null])), (q0, .inl (cA, 7, .inl (fun _ => 0))), (q1, .inl (cA, 48, .inl (fun _ => 0))), (q2, .inl (cA, 48, .inl (fun _ => 0))), (q3, .inl (cA, 48, .inl (fun _ => 0))), (q4, .inl (cA, 60, .inl (fun _ => 0))), (q5, .inl (cA, 10, .inl (fun _ => 0)))] := hD
  refine lv_aload_n hx hb dX0_init_52 rfl (lv_at hl 0 rfl) ?_
  refine lv_bipush (v := nI 10) hx hb dX0_init_53 kb_10 ?_
  refine va_newa (atype := .int) (ty := .int) (N' := 10) (a0 := (10, .inl (fun _ => 0))) hx hb (hts _ q64) rfl hK hP hD hS hA (fun _ => rfl) (by decide) (by decide) (by decide) (Nat.le_of_ble_eq_true rfl) (Nat.le_of_ble_eq_true rfl) dX0_init_55 (fun q6 cB H hK hP hD hS => ?_)
  refine W.widen (k := 7) (n := 231) (Nat.le_refl _) (Nat.le_refl _) ?_
  have hcc : cB = cA := cA_eq hK
  rw [hcc] at hK hP hD
  have hK := hK.sub (tys' := [(cA, .int)]) [0] rfl
  have hP : va_P D vwCl [(h0, .inr (0, [.ref q0, .ref q1, .ref q2, .ref q3, .ref q4, .ref q5, .null, .null, .null, .null])), (q0, .inl (cA, 7, .inl (fun _ => 0))), (q1, .inl (cA, 48, .inl (fun _ => 0))), (q2, .inl (cA, 48, .inl (fun _ => 0))), (q3, .inl (cA, 48, .inl (fun _ => 0))), (q4, .inl (cA, 60, .inl (fun _ => 0))), (q5, .inl (cA, 10, .inl (fun _ => 0))), (q6, .inl (cA, 10, .inl (fun _ => 0)))] H := hP
  have hD : va_D A [(h0, .inr (0, [.ref q0, .ref q1, .ref q2, .ref q3, .ref q4, .ref q5, .null, .null, .null, .null])), (q0, .inl (cA, 7, .inl (fun _ => 0))), (q1, .inl (cA, 48, .inl (fun _ => 0))), (q2, .inl (cA, 48, .inl (fun _ => 0))), (q3, .inl (cA, 48, .inl (fun _ => 0))), (q4, .inl (cA, 60, .inl (fun _ => 0))), (q5, .inl (cA, 10, .inl (fun _ => 0))), (q6, .inl (cA, 10, .inl (fun _ => 0)))] := hD
  refine va_putF (D := D) (ci := 0) (v := .ref q6) (ty := .array .int) (C := RX0) (T := TX0) (N := 10) hx hb hts in_X0 tyX0 tyX0_ok nmX0 hown hK hP hD hS 0 rfl rfl 6 (by decide) (hts _ q39) (fun _ h9 => h9) rfl hin rfl (by decide +kernel) rfl rfl (Nat.le_of_ble_eq_true rfl) dX0_init_57 (fun H locs hP hD hS => ?_)
  have hP : va_P D vwCl [(h0, .inr (0, [.ref q0, .ref q1, .ref q2, .ref q3, .ref q4, .ref q5, .ref q6, .null, .null, .null])), (q0, .inl (cA, 7, .inl (fun _ => 0))), (q1, .inl (cA, 48, .inl (fun _ => 0))), (q2, .inl (cA, 48, .inl (fun _ => 0))), (q3, .inl (cA, 48, .inl (fun _ => 0))), (q4, .inl (cA, 60, .inl (fun _ => 0))), (q5, .inl (cA, 10, .inl (fun _ => 0))), (q6, .inl (cA, 10, .inl (fun _ => 0)))] H := hP
  have hD : va_D A [(h0, .inr (0, [.ref q0, .ref q1, .ref q2, .ref q3, .ref q4, .ref q5, .ref q6, .null, .null, .null])), (q0, .inl (cA, 7, .inl (fun _ => 0))), (q1, .inl (cA, 48, .inl (fun _ => 0))), (q2, .inl (cA, 48, .inl (fun _ => 0))), (q3, .inl (cA, 48, .inl (fun _ => 0))), (q4, .inl (cA, 60, .inl (fun _ => 0))), (q5, .inl (cA, 10, .inl (fun _ => 0))), (q6, .inl (cA, 10, .inl (fun _ => 0)))] := hD
  refine lv_aload_n hx hb dX0_init_60 rfl (lv_at hl 0 rfl) ?_
  refine lv_bipush (v := nI 10) hx hb dX0_init_61 kb_10 ?_
  refine va_newa (atype := .int) (ty := .int) (N' := 10) (a0 := (10, .inl (fun _ => 0))) hx hb (hts _ q64) rfl hK hP hD hS hA (fun _ => rfl) (by decide) (by decide) (by decide) (Nat.le_of_ble_eq_true rfl) (Nat.le_of_ble_eq_true rfl) dX0_init_63 (fun q7 cB H hK hP hD hS => ?_)
  refine W.widen (k := 8) (n := 241) (Nat.le_refl _) (Nat.le_refl _) ?_
  have hcc : cB = cA := cA_eq hK
  rw [hcc] at hK hP hD
  have hK := hK.sub (tys' := [(cA, .int)]) [0] rfl
  have hP : va_P D vwCl [(h0, .inr (0, [.ref q0, .ref q1, .ref q2, .ref q3, .ref q4, .ref q5, .ref q6, .null, .null, .null])), (q0, .inl (cA, 7, .inl (fun _ => 0))), (q1, .inl (cA, 48, .inl (fun _ => 0))), (q2, .inl (cA, 48, .inl (fun _ => 0))), (q3, .inl (cA, 48, .inl (fun _ => 0))), (q4, .inl (cA, 60, .inl (fun _ => 0))), (q5, .inl (cA, 10, .inl (fun _ => 0))), (q6, .inl (cA, 10, .inl (fun _ => 0))), (q7, .inl (cA, 10, .inl (fun _ => 0)))] H := hP
  have hD : va_D A [(h0, .inr (0, [.ref q0, .ref q1, .ref q2, .ref q3, .ref q4, .ref q5, .ref q6, .null, .null, .null])), (q0, .inl (cA, 7, .inl (fun _ => 0))), (q1, .inl (cA, 48, .inl (fun _ => 0))), (q2, .inl (cA, 48, .inl (fun _ => 0))), (q3, .inl (cA, 48, .inl (fun _ => 0))), (q4, .inl (cA, 60, .inl (fun _ => 0))), (q5, .inl (cA, 10, .inl (fun _ => 0))), (q6, .inl (cA, 10, .inl (fun _ => 0))), (q7, .inl (cA, 10, .inl (fun _ => 0)))] := hD
  refine va_putF (D := D) (ci := 0) (v := .ref q7) (ty := .array .int) (C := RX0) (T := TX0) (N := 10) hx hb hts in_X0 tyX0 tyX0_ok nmX0 hown hK hP hD hS 0 rfl rfl 7 (by decide) (hts _ q40) (fun _ h9 => h9) rfl hin rfl (by decide +kernel) rfl rfl (Nat.le_of_ble_eq_true rfl) dX0_init_65 (fun H locs hP hD hS => ?_)
  have hP : va_P D vwCl [(h0, .inr (0, [.ref q0, .ref q1, .ref q2, .ref q3, .ref q4, .ref q5, .ref q6, .ref q7, .null, .null])), (q0, .inl (cA, 7, .inl (fun _ => 0))), (q1, .inl (cA, 48, .inl (fun _ => 0))), (q2, .inl (cA, 48, .inl (fun _ => 0))), (q3, .inl (cA, 48, .inl (fun _ => 0))), (q4, .inl (cA, 60, .inl (fun _ => 0))), (q5, .inl (cA, 10, .inl (fun _ => 0))), (q6, .inl (cA, 10, .inl (fun _ => 0))), (q7, .inl (cA, 10, .inl (fun _ => 0)))] H := hP
  have hD : va_D A [(h0, .inr (0, [.ref q0, .ref q1, .ref q2, .ref q3, .ref q4, .ref q5, .ref q6, .ref q7, .null, .null])), (q0, .inl (cA, 7, .inl (fun _ => 0))), (q1, .inl (cA, 48, .inl (fun _ => 0))), (q2, .inl (cA, 48, .inl (fun _ => 0))), (q3, .inl (cA, 48, .inl (fun _ => 0))), (q4, .inl (cA, 60, .inl (fun _ => 0))), (q5, .inl (cA, 10, .inl (fun _ => 0))), (q6, .inl (cA, 10, .inl (fun _ => 0))), (q7, .inl (cA, 10, .inl (fun _ => 0)))] := hD
  refine lv_aload_n hx hb dX0_init_68 rfl (lv_at hl 0 rfl) ?_
  refine lv_bipush (v := nI 48) hx hb dX0_init_69 kb_48 ?_
  refine va_newa (atype := .int) (ty := .int) (N' := 48) (a0 := (48, .inl (fun _ => 0))) hx hb (hts _ q64) rfl hK hP hD hS hA (fun _ => rfl) (by decide) (by decide) (by decide) (Nat.le_of_ble_eq_true rfl) (Nat.le_of_ble_eq_true rfl) dX0_init_71 (fun q8 cB H hK hP hD hS => ?_)
  refine W.widen (k := 9) (n := 289) (Nat.le_refl _) (Nat.le_refl _) ?_
  have hcc : cB = cA := cA_eq hK
  rw [hcc] at hK hP hD
  have hK := hK.sub (tys' := [(cA, .int)]) [0] rfl
  have hP : va_P D vwCl [(h0, .inr (0, [.ref q0, .ref q1, .ref q2, .ref q3, .ref q4, .ref q5, .ref q6, .ref q7, .null, .null])), (q0, .inl (cA, 7, .inl (fun _ => 0))), (q1, .inl (cA, 48, .inl (fun _ => 0))), (q2, .inl (cA, 48, .inl (fun _ => 0))), (q3, .inl (cA, 48, .inl (fun _ => 0))), (q4, .inl (cA, 60, .inl (fun _ => 0))), (q5, .inl (cA, 10, .inl (fun _ => 0))), (q6, .inl (cA, 10, .inl (fun _ => 0))), (q7, .inl (cA, 10, .inl (fun _ => 0))), (q8, .inl (cA, 48, .inl (fun _ => 0)))] H := hP
  have hD : va_D A [(h0, .inr (0, [.ref q0, .ref q1, .ref q2, .ref q3, .ref q4, .ref q5, .ref q6, .ref q7, .null, .null])), (q0, .inl (cA, 7, .inl (fun _ => 0))), (q1, .inl (cA, 48, .inl (fun _ => 0))), (q2, .inl (cA, 48, .inl (fun _ => 0))), (q3, .inl (cA, 48, .inl (fun _ => 0))), (q4, .inl (cA, 60, .inl (fun _ => 0))), (q5, .inl (cA, 10, .inl (fun _ => 0))), (q6, .inl (cA, 10, .inl (fun _ => 0))), (q7, .inl (cA, 10, .inl (fun _ => 0))), (q8, .inl (cA, 48, .inl (fun _ => 0)))] := hD
  refine va_putF (D := D) (ci := 0) (v := .ref q8) (ty := .array .int) (C := RX0) (T := TX0) (N := 10) hx hb hts in_X0 tyX0 tyX0_ok nmX0 hown hK hP hD hS 0 rfl rfl 8 (by decide) (hts _ q41) (fun _ h9 => h9) rfl hin rfl (by decide +kernel) rfl rfl (Nat.le_of_ble_eq_true rfl) dX0_init_73 (fun H locs hP hD hS => ?_)
  have hP : va_P D vwCl [(h0, .inr (0, [.ref q0, .ref q1, .ref q2, .ref q3, .ref q4, .ref q5, .ref q6, .ref q7, .ref q8, .null])), (q0, .inl (cA, 7, .inl (fun _ => 0))), (q1, .inl (cA, 48, .inl (fun _ => 0))), (q2, .inl (cA, 48, .inl (fun _ => 0))), (q3, .inl (cA, 48, .inl (fun _ => 0))), (q4, .inl (cA, 60, .inl (fun _ => 0))), (q5, .inl (cA, 10, .inl (fun _ => 0))), (q6, .inl (cA, 10, .inl (fun _ => 0))), (q7, .inl (cA, 10, .inl (fun _ => 0))), (q8, .inl (cA, 48, .inl (fun _ => 0)))] H := hP
  have hD : va_D A [(h0, .inr (0, [.ref q0, .ref q1, .ref q2, .ref q3, .ref q4, .ref q5, .ref q6, .ref q7, .ref q8, .null])), (q0, .inl (cA, 7, .inl (fun _ => 0))), (q1, .inl (cA, 48, .inl (fun _ => 0))), (q2, .inl (cA, 48, .inl (fun _ => 0))), (q3, .inl (cA, 48, .inl (fun _ => 0))), (q4, .inl (cA, 60, .inl (fun _ => 0))), (q5, .inl (cA, 10, .inl (fun _ => 0))), (q6, .inl (cA, 10, .inl (fun _ => 0))), (q7, .inl (cA, 10, .inl (fun _ => 0))), (q8, .inl (cA, 48, .inl (fun _ => 0)))] := hD
  refine lv_aload_n hx hb dX0_init_76 rfl (lv_at hl 0 rfl) ?_
  refine lv_bipush (v := nI 48) hx hb dX0_init_77 kb_48 ?_
  refine va_newa (atype := .int) (ty := .int) (N' := 48) (a0 := (48, .inl (fun _ => 0))) hx hb (hts _ q64) rfl hK hP hD hS hA (fun _ => rfl) (by decide) (by decide) (by decide) (Nat.le_of_ble_eq_true rfl) (Nat.le_of_ble_eq_true rfl) dX0_init_79 (fun q9 cB H hK hP hD hS => ?_)
  refine W.widen (k := 10) (n := 337) (Nat.le_refl _) (Nat.le_refl _) ?_
  have hcc : cB = cA := cA_eq hK
  rw [hcc] at hK hP hD
  have hK := hK.sub (tys' := [(cA, .int)]) [0] rfl
  have hP : va_P D vwCl [(h0, .inr (0, [.ref q0, .ref q1, .ref q2, .ref q3, .ref q4, .ref q5, .ref q6, .ref q7, .ref q8, .null])), (q0, .inl (cA, 7, .inl (fun _ => 0))), (q1, .inl (cA, 48, .inl (fun _ => 0))), (q2, .inl (cA, 48, .inl (fun _ => 0))), (q3, .inl (cA, 48, .inl (fun _ => 0))), (q4, .inl (cA, 60, .inl (fun _ => 0))), (q5, .inl (cA, 10, .inl (fun _ => 0))), (q6, .inl (cA, 10, .inl (fun _ => 0))), (q7, .inl (cA, 10, .inl (fun _ => 0))), (q8, .inl (cA, 48, .inl (fun _ => 0))), (q9, .inl (cA, 48, .inl (fun _ => 0)))] H := hP
  have hD : va_D A [(h0, .inr (0, [.ref q0, .ref q1, .ref q2, .ref q3, .ref q4, .ref q5, .ref q6, .ref q7, .ref q8, .null])), (q0, .inl (cA, 7, .inl (fun _ => 0))), (q1, .inl (cA, 48, .inl (fun _ => 0))), (q2, .inl (cA, 48, .inl (fun _ => 0))), (q3, .inl (cA, 48, .inl (fun _ => 0))), (q4, .inl (cA, 60, .inl (fun _ => 0))), (q5, .inl (cA, 10, .inl (fun _ => 0))), (q6, .inl (cA, 10, .inl (fun _ => 0))), (q7, .inl (cA, 10, .inl (fun _ => 0))), (q8, .inl (cA, 48, .inl (fun _ => 0))), (q9, .inl (cA, 48, .inl (fun _ => 0)))] := hD
  refine va_putF (D := D) (ci := 0) (v := .ref q9) (ty := .array .int) (C := RX0) (T := TX0) (N := 10) hx hb hts in_X0 tyX0 tyX0_ok nmX0 hown hK hP hD hS 0 rfl rfl 9 (by decide) (hts _ q42) (fun _ h9 => h9) rfl hin rfl (by decide +kernel) rfl rfl (Nat.le_of_ble_eq_true rfl) dX0_init_81 (fun H locs hP hD hS => ?_)
  have hP : va_P D vwCl [(h0, .inr (0, [.ref q0, .ref q1, .ref q2, .ref q3, .ref q4, .ref q5, .ref q6, .ref q7, .ref q8, .ref q9])), (q0, .inl (cA, 7, .inl (fun _ => 0))), (q1, .inl (cA, 48, .inl (fun _ => 0))), (q2, .inl (cA, 48, .inl (fun _ => 0))), (q3, .inl (cA, 48, .inl (fun _ => 0))), (q4, .inl (cA, 60, .inl (fun _ => 0))), (q5, .inl (cA, 10, .inl (fun _ => 0))), (q6, .inl (cA, 10, .inl (fun _ => 0))), (q7, .inl (cA, 10, .inl (fun _ => 0))), (q8, .inl (cA, 48, .inl (fun _ => 0))), (q9, .inl (cA, 48, .inl (fun _ => 0)))] H := hP
  have hD : va_D A [(h0, .inr (0, [.ref q0, .ref q1, .ref q2, .ref q3, .ref q4, .ref q5, .ref q6, .ref q7, .ref q8, .ref q9])), (q0, .inl (cA, 7, .inl (fun _ => 0))), (q1, .inl (cA, 48, .inl (fun _ => 0))), (q2, .inl (cA, 48, .inl (fun _ => 0))), (q3, .inl (cA, 48, .inl (fun _ => 0))), (q4, .inl (cA, 60, .inl (fun _ => 0))), (q5, .inl (cA, 10, .inl (fun _ => 0))), (q6, .inl (cA, 10, .inl (fun _ => 0))), (q7, .inl (cA, 10, .inl (fun _ => 0))), (q8, .inl (cA, 48, .inl (fun _ => 0))), (q9, .inl (cA, 48, .inl (fun _ => 0)))] := hD
  have hP : va_P D vwCl (gw GX (fun k => [h0, q0, q1, q2, q3, q4, q5, q6, q7, q8, q9].getD k 0) cA S_0) H := hP
  have hD : va_D A (gw GX (fun k => [h0, q0, q1, q2, q3, q4, q5, q6, q7, q8, q9].getD k 0) cA S_0) := hD
  generalize hhe : (fun k => [h0, q0, q1, q2, q3, q4, q5, q6, q7, q8, q9].getD k 0) = h at hP hD
  have hh0 : h 0 = h0 := by rw [← hhe]; rfl
  have C : ig_C GX cX0_init 2 ({ frames := 1, cells := 10, slots := 337, locals := 12 }) none ((h, cA, D, A), (p, l, e, (headSpec (ws_ yX0_init cX0_init 2 none) ({ frames := 1, cells := 10, slots := 337, locals := 12 })).room, s), (m, ([Value.ref h0] : List Value).toArray, below, meth, c), (10, 337)) :=
    ⟨⟨hx, hb, hml, hown, hts⟩, hK, fun S' => va_D_addr (gw_addr S_0 S') hD, hA, rfl, hr, hlocks, GX_ok, Nat.le_refl _, Nat.le_refl _⟩
  have hL : ig_L ls 2 (h 0) [] := ⟨hl.1, hl.2.1, by rw [hh0]; exact lv_at hl 0 rfl, fun i x hx => (by cases hx)⟩
  have fin : ig_W GX 2 ((h, cA, D, A), (p, l, e, (headSpec (ws_ yX0_init cX0_init 2 none) ({ frames := 1, cells := 10, slots := 337, locals := 12 })).room, s), (m, ([Value.ref h0] : List Value).toArray, below, meth, c), (10, 337)) (MQ below (va_Qv (fun u : (Nat → Nat) × ClassId × il_S => u.1 0 = h0 ∧ RX a_0 u.2.2) (fun u t => va_P D vwCl (gw GX u.1 u.2.1 u.2.2) t.heap ∧ va_K D vwCl [(u.2.1, .int)] t ∧ va_D A (gw GX u.1 u.2.1 u.2.2)) A) ([Value.ref h0] : List Value).toArray s 10 337 A) S_0 84 [] [] := by
    refine ig_ic C dX0_init_84 ki_0 ?_
    refine ig_isn C 0 [nI (0)] dX0_init_85 rfl rfl rfl rfl ?_
    refine ig_st (mapF_0 (k := 4) (lo := 0) (f := f_no)).symm ?_
    refine mX_init_1 C ?_ 60 0 rfl
    refine ig_ic C dX0_init_106 ki_0 ?_
    refine ig_isn C 0 [nI (0)] dX0_init_107 rfl rfl rfl rfl ?_
    refine ig_st ini3_0.symm ?_
    refine mX_init_2 C ?_ 10 0 rfl
    refine ig_ic C dX0_init_144 ki_0 ?_
    refine ig_isn C 0 [nI (0)] dX0_init_145 rfl rfl rfl rfl ?_
    refine ig_st (mapF_0 (k := 2) (lo := 0) (f := f_no)).symm ?_
    refine mX_init_3 C ?_ 48 0 rfl
    intro H locs ls hP hS hl
    exact W.vret hx hb hr (fun t ht hW => ⟨⟨(h, cA, SX_0), rfl, ⟨hh0, RX_0⟩, by rw [ht]; exact hP, va_K.moved hW.alike hK, va_D_addr (gw_addr S_0 SX_0) hD⟩, hS.F ht⟩) hS.2.2 dX0_init_166 hlocks
  exact fin H locs ls hP hS hL

set_option maxHeartbeats 1000000 in
set_option maxRecDepth 100000 in
theorem mM_init (l : Launch) (D : va_G) (h0 sz : Nat) : Met l yX1_init (ws_ yX1_init cX1_init 2 none) ({ frames := 1, cells := 4, slots := 162, locals := 12 }) (va_Pc [.ref h0] (fun U => U.heap.size = sz ∧ va_P D vwCl [(h0, .inr (1, [.null, .null, .null, .null]))] U.heap ∧ va_K D vwCl [] U ∧ va_D (fun _ => True) [(h0, .inr (1, [.null, .null, .null, .null]))])) (va_Qv (fun u : (Nat → Nat) × ClassId × il_S => u.1 0 = h0 ∧ RM a_0 u.2.2) (fun u t => va_P D vwCl (gw GM u.1 u.2.1 u.2.2) t.heap ∧ va_K D vwCl [(u.2.1, .int)] t ∧ va_D (va_A [(h0, .inr (1, [.null, .null, .null, .null]))] sz) (gw GM u.1 u.2.1 u.2.2)) (va_A [(h0, .inr (1, [.null, .null, .null, .null]))] sz)) 4 162 (va_A [(h0, .inr (1, [.null, .null, .null, .null]))] sz) := by
  refine Met.ofW (cc := cX1_init) (maxL := 2) (ret := none) (by decide) rfl ?_
  intro p e s m args below meth c s₁ B hml hv
  obtain ⟨rfl, hsz, hP, hK, hD0⟩ := hv
  have hx := B.exec
  have hb := B.bytes
  have hr := B.returns
  have hts := atoms_spec (ws := ws_ yX1_init cX1_init 2 none) B.pre
  have hts : ∀ w ∈ lw_all, w.before _ s = true := fun w h => hts w (List.mem_cons_of_mem _ h)
  have hown : s.vm.findClass RX1 = some m.cls := findClass_of_methodNamed B.named
  have hlocks := B.notSynchronized
  have hin : meth.name = "<init>" := (name_of_methodNamed B.named B.method).1
  subst hsz
  have hD := hD0.self (sz := s.heap.size)
  generalize hAe : va_A [(h0, .inr (1, [.null, .null, .null, .null]))] s.heap.size = A at hD ⊢
  have hA : ∀ q : Nat, s.heap.size ≤ q → A q := fun q h => by rw [← hAe]; exact Or.inr h
  have hS : va_S A s.heap s.heap [] := va_S.rf
  have hP : va_P D vwCl [(h0, .inr (1, [.null, .null, .null, .null]))] s.heap := hP
  have hl := lv_entry ([.ref h0]) (n := 2) (Nat.le_of_ble_eq_true rfl)
  rw [lg_entry_eq]
  generalize (lg_sl ([.ref h0]) ++ List.replicate (2 - (lg_sl ([.ref h0])).length) Slot.unset).toArray = ls at hl ⊢
  have hl : lv_has ls 2 [(0, .ref h0)] := hl
  refine lv_aload_n hx hb dX1_init_0 rfl (lv_at hl 0 rfl) ?_
  refine W.objInit hx hb hown (hts _ q202) (hts _ q31) (hts _ q32) rfl (by rw [hml]; exact hl.1) rfl dX1_init_1 (Nat.le_of_ble_eq_true rfl) (Nat.le_of_ble_eq_true rfl) ?_
  refine W.eq (g2 := F0 m 4 ls []) rfl ?_
  refine lv_aload_n hx hb dX1_init_4 rfl (lv_at hl 0 rfl) ?_
  refine lv_bipush (v := nI 48) hx hb dX1_init_5 kb_48 ?_
  refine va_newa (atype := .int) (ty := .int) (N' := 48) (a0 := (48, .inl (fun _ => 0))) hx hb (hts _ q64) rfl hK hP hD hS hA (fun _ => rfl) (by decide) (by decide) (by decide) (Nat.le_of_ble_eq_true rfl) (Nat.le_of_ble_eq_true rfl) dX1_init_7 (fun q0 cA H hK hP hD hS => ?_)
  refine W.widen (k := 1) (n := 48) (Nat.le_refl _) (Nat.le_refl _) ?_
  have hP : va_P D vwCl [(h0, .inr (1, [.null, .null, .null, .null])), (q0, .inl (cA, 48, .inl (fun _ => 0)))] H := hP
  have hD : va_D A [(h0, .inr (1, [.null, .null, .null, .null])), (q0, .inl (cA, 48, .inl (fun _ => 0)))] := hD
  refine va_putF (D := D) (ci := 1) (v := .ref q0) (ty := .array .int) (C := RX1) (T := TX1) (N := 4) hx hb hts in_X1 tyX1 tyX1_ok nmX1 hown hK hP hD hS 0 rfl rfl 0 (by decide) (hts _ q203) (fun _ h9 => h9) rfl hin rfl (by decide +kernel) rfl rfl (Nat.le_of_ble_eq_true rfl) dX1_init_9 (fun H locs hP hD hS => ?_)
  have hP : va_P D vwCl [(h0, .inr (1, [.ref q0, .null, .null, .null])), (q0, .inl (cA, 48, .inl (fun _ => 0)))] H := hP
  have hD : va_D A [(h0, .inr (1, [.ref q0, .null, .null, .null])), (q0, .inl (cA, 48, .inl (fun _ => 0)))] := hD
  refine lv_aload_n hx hb dX1_init_12 rfl (lv_at hl 0 rfl) ?_
  refine lv_bipush (v := nI 48) hx hb dX1_init_13 kb_48 ?_
  refine va_newa (atype := .int) (ty := .int) (N' := 48) (a0 := (48, .inl (fun _ => 0))) hx hb (hts _ q64) rfl hK hP hD hS hA (fun _ => rfl) (by decide) (by decide) (by decide) (Nat.le_of_ble_eq_true rfl) (Nat.le_of_ble_eq_true rfl) dX1_init_15 (fun q1 cB H hK hP hD hS => ?_)
  refine W.widen (k := 2) (n := 96) (Nat.le_refl _) (Nat.le_refl _) ?_
  have hcc : cB = cA := cA_eq hK
  rw [hcc] at hK hP hD
  have hK := hK.sub (tys' := [(cA, .int)]) [0] rfl
  have hP : va_P D vwCl [(h0, .inr (1, [.ref q0, .null, .null, .null])), (q0, .inl (cA, 48, .inl (fun _ => 0))), (q1, .inl (cA, 48, .inl (fun _ => 0)))] H := hP
  have hD : va_D A [(h0, .inr (1, [.ref q0, .null, .null, .null])), (q0, .inl (cA, 48, .inl (fun _ => 0))), (q1, .inl (cA, 48, .inl (fun _ => 0)))] := hD
  refine va_putF (D := D) (ci := 1) (v := .ref q1) (ty := .array .int) (C := RX1) (T := TX1) (N := 4) hx hb hts in_X1 tyX1 tyX1_ok nmX1 hown hK hP hD hS 0 rfl rfl 1 (by decide) (hts _ q204) (fun _ h9 => h9) rfl hin rfl (by decide +kernel) rfl rfl (Nat.le_of_ble_eq_true rfl) dX1_init_17 (fun H locs hP hD hS => ?_)
  have hP : va_P D vwCl [(h0, .inr (1, [.ref q0, .ref q1, .null, .null])), (q0, .inl (cA, 48, .inl (fun _ => 0))), (q1, .inl (cA, 48, .inl (fun _ => 0)))] H := hP
  have hD : va_D A [(h0, .inr (1, [.ref q0, .ref q1, .null, .null])), (q0, .inl (cA, 48, .inl (fun _ => 0))), (q1, .inl (cA, 48, .inl (fun _ => 0)))] := hD
  refine lv_aload_n hx hb dX1_init_20 rfl (lv_at hl 0 rfl) ?_
  refine lv_bipush (v := nI 6) hx hb dX1_init_21 kb_6 ?_
  refine va_newa (atype := .int) (ty := .int) (N' := 6) (a0 := (6, .inl (fun _ => 0))) hx hb (hts _ q64) rfl hK hP hD hS hA (fun _ => rfl) (by decide) (by decide) (by decide) (Nat.le_of_ble_eq_true rfl) (Nat.le_of_ble_eq_true rfl) dX1_init_23 (fun q2 cB H hK hP hD hS => ?_)
  refine W.widen (k := 3) (n := 102) (Nat.le_refl _) (Nat.le_refl _) ?_
  have hcc : cB = cA := cA_eq hK
  rw [hcc] at hK hP hD
  have hK := hK.sub (tys' := [(cA, .int)]) [0] rfl
  have hP : va_P D vwCl [(h0, .inr (1, [.ref q0, .ref q1, .null, .null])), (q0, .inl (cA, 48, .inl (fun _ => 0))), (q1, .inl (cA, 48, .inl (fun _ => 0))), (q2, .inl (cA, 6, .inl (fun _ => 0)))] H := hP
  have hD : va_D A [(h0, .inr (1, [.ref q0, .ref q1, .null, .null])), (q0, .inl (cA, 48, .inl (fun _ => 0))), (q1, .inl (cA, 48, .inl (fun _ => 0))), (q2, .inl (cA, 6, .inl (fun _ => 0)))] := hD
  refine va_putF (D := D) (ci := 1) (v := .ref q2) (ty := .array .int) (C := RX1) (T := TX1) (N := 4) hx hb hts in_X1 tyX1 tyX1_ok nmX1 hown hK hP hD hS 0 rfl rfl 2 (by decide) (hts _ q205) (fun _ h9 => h9) rfl hin rfl (by decide +kernel) rfl rfl (Nat.le_of_ble_eq_true rfl) dX1_init_25 (fun H locs hP hD hS => ?_)
  have hP : va_P D vwCl [(h0, .inr (1, [.ref q0, .ref q1, .ref q2, .null])), (q0, .inl (cA, 48, .inl (fun _ => 0))), (q1, .inl (cA, 48, .inl (fun _ => 0))), (q2, .inl (cA, 6, .inl (fun _ => 0)))] H := hP
  have hD : va_D A [(h0, .inr (1, [.ref q0, .ref q1, .ref q2, .null])), (q0, .inl (cA, 48, .inl (fun _ => 0))), (q1, .inl (cA, 48, .inl (fun _ => 0))), (q2, .inl (cA, 6, .inl (fun _ => 0)))] := hD
  refine lv_aload_n hx hb dX1_init_28 rfl (lv_at hl 0 rfl) ?_
  refine lv_bipush (v := nI 60) hx hb dX1_init_29 kb_60 ?_
  refine va_newa (atype := .int) (ty := .int) (N' := 60) (a0 := (60, .inl (fun _ => 0))) hx hb (hts _ q64) rfl hK hP hD hS hA (fun _ => rfl) (by decide) (by decide) (by decide) (Nat.le_of_ble_eq_true rfl) (Nat.le_of_ble_eq_true rfl) dX1_init_31 (fun q3 cB H hK hP hD hS => ?_)
  refine W.widen (k := 4) (n := 162) (Nat.le_refl _) (Nat.le_refl _) ?_
  have hcc : cB = cA := cA_eq hK
  rw [hcc] at hK hP hD
  have hK := hK.sub (tys' := [(cA, .int)]) [0] rfl
  have hP : va_P D vwCl [(h0, .inr (1, [.ref q0, .ref q1, .ref q2, .null])), (q0, .inl (cA, 48, .inl (fun _ => 0))), (q1, .inl (cA, 48, .inl (fun _ => 0))), (q2, .inl (cA, 6, .inl (fun _ => 0))), (q3, .inl (cA, 60, .inl (fun _ => 0)))] H := hP
  have hD : va_D A [(h0, .inr (1, [.ref q0, .ref q1, .ref q2, .null])), (q0, .inl (cA, 48, .inl (fun _ => 0))), (q1, .inl (cA, 48, .inl (fun _ => 0))), (q2, .inl (cA, 6, .inl (fun _ => 0))), (q3, .inl (cA, 60, .inl (fun _ => 0)))] := hD
  refine va_putF (D := D) (ci := 1) (v := .ref q3) (ty := .array .int) (C := RX1) (T := TX1) (N := 4) hx hb hts in_X1 tyX1 tyX1_ok nmX1 hown hK hP hD hS 0 rfl rfl 3 (by decide) (hts _ q206) (fun _ h9 => h9) rfl hin rfl (by decide +kernel) rfl rfl (Nat.le_of_ble_eq_true rfl) dX1_init_33 (fun H locs hP hD hS => ?_)
  have hP : va_P D vwCl [(h0, .inr (1, [.ref q0, .ref q1, .ref q2, .ref q3])), (q0, .inl (cA, 48, .inl (fun _ => 0))), (q1, .inl (cA, 48, .inl (fun _ => 0))), (q2, .inl (cA, 6, .inl (fun _ => 0))), (q3, .inl (cA, 60, .inl (fun _ => 0)))] H := hP
  have hD : va_D A [(h0, .inr (1, [.ref q0, .ref q1, .ref q2, .ref q3])), (q0, .inl (cA, 48, .inl (fun _ => 0))), (q1, .inl (cA, 48, .inl (fun _ => 0))), (q2, .inl (cA, 6, .inl (fun _ => 0))), (q3, .inl (cA, 60, .inl (fun _ => 0)))] := hD
  have hP : va_P D vwCl (gw GM (fun k => [h0, q0, q1, q2, q3].getD k 0) cA S_0) H := hP
  have hD : va_D A (gw GM (fun k => [h0, q0, q1, q2, q3].getD k 0) cA S_0) := hD
  generalize hhe : (fun k => [h0, q0, q1, q2, q3].getD k 0) = h at hP hD
  have hh0 : h 0 = h0 := by rw [← hhe]; rfl
  have C : ig_C GM cX1_init 2 ({ frames := 1, cells := 4, slots := 162, locals := 12 }) none ((h, cA, D, A), (p, l, e, (headSpec (ws_ yX1_init cX1_init 2 none) ({ frames := 1, cells := 4, slots := 162, locals := 12 })).room, s), (m, ([Value.ref h0] : List Value).toArray, below, meth, c), (4, 162)) :=
    ⟨⟨hx, hb, hml, hown, hts⟩, hK, fun S' => va_D_addr (gw_addr S_0 S') hD, hA, rfl, hr, hlocks, GM_ok, Nat.le_refl _, Nat.le_refl _⟩
  have hL : ig_L ls 2 (h 0) [] := ⟨hl.1, hl.2.1, by rw [hh0]; exact lv_at hl 0 rfl, fun i x hx => (by cases hx)⟩
  have fin : ig_W GM 2 ((h, cA, D, A), (p, l, e, (headSpec (ws_ yX1_init cX1_init 2 none) ({ frames := 1, cells := 4, slots := 162, locals := 12 })).room, s), (m, ([Value.ref h0] : List Value).toArray, below, meth, c), (4, 162)) (MQ below (va_Qv (fun u : (Nat → Nat) × ClassId × il_S => u.1 0 = h0 ∧ RM a_0 u.2.2) (fun u t => va_P D vwCl (gw GM u.1 u.2.1 u.2.2) t.heap ∧ va_K D vwCl [(u.2.1, .int)] t ∧ va_D A (gw GM u.1 u.2.1 u.2.2)) A) ([Value.ref h0] : List Value).toArray s 4 162 A) S_0 36 [] [] := by
    refine ig_ic C dX1_init_36 ki_0 ?_
    refine ig_isn C 0 [nI (0)] dX1_init_37 rfl rfl rfl rfl ?_
    refine ig_st (mapF_0 (k := 3) (lo := 0) (f := f_no)).symm ?_
    refine mM_init_1 C ?_ 60 0 rfl
    intro H locs ls hP hS hl
    exact W.vret hx hb hr (fun t ht hW => ⟨⟨(h, cA, SM_0), rfl, ⟨hh0, RM_0⟩, by rw [ht]; exact hP, va_K.moved hW.alike hK, va_D_addr (gw_addr S_0 SM_0) hD⟩, hS.F ht⟩) hS.2.2 dX1_init_58 hlocks
  exact fin H locs ls hP hS hL
end
section
/-! THE CLAIM OUT OF ONE WALK OF THE LAW'S BODY. Your part is whole_start (and what it stands on); all else here is the same for every law, but numbers. -/
def lw_P (b : Addr) (xs : List Int32) (args : Array Value) (s : State) : Prop := args = #[.ref b] ∧ s.IntsAt b xs ∧ xs.length ≤ 256 ∧ (Jvm.Cond.and given_1 narrow_1).before args s = true
def lw_Q (_ : Array Value) (s : State) (o : Outcome) (t : State) : Prop := o = .returned (some (.int 1)) ∧ Framed s o t [] 600000 7290000
def lw_Z (below : List Frame) (a : Array Value) (s : State) : State → Prop := fun t => ∃ o, t.status = .running ∧ Ended t below o ∧ lw_Q a s o t
/-- the law's own end, with 1 on the stack, nothing written that was there before, its room as the claim has it -/
theorem lw_ret {p : Program} {l : Launch} {e : Env} {s : State} {m : MethodId} {below : List Frame} {meth : Method} {c : Code} {b : Nat} (hx : p.tables.exec = Jvm.exec) (hb : c.code = code) (hr : meth.sig.returnType = ret) (hlocks : meth.locks = false) {pc : Nat} {H : Heap} {ls : Array Slot} (hdg : decode code pc = .ok (.ireturn, 1)) : W p l e room_1 s m #[Value.ref b] below meth c H [] 600000 7290000 (lw_Z below #[Value.ref b] s) (F0 m pc ls [.int 1]) := by
  intro T hT X
  obtain ⟨fs, hret, hrun, hended, hW, hframe⟩ := X.leave (v := some (.int 1)) (hlocks := hlocks) (fun h => by rw [hr] at h; cases h)
  have hmeth' : T.vm.method? m = some meth := X.method'
  refine ⟨T.setFrames fs, ?_, .returned (some (.int 1)), hrun, hended, rfl, ⟨_, rfl⟩, hW, hframe⟩
  jvm_step X.here [X.here.top, hx, hb, hdg, hmeth', hr, ret, narrow_b1]
  (try refine ⟨rfl, ?_⟩); (try refine ⟨rfl, ?_⟩)
  first | (intro acts; rw [hret _ acts rfl rfl rfl]) | rw [hret _ _ rfl rfl rfl]
  exact Steps.refl _
/-- what holds at the law's entry: the machine, the code, the tables' words (any of lw_tbl by 'hts w (by decide +kernel)'), the script of L ints xs at the cell b, what the Statement gives of the start (any of its parts by flat_of_before) -/
def lw_At (p : Program) (s : State) (m : MethodId) (meth : Method) (c : Code) (b L : Nat) (xs : Nat → Int32) : Prop :=
  p.tables.exec = Jvm.exec ∧ c.code = code ∧ meth.sig.returnType = ret ∧ c.maxLocals = 4 ∧ s.vm.findClass R_law = some m.cls ∧ (∀ w ∈ lw_tbl, w.before #[Value.ref b] s = true) ∧ va_X b L xs s s.heap ∧ b < s.heap.size ∧ meth.locks = false ∧ (Jvm.Cond.and given_1 narrow_1).before #[Value.ref b] s = true
/-! THE LAW: where it runs -/
abbrev il_Y : Type := ((Nat → Nat) × ClassId × (Nat → Nat) × ClassId × va_G) × (Program × Launch × Env × State × MethodId) × (List Frame × Method × Code) × (Nat × Nat × (Nat → Int32))
def yh (Y : il_Y) : Nat → Nat := Y.1.1
def yc (Y : il_Y) : ClassId := Y.1.2.1
def yg (Y : il_Y) : Nat → Nat := Y.1.2.2.1
def yd (Y : il_Y) : ClassId := Y.1.2.2.2.1
def yD (Y : il_Y) : va_G := Y.1.2.2.2.2
def yp (Y : il_Y) : Program := Y.2.1.1
def yl (Y : il_Y) : Launch := Y.2.1.2.1
def ye (Y : il_Y) : Env := Y.2.1.2.2.1
def ys (Y : il_Y) : State := Y.2.1.2.2.2.1
def ym (Y : il_Y) : MethodId := Y.2.1.2.2.2.2
def yb (Y : il_Y) : List Frame := Y.2.2.1.1
def yt (Y : il_Y) : Method := Y.2.2.1.2.1
def yo (Y : il_Y) : Code := Y.2.2.1.2.2
def ya (Y : il_Y) : Nat := Y.2.2.2.1
def yL (Y : il_Y) : Nat := Y.2.2.2.2.1
def yx (Y : il_Y) : Nat → Int32 := Y.2.2.2.2.2
def lg_A (Y : il_Y) : Nat → Prop := fun q => (ys Y).heap.size ≤ q
def lg_C (Y : il_Y) : Prop := lw_At (yp Y) (ys Y) (ym Y) (yt Y) (yo Y) (ya Y) (yL Y) (yx Y) ∧ va_K (yD Y) vwCl [(yc Y, .int), (yd Y, .int)] (ys Y) ∧ (∀ S, va_D (lg_A Y) (gw GX (yh Y) (yc Y) S)) ∧ (∀ S, va_D (lg_A Y) (gw GM (yg Y) (yd Y) S)) ∧ (∀ (S T : il_S) (i j : Nat) (x y : Nat × va_E), (gw GX (yh Y) (yc Y) S)[i]? = some x → (gw GM (yg Y) (yd Y) T)[j]? = some y → x.1 ≠ y.1) ∧ yL Y ≤ 256
def lg_W (Y : il_Y) (SX SM : il_S) (pc i : Nat) (st : List Value) : Prop :=
  ∀ (H : Heap) (locs : List Loc) (ls : Array Slot), va_P (yD Y) vwCl (gw GX (yh Y) (yc Y) SX) H → va_P (yD Y) vwCl (gw GM (yg Y) (yd Y) SM) H → va_S (lg_A Y) (ys Y).heap H locs → lv_has ls 4 [(0, .ref (ya Y)), (1, .ref (yh Y 0)), (2, .ref (yg Y 0)), (3, .int (nI i))] →
    W (yp Y) (yl Y) (ye Y) room_1 (ys Y) (ym Y) #[Value.ref (ya Y)] (yb Y) (yt Y) (yo Y) H locs 16 513 (lw_Z (yb Y) #[Value.ref (ya Y)] (ys Y)) (F0 (ym Y) pc ls st)
section LawRows
variable {Y : il_Y} {SX SM : il_S} {pc i : Nat} {st : List Value}
theorem lg_fix (C : lg_C Y) : CallFix (yp Y) (ym Y) (yo Y) code 4 (ys Y) #[Value.ref (ya Y)] lw_all R_law := ⟨C.1.1, C.1.2.1, C.1.2.2.2.1, C.1.2.2.2.2.1, fun w h => C.1.2.2.2.2.2.1 w (lw_all_tbl h)⟩
theorem lg_al (C : lg_C Y) {k : Fin 4} (j : Nat) (a : Nat) (hdg : decode code pc = .ok (.aload_n k, 1)) (hk : (k : Nat) = j) (ha : ([(0, .ref (ya Y)), (1, .ref (yh Y 0)), (2, .ref (yg Y 0)), (3, .int (nI i))] : List (Nat × Value))[j]? = some (j, .ref a)) (kk : lg_W Y SX SM (pc + 1) i (.ref a :: st)) : lg_W Y SX SM pc i st :=
  fun H locs ls hP hQ hS hl => lv_aload_n C.1.1 C.1.2.1 hdg hk (lv_at hl j ha) (kk H locs ls hP hQ hS hl)
theorem lg_il (C : lg_C Y) (hdg : decode code pc = .ok (.iload_n 3, 1)) (kk : lg_W Y SX SM (pc + 1) i (.int (nI i) :: st)) : lg_W Y SX SM pc i st :=
  fun H locs ls hP hQ hS hl => lv_iload_n C.1.1 C.1.2.1 hdg rfl (lv_at hl 3 rfl) (kk H locs ls hP hQ hS hl)
theorem lg_ic (C : lg_C Y) {n : Int} {v : Int32} (hdg : decode code pc = .ok (.iconst n, 1)) (hv : Int32.ofInt n = v) (kk : lg_W Y SX SM (pc + 1) i (.int v :: st)) : lg_W Y SX SM pc i st :=
  fun H locs ls hP hQ hS hl => lv_iconst C.1.1 C.1.2.1 hdg hv (kk H locs ls hP hQ hS hl)
theorem lg_bp (C : lg_C Y) {n : Int} {v : Int32} (hdg : decode code pc = .ok (.bipush n, 2)) (hv : (Int8.ofInt n).toInt32 = v) (kk : lg_W Y SX SM (pc + 2) i (.int v :: st)) : lg_W Y SX SM pc i st :=
  fun H locs ls hP hQ hS hl => lv_bipush C.1.1 C.1.2.1 hdg hv (kk H locs ls hP hQ hS hl)
theorem lg_iadd (C : lg_C Y) {a b : Nat} (hdg : decode code pc = .ok (.iadd, 1)) (kk : lg_W Y SX SM (pc + 1) i (.int (nI (a + b)) :: st)) : lg_W Y SX SM pc i (.int (nI b) :: .int (nI a) :: st) :=
  fun H locs ls hP hQ hS hl => lv_iadd C.1.1 C.1.2.1 hdg (by rw [nI_add]; exact kk H locs ls hP hQ hS hl)
theorem lg_isub (C : lg_C Y) {x y : Int32} (hdg : decode code pc = .ok (.isub, 1)) (kk : lg_W Y SX SM (pc + 1) i (.int (x - y) :: st)) : lg_W Y SX SM pc i (.int y :: .int x :: st) :=
  fun H locs ls hP hQ hS hl => lv_isub C.1.1 C.1.2.1 hdg (kk H locs ls hP hQ hS hl)
theorem lg_iand (C : lg_C Y) {x y : Int32} (hdg : decode code pc = .ok (.iand, 1)) (kk : lg_W Y SX SM (pc + 1) i (.int (x &&& y) :: st)) : lg_W Y SX SM pc i (.int y :: .int x :: st) :=
  fun H locs ls hP hQ hS hl => lv_iand C.1.1 C.1.2.1 hdg (kk H locs ls hP hQ hS hl)
theorem lg_nb (C : lg_C Y) : ¬ lg_A Y (ya Y) := fun h => Nat.lt_irrefl _ (Nat.lt_of_lt_of_le C.1.2.2.2.2.2.2.2.1 h)
theorem lg_ld (C : lg_C Y) {j : Nat} (hj : j < yL Y) (hdg : decode code pc = .ok (.iaload, 1)) (kk : lg_W Y SX SM (pc + 1) i (.int (yx Y j) :: st)) : lg_W Y SX SM pc i (.int (nI j) :: .ref (ya Y) :: st) := by
  intro H locs ls hP hQ hS hl
  have hL := C.2.2.2.2.2
  refine va_sld C.1.1 C.1.2.1 C.1.2.2.2.2.2.2.1 C.1.2.2.2.2.2.2.2.1 (lg_nb C) hS (vp_in_nI hj (by omega)) hdg ?_
  rw [nI_clamp (by omega)]
  exact kk H locs ls hP hQ hS hl
theorem lg_len (C : lg_C Y) (hdg : decode code pc = .ok (.arraylength, 1)) (kk : lg_W Y SX SM (pc + 1) i (.int (nI (yL Y)) :: st)) : lg_W Y SX SM pc i (.ref (ya Y) :: st) :=
  fun H locs ls hP hQ hS hl => va_slen C.1.1 C.1.2.1 C.1.2.2.2.2.2.2.1 C.1.2.2.2.2.2.2.2.1 (lg_nb C) hS hdg (kk H locs ls hP hQ hS hl)
theorem lg_top {x : Int32} (y : Int32) (h : x = y) (kk : lg_W Y SX SM pc i (.int y :: st)) : lg_W Y SX SM pc i (.int x :: st) := h ▸ kk
theorem lg_eqT (C : lg_C Y) {x y : Int32} {off : Int} (tgt : Nat) (hdg : decode code pc = .ok (.if_icmp .eq off, 3)) (ht : (pc : Int) + off = (tgt : Int)) (h : x = y) (kk : lg_W Y SX SM tgt i st) : lg_W Y SX SM pc i (.int y :: .int x :: st) :=
  fun H locs ls hP hQ hS hl => lv_icmp_eq C.1.1 C.1.2.1 hdg ht (fun _ => kk H locs ls hP hQ hS hl) (fun q => absurd h q)
theorem lg_gtT (C : lg_C Y) {x y : Int32} {off : Int} (tgt : Nat) (hdg : decode code pc = .ok (.if_icmp .gt off, 3)) (ht : (pc : Int) + off = (tgt : Int)) (h : y < x) (kk : lg_W Y SX SM tgt i st) : lg_W Y SX SM pc i (.int y :: .int x :: st) :=
  fun H locs ls hP hQ hS hl => lv_icmp_gt C.1.1 C.1.2.1 hdg ht (fun _ => kk H locs ls hP hQ hS hl) (fun q => absurd h q)
theorem lg_gtF (C : lg_C Y) {x y : Int32} {off : Int} (tgt : Nat) (hdg : decode code pc = .ok (.if_icmp .gt off, 3)) (ht : (pc : Int) + off = (tgt : Int)) (h : ¬ y < x) (kk : lg_W Y SX SM (pc + 3) i st) : lg_W Y SX SM pc i (.int y :: .int x :: st) :=
  fun H locs ls hP hQ hS hl => lv_icmp_gt C.1.1 C.1.2.1 hdg ht (fun q => absurd q h) (fun _ => kk H locs ls hP hQ hS hl)
theorem lg_goto (C : lg_C Y) {off : Int} (tgt : Nat) (hdg : decode code pc = .ok (.goto off, 3)) (ht : (pc : Int) + off = (tgt : Int)) (kk : lg_W Y SX SM tgt i st) : lg_W Y SX SM pc i st :=
  fun H locs ls hP hQ hS hl => lv_goto C.1.1 C.1.2.1 hdg ht (kk H locs ls hP hQ hS hl)
theorem lg_inc (C : lg_C Y) (hdg : decode code pc = .ok (.iinc 3 4, 3)) (kk : lg_W Y SX SM (pc + 3) (i + 4) st) : lg_W Y SX SM pc i st :=
  fun H locs ls hP hQ hS hl => lv_iinc (k := 3) (v := nI (i + 4)) (lv' := [(3, .int (nI (i + 4))), (0, .ref (ya Y)), (1, .ref (yh Y 0)), (2, .ref (yg Y 0))]) C.1.1 C.1.2.1 hdg hl rfl (nI_add i 4) (by decide) rfl (fun ls' h' => kk H locs ls' hP hQ hS (lv_sub h' [1, 2, 3, 0] rfl))
theorem lg_ret (C : lg_C Y) (hdg : decode code pc = .ok (.ireturn, 1)) : lg_W Y SX SM pc i [.int 1] := by
  intro H locs ls hP hQ hS hl
  refine va_forget (fun q hq => hS.2.2 q hq) ?_
  refine W.widen (k := 600000) (n := 7290000) (by decide) (by decide) ?_
  exact lw_ret C.1.1 C.1.2.1 C.1.2.2.1 C.1.2.2.2.2.2.2.2.2.1 hdg
theorem lg_tabIn (C : lg_C Y) {dflt lo hi : Int} {offs : Array Int} {len : Nat} {x : Int32} {off : Int} (tgt : Nat) (hdg : decode code pc = .ok (.tableswitch dflt lo hi offs, len)) (h1 : ¬ x.toInt < lo) (h2 : ¬ hi < x.toInt) (ho : offs[(x.toInt - lo).toNat]? = some off) (ht : (pc : Int) + off = (tgt : Int)) (kk : lg_W Y SX SM tgt i st) : lg_W Y SX SM pc i (.int x :: st) :=
  fun H locs ls hP hQ hS hl => lv_tableIn C.1.1 C.1.2.1 hdg h1 h2 ho ht (kk H locs ls hP hQ hS hl)
theorem lg_tabOut (C : lg_C Y) {dflt lo hi : Int} {offs : Array Int} {len : Nat} {x : Int32} (tgt : Nat) (hdg : decode code pc = .ok (.tableswitch dflt lo hi offs, len)) (h : x.toInt < lo ∨ hi < x.toInt) (ht : (pc : Int) + dflt = (tgt : Int)) (kk : lg_W Y SX SM tgt i st) : lg_W Y SX SM pc i (.int x :: st) :=
  fun H locs ls hP hQ hS hl => lv_tableOut C.1.1 C.1.2.1 hdg h ht (kk H locs ls hP hQ hS hl)
theorem lg_callX (C : lg_C Y) {y : MethodName} {b : ByteArray} {L : Nat} {ty : FieldType} {fr lo idx n : Nat} {As : List Int32} {rest : List Value} {post : Int32 → il_S → Prop} (K : ig_K R_law RX0 idx y b L (some ty) n) (M : ig_Mi GX (yl Y) y b L ty fr lo As SX post) (hst : st = (As.map Value.int).reverse ++ .ref (yh Y 0) :: rest) (hn : As.length = n)
    (hR : fr + 1 ≤ room_1.frames ∧ 8 + (L + 11) + lo ≤ room_1.locals) (hr : (rest.map fun v => v.category).sum ≤ 8) (hdg : decode code pc = .ok (.invokevirtual idx, 3)) (kk : ∀ (r : Int32) (S' : il_S), post r S' → lg_W Y S' SM (pc + 3) i (.int r :: rest)) : lg_W Y SX SM pc i st := by
  intro H locs ls hP hQ hS hl
  subst hst
  have hfix := lg_fix C
  obtain ⟨k1, k2, k3, k4, k5, k6⟩ := K
  obtain ⟨hAt, hK, hDX, hDM, hdis, hL⟩ := C
  have hFc : ∀ q, va_A (gw GX (yh Y) (yc Y) SX) H.size q → lg_A Y q := by
    intro q h
    rcases h with ⟨k, e, h⟩ | h
    · exact (hDX SX).2 k (q, e) h
    · exact Nat.le_trans hS.1 h
  have hKX := hK.sub (tys' := [(yc Y, .int)]) [0] rfl
  refine va_calli (va_runV (As := As.map Value.int) (rest := rest) hfix (M (yh Y) (yc Y) (yD Y) H.size) (cwV n hfix.2.2.2.2 (lw_V k1 k2 k3 k4 k5) rfl rfl rfl k6 hR) ⟨ig_blind, va_recv hKX hP GX_ok.1 gw_0, fun U hU hW => ⟨rfl, by rw [hU], by rw [hU]; exact hP, va_K.moved hW.alike hKX, (hDX SX).weaken (fun _ _ _ _ => trivial)⟩⟩ rfl (by rw [List.length_map]; exact hn) hl.1 rfl (lv_room hr) hdg ⟨Nat.le_of_ble_eq_true rfl, Nat.le_of_ble_eq_true rfl⟩) hS (fun q _ h => hFc q h) hFc (fun r u t H1 locs1 ht hvm hw1 hB hz1 hk1 hS1 => ?_)
  have hP1 : va_P (yD Y) vwCl (gw GX (yh Y) (yc Y) u) H1 := by rw [← ht]; exact hB
  have hQ1 : va_P (yD Y) vwCl (gw GM (yg Y) (yd Y) SM) H1 := hQ.kept (fun k q hq => hk1 q.1 (hQ k q hq).lt (fun h => by
    rcases h with ⟨k2, e2, h⟩ | h
    · exact hdis SX SM k2 k (q.1, e2) q h hq rfl
    · exact Nat.lt_irrefl _ (Nat.lt_of_lt_of_le (hQ k q hq).lt h)))
  exact kk r u hw1 H1 locs1 ls hP1 hQ1 hS1 hl
theorem lg_callM (C : lg_C Y) {y : MethodName} {b : ByteArray} {L : Nat} {ty : FieldType} {fr lo idx n : Nat} {As : List Int32} {rest : List Value} {post : Int32 → il_S → Prop} (K : ig_K R_law RX1 idx y b L (some ty) n) (M : ig_Mi GM (yl Y) y b L ty fr lo As SM post) (hst : st = (As.map Value.int).reverse ++ .ref (yg Y 0) :: rest) (hn : As.length = n)
    (hR : fr + 1 ≤ room_1.frames ∧ 8 + (L + 11) + lo ≤ room_1.locals) (hr : (rest.map fun v => v.category).sum ≤ 8) (hdg : decode code pc = .ok (.invokevirtual idx, 3)) (kk : ∀ (r : Int32) (S' : il_S), post r S' → lg_W Y SX S' (pc + 3) i (.int r :: rest)) : lg_W Y SX SM pc i st := by
  intro H locs ls hP hQ hS hl
  subst hst
  have hfix := lg_fix C
  obtain ⟨k1, k2, k3, k4, k5, k6⟩ := K
  obtain ⟨hAt, hK, hDX, hDM, hdis, hL⟩ := C
  have hFc : ∀ q, va_A (gw GM (yg Y) (yd Y) SM) H.size q → lg_A Y q := by
    intro q h
    rcases h with ⟨k, e, h⟩ | h
    · exact (hDM SM).2 k (q, e) h
    · exact Nat.le_trans hS.1 h
  have hKM := hK.sub (tys' := [(yd Y, .int)]) [1] rfl
  refine va_calli (va_runV (As := As.map Value.int) (rest := rest) hfix (M (yg Y) (yd Y) (yD Y) H.size) (cwV n hfix.2.2.2.2 (lw_V k1 k2 k3 k4 k5) rfl rfl rfl k6 hR) ⟨ig_blind, va_recv hKM hQ GM_ok.1 gw_0, fun U hU hW => ⟨rfl, by rw [hU], by rw [hU]; exact hQ, va_K.moved hW.alike hKM, (hDM SM).weaken (fun _ _ _ _ => trivial)⟩⟩ rfl (by rw [List.length_map]; exact hn) hl.1 rfl (lv_room hr) hdg ⟨Nat.le_of_ble_eq_true rfl, Nat.le_of_ble_eq_true rfl⟩) hS (fun q _ h => hFc q h) hFc (fun r u t H1 locs1 ht hvm hw1 hB hz1 hk1 hS1 => ?_)
  have hQ1 : va_P (yD Y) vwCl (gw GM (yg Y) (yd Y) u) H1 := by rw [← ht]; exact hB
  have hP1 : va_P (yD Y) vwCl (gw GX (yh Y) (yc Y) SX) H1 := hP.kept (fun k q hq => hk1 q.1 (hP k q hq).lt (fun h => by
    rcases h with ⟨k2, e2, h⟩ | h
    · exact hdis SX SM k k2 q (q.1, e2) hq h rfl
    · exact Nat.lt_irrefl _ (Nat.lt_of_lt_of_le (hP k q hq).lt h)))
  exact kk r u hw1 H1 locs1 ls hP1 hQ1 hS1 hl
end LawRows
set_option maxHeartbeats 1000000 in
set_option maxRecDepth 100000 in
theorem law_constant {Y : il_Y} (C : lg_C Y) {SX SM : il_S} {a : il_A} {i : Nat} (hX : RX a SX) (hM : RM a SM) (hi : i + 4 ≤ yL Y) (kk : ∀ SX' SM' a', RX a' SX' → RM a' SM' → lg_W Y SX' SM' 604 i []) : lg_W Y SX SM 120 i [] := by
  refine lg_al C 1 _ dL_law_120 rfl rfl ?_
  refine lg_al C 0 _ dL_law_121 rfl rfl ?_
  refine lg_il C dL_law_122 ?_
  refine lg_ic C dL_law_123 ki_1 ?_
  refine lg_iadd C dL_law_124 ?_
  refine lg_ld C (by omega) dL_law_125 ?_
  refine lg_al C 0 _ dL_law_126 rfl rfl ?_
  refine lg_il C dL_law_127 ?_
  refine lg_ic C dL_law_128 ki_2 ?_
  refine lg_iadd C dL_law_129 ?_
  refine lg_ld C (by omega) dL_law_130 ?_
  refine lg_callX C kLX_constant (mX_constant (yl Y) SX a hX (yx Y (i + 1)) (yx Y (i + 2))) rfl rfl ⟨Nat.le_of_ble_eq_true rfl, Nat.le_of_ble_eq_true rfl⟩ (Nat.le_of_ble_eq_true rfl) dL_law_131 (fun r S1 h1 => ?_)
  refine lg_al C 2 _ dL_law_134 rfl rfl ?_
  refine lg_al C 0 _ dL_law_135 rfl rfl ?_
  refine lg_il C dL_law_136 ?_
  refine lg_ic C dL_law_137 ki_1 ?_
  refine lg_iadd C dL_law_138 ?_
  refine lg_ld C (by omega) dL_law_139 ?_
  refine lg_al C 0 _ dL_law_140 rfl rfl ?_
  refine lg_il C dL_law_141 ?_
  refine lg_ic C dL_law_142 ki_2 ?_
  refine lg_iadd C dL_law_143 ?_
  refine lg_ld C (by omega) dL_law_144 ?_
  refine lg_callM C kLM_constant (mM_constant (yl Y) SM a hM (yx Y (i + 1)) (yx Y (i + 2))) rfl rfl ⟨Nat.le_of_ble_eq_true rfl, Nat.le_of_ble_eq_true rfl⟩ (Nat.le_of_ble_eq_true rfl) dL_law_145 (fun r2 S2 h2 => ?_)
  refine lg_eqT C 604 dL_law_148 (by decide) (h1.1.trans h2.1.symm) ?_
  exact kk S1 S2 _ h1.2 h2.2
set_option maxHeartbeats 1000000 in
set_option maxRecDepth 100000 in
theorem law_reference {Y : il_Y} (C : lg_C Y) {SX SM : il_S} {a : il_A} {i : Nat} (hX : RX a SX) (hM : RM a SM) (hi : i + 4 ≤ yL Y) (kk : ∀ SX' SM' a', RX a' SX' → RM a' SM' → lg_W Y SX' SM' 604 i []) : lg_W Y SX SM 153 i [] := by
  refine lg_al C 1 _ dL_law_153 rfl rfl ?_
  refine lg_al C 0 _ dL_law_154 rfl rfl ?_
  refine lg_il C dL_law_155 ?_
  refine lg_ic C dL_law_156 ki_1 ?_
  refine lg_iadd C dL_law_157 ?_
  refine lg_ld C (by omega) dL_law_158 ?_
  refine lg_al C 0 _ dL_law_159 rfl rfl ?_
  refine lg_il C dL_law_160 ?_
  refine lg_ic C dL_law_161 ki_2 ?_
  refine lg_iadd C dL_law_162 ?_
  refine lg_ld C (by omega) dL_law_163 ?_
  refine lg_al C 0 _ dL_law_164 rfl rfl ?_
  refine lg_il C dL_law_165 ?_
  refine lg_ic C dL_law_166 ki_3 ?_
  refine lg_iadd C dL_law_167 ?_
  refine lg_ld C (by omega) dL_law_168 ?_
  refine lg_callX C kLX_reference (mX_reference (yl Y) SX a hX (yx Y (i + 1)) (yx Y (i + 2)) (yx Y (i + 3))) rfl rfl ⟨Nat.le_of_ble_eq_true rfl, Nat.le_of_ble_eq_true rfl⟩ (Nat.le_of_ble_eq_true rfl) dL_law_169 (fun r S1 h1 => ?_)
  refine lg_al C 2 _ dL_law_172 rfl rfl ?_
  refine lg_al C 0 _ dL_law_173 rfl rfl ?_
  refine lg_il C dL_law_174 ?_
  refine lg_ic C dL_law_175 ki_1 ?_
  refine lg_iadd C dL_law_176 ?_
  refine lg_ld C (by omega) dL_law_177 ?_
  refine lg_al C 0 _ dL_law_178 rfl rfl ?_
  refine lg_il C dL_law_179 ?_
  refine lg_ic C dL_law_180 ki_2 ?_
  refine lg_iadd C dL_law_181 ?_
  refine lg_ld C (by omega) dL_law_182 ?_
  refine lg_al C 0 _ dL_law_183 rfl rfl ?_
  refine lg_il C dL_law_184 ?_
  refine lg_ic C dL_law_185 ki_3 ?_
  refine lg_iadd C dL_law_186 ?_
  refine lg_ld C (by omega) dL_law_187 ?_
  refine lg_callM C kLM_reference (mM_reference (yl Y) SM a hM (yx Y (i + 1)) (yx Y (i + 2)) (yx Y (i + 3))) rfl rfl ⟨Nat.le_of_ble_eq_true rfl, Nat.le_of_ble_eq_true rfl⟩ (Nat.le_of_ble_eq_true rfl) dL_law_188 (fun r2 S2 h2 => ?_)
  refine lg_eqT C 604 dL_law_191 (by decide) (h1.1.trans h2.1.symm) ?_
  exact kk S1 S2 _ h1.2 h2.2
set_option maxHeartbeats 1000000 in
set_option maxRecDepth 100000 in
theorem law_patch {Y : il_Y} (C : lg_C Y) {SX SM : il_S} {a : il_A} {i : Nat} (hX : RX a SX) (hM : RM a SM) (hi : i + 4 ≤ yL Y) (kk : ∀ SX' SM' a', RX a' SX' → RM a' SM' → lg_W Y SX' SM' 604 i []) : lg_W Y SX SM 196 i [] := by
  refine lg_al C 1 _ dL_law_196 rfl rfl ?_
  refine lg_al C 0 _ dL_law_197 rfl rfl ?_
  refine lg_il C dL_law_198 ?_
  refine lg_ic C dL_law_199 ki_1 ?_
  refine lg_iadd C dL_law_200 ?_
  refine lg_ld C (by omega) dL_law_201 ?_
  refine lg_al C 0 _ dL_law_202 rfl rfl ?_
  refine lg_il C dL_law_203 ?_
  refine lg_ic C dL_law_204 ki_2 ?_
  refine lg_iadd C dL_law_205 ?_
  refine lg_ld C (by omega) dL_law_206 ?_
  refine lg_al C 0 _ dL_law_207 rfl rfl ?_
  refine lg_il C dL_law_208 ?_
  refine lg_ic C dL_law_209 ki_3 ?_
  refine lg_iadd C dL_law_210 ?_
  refine lg_ld C (by omega) dL_law_211 ?_
  refine lg_callX C kLX_patch (mX_patch (yl Y) SX a hX (yx Y (i + 1)) (yx Y (i + 2)) (yx Y (i + 3))) rfl rfl ⟨Nat.le_of_ble_eq_true rfl, Nat.le_of_ble_eq_true rfl⟩ (Nat.le_of_ble_eq_true rfl) dL_law_212 (fun r S1 h1 => ?_)
  refine lg_al C 2 _ dL_law_215 rfl rfl ?_
  refine lg_al C 0 _ dL_law_216 rfl rfl ?_
  refine lg_il C dL_law_217 ?_
  refine lg_ic C dL_law_218 ki_1 ?_
  refine lg_iadd C dL_law_219 ?_
  refine lg_ld C (by omega) dL_law_220 ?_
  refine lg_al C 0 _ dL_law_221 rfl rfl ?_
  refine lg_il C dL_law_222 ?_
  refine lg_ic C dL_law_223 ki_2 ?_
  refine lg_iadd C dL_law_224 ?_
  refine lg_ld C (by omega) dL_law_225 ?_
  refine lg_al C 0 _ dL_law_226 rfl rfl ?_
  refine lg_il C dL_law_227 ?_
  refine lg_ic C dL_law_228 ki_3 ?_
  refine lg_iadd C dL_law_229 ?_
  refine lg_ld C (by omega) dL_law_230 ?_
  refine lg_callM C kLM_patch (mM_patch (yl Y) SM a hM (yx Y (i + 1)) (yx Y (i + 2)) (yx Y (i + 3))) rfl rfl ⟨Nat.le_of_ble_eq_true rfl, Nat.le_of_ble_eq_true rfl⟩ (Nat.le_of_ble_eq_true rfl) dL_law_231 (fun r2 S2 h2 => ?_)
  refine lg_eqT C 604 dL_law_234 (by decide) (h1.1.trans h2.1.symm) ?_
  exact kk S1 S2 _ h1.2 h2.2
set_option maxHeartbeats 1000000 in
set_option maxRecDepth 100000 in
theorem law_insert {Y : il_Y} (C : lg_C Y) {SX SM : il_S} {a : il_A} {i : Nat} (hX : RX a SX) (hM : RM a SM) (hi : i + 4 ≤ yL Y) (kk : ∀ SX' SM' a', RX a' SX' → RM a' SM' → lg_W Y SX' SM' 604 i []) : lg_W Y SX SM 239 i [] := by
  refine lg_al C 1 _ dL_law_239 rfl rfl ?_
  refine lg_al C 0 _ dL_law_240 rfl rfl ?_
  refine lg_il C dL_law_241 ?_
  refine lg_ic C dL_law_242 ki_1 ?_
  refine lg_iadd C dL_law_243 ?_
  refine lg_ld C (by omega) dL_law_244 ?_
  refine lg_al C 0 _ dL_law_245 rfl rfl ?_
  refine lg_il C dL_law_246 ?_
  refine lg_ic C dL_law_247 ki_2 ?_
  refine lg_iadd C dL_law_248 ?_
  refine lg_ld C (by omega) dL_law_249 ?_
  refine lg_al C 0 _ dL_law_250 rfl rfl ?_
  refine lg_il C dL_law_251 ?_
  refine lg_ic C dL_law_252 ki_3 ?_
  refine lg_iadd C dL_law_253 ?_
  refine lg_ld C (by omega) dL_law_254 ?_
  refine lg_callX C kLX_insert (mX_insert (yl Y) SX a hX (yx Y (i + 1)) (yx Y (i + 2)) (yx Y (i + 3))) rfl rfl ⟨Nat.le_of_ble_eq_true rfl, Nat.le_of_ble_eq_true rfl⟩ (Nat.le_of_ble_eq_true rfl) dL_law_255 (fun r S1 h1 => ?_)
  refine lg_al C 2 _ dL_law_258 rfl rfl ?_
  refine lg_al C 0 _ dL_law_259 rfl rfl ?_
  refine lg_il C dL_law_260 ?_
  refine lg_ic C dL_law_261 ki_1 ?_
  refine lg_iadd C dL_law_262 ?_
  refine lg_ld C (by omega) dL_law_263 ?_
  refine lg_al C 0 _ dL_law_264 rfl rfl ?_
  refine lg_il C dL_law_265 ?_
  refine lg_ic C dL_law_266 ki_2 ?_
  refine lg_iadd C dL_law_267 ?_
  refine lg_ld C (by omega) dL_law_268 ?_
  refine lg_al C 0 _ dL_law_269 rfl rfl ?_
  refine lg_il C dL_law_270 ?_
  refine lg_ic C dL_law_271 ki_3 ?_
  refine lg_iadd C dL_law_272 ?_
  refine lg_ld C (by omega) dL_law_273 ?_
  refine lg_callM C kLM_insert (mM_insert (yl Y) SM a hM (yx Y (i + 1)) (yx Y (i + 2)) (yx Y (i + 3))) rfl rfl ⟨Nat.le_of_ble_eq_true rfl, Nat.le_of_ble_eq_true rfl⟩ (Nat.le_of_ble_eq_true rfl) dL_law_274 (fun r2 S2 h2 => ?_)
  refine lg_eqT C 604 dL_law_277 (by decide) (h1.1.trans h2.1.symm) ?_
  exact kk S1 S2 _ h1.2 h2.2
set_option maxHeartbeats 1000000 in
set_option maxRecDepth 100000 in
theorem law_delete {Y : il_Y} (C : lg_C Y) {SX SM : il_S} {a : il_A} {i : Nat} (hX : RX a SX) (hM : RM a SM) (hi : i + 4 ≤ yL Y) (kk : ∀ SX' SM' a', RX a' SX' → RM a' SM' → lg_W Y SX' SM' 604 i []) : lg_W Y SX SM 282 i [] := by
  refine lg_al C 1 _ dL_law_282 rfl rfl ?_
  refine lg_al C 0 _ dL_law_283 rfl rfl ?_
  refine lg_il C dL_law_284 ?_
  refine lg_ic C dL_law_285 ki_1 ?_
  refine lg_iadd C dL_law_286 ?_
  refine lg_ld C (by omega) dL_law_287 ?_
  refine lg_al C 0 _ dL_law_288 rfl rfl ?_
  refine lg_il C dL_law_289 ?_
  refine lg_ic C dL_law_290 ki_2 ?_
  refine lg_iadd C dL_law_291 ?_
  refine lg_ld C (by omega) dL_law_292 ?_
  refine lg_callX C kLX_delete (mX_delete (yl Y) SX a hX (yx Y (i + 1)) (yx Y (i + 2))) rfl rfl ⟨Nat.le_of_ble_eq_true rfl, Nat.le_of_ble_eq_true rfl⟩ (Nat.le_of_ble_eq_true rfl) dL_law_293 (fun r S1 h1 => ?_)
  refine lg_al C 2 _ dL_law_296 rfl rfl ?_
  refine lg_al C 0 _ dL_law_297 rfl rfl ?_
  refine lg_il C dL_law_298 ?_
  refine lg_ic C dL_law_299 ki_1 ?_
  refine lg_iadd C dL_law_300 ?_
  refine lg_ld C (by omega) dL_law_301 ?_
  refine lg_al C 0 _ dL_law_302 rfl rfl ?_
  refine lg_il C dL_law_303 ?_
  refine lg_ic C dL_law_304 ki_2 ?_
  refine lg_iadd C dL_law_305 ?_
  refine lg_ld C (by omega) dL_law_306 ?_
  refine lg_callM C kLM_delete (mM_delete (yl Y) SM a hM (yx Y (i + 1)) (yx Y (i + 2))) rfl rfl ⟨Nat.le_of_ble_eq_true rfl, Nat.le_of_ble_eq_true rfl⟩ (Nat.le_of_ble_eq_true rfl) dL_law_307 (fun r2 S2 h2 => ?_)
  refine lg_eqT C 604 dL_law_310 (by decide) (h1.1.trans h2.1.symm) ?_
  exact kk S1 S2 _ h1.2 h2.2
set_option maxHeartbeats 1000000 in
set_option maxRecDepth 100000 in
theorem law_unload {Y : il_Y} (C : lg_C Y) {SX SM : il_S} {a : il_A} {i : Nat} (hX : RX a SX) (hM : RM a SM) (hi : i + 4 ≤ yL Y) (kk : ∀ SX' SM' a', RX a' SX' → RM a' SM' → lg_W Y SX' SM' 604 i []) : lg_W Y SX SM 315 i [] := by
  refine lg_al C 1 _ dL_law_315 rfl rfl ?_
  refine lg_al C 0 _ dL_law_316 rfl rfl ?_
  refine lg_il C dL_law_317 ?_
  refine lg_ic C dL_law_318 ki_1 ?_
  refine lg_iadd C dL_law_319 ?_
  refine lg_ld C (by omega) dL_law_320 ?_
  refine lg_callX C kLX_unload (mX_unload (yl Y) SX a hX (yx Y (i + 1))) rfl rfl ⟨Nat.le_of_ble_eq_true rfl, Nat.le_of_ble_eq_true rfl⟩ (Nat.le_of_ble_eq_true rfl) dL_law_321 (fun r S1 h1 => ?_)
  refine lg_al C 2 _ dL_law_324 rfl rfl ?_
  refine lg_al C 0 _ dL_law_325 rfl rfl ?_
  refine lg_il C dL_law_326 ?_
  refine lg_ic C dL_law_327 ki_1 ?_
  refine lg_iadd C dL_law_328 ?_
  refine lg_ld C (by omega) dL_law_329 ?_
  refine lg_callM C kLM_unload (mM_unload (yl Y) SM a hM (yx Y (i + 1))) rfl rfl ⟨Nat.le_of_ble_eq_true rfl, Nat.le_of_ble_eq_true rfl⟩ (Nat.le_of_ble_eq_true rfl) dL_law_330 (fun r2 S2 h2 => ?_)
  refine lg_eqT C 604 dL_law_333 (by decide) (h1.1.trans h2.1.symm) ?_
  exact kk S1 S2 _ h1.2 h2.2
set_option maxHeartbeats 1000000 in
set_option maxRecDepth 100000 in
theorem law_define {Y : il_Y} (C : lg_C Y) {SX SM : il_S} {a : il_A} {i : Nat} (hX : RX a SX) (hM : RM a SM) (hi : i + 4 ≤ yL Y) (kk : ∀ SX' SM' a', RX a' SX' → RM a' SM' → lg_W Y SX' SM' 604 i []) : lg_W Y SX SM 338 i [] := by
  refine lg_al C 1 _ dL_law_338 rfl rfl ?_
  refine lg_al C 0 _ dL_law_339 rfl rfl ?_
  refine lg_il C dL_law_340 ?_
  refine lg_ic C dL_law_341 ki_1 ?_
  refine lg_iadd C dL_law_342 ?_
  refine lg_ld C (by omega) dL_law_343 ?_
  refine lg_al C 0 _ dL_law_344 rfl rfl ?_
  refine lg_il C dL_law_345 ?_
  refine lg_ic C dL_law_346 ki_2 ?_
  refine lg_iadd C dL_law_347 ?_
  refine lg_ld C (by omega) dL_law_348 ?_
  refine lg_al C 0 _ dL_law_349 rfl rfl ?_
  refine lg_il C dL_law_350 ?_
  refine lg_ic C dL_law_351 ki_3 ?_
  refine lg_iadd C dL_law_352 ?_
  refine lg_ld C (by omega) dL_law_353 ?_
  refine lg_callX C kLX_define (mX_define (yl Y) SX a hX (yx Y (i + 1)) (yx Y (i + 2)) (yx Y (i + 3))) rfl rfl ⟨Nat.le_of_ble_eq_true rfl, Nat.le_of_ble_eq_true rfl⟩ (Nat.le_of_ble_eq_true rfl) dL_law_354 (fun r S1 h1 => ?_)
  refine lg_al C 2 _ dL_law_357 rfl rfl ?_
  refine lg_al C 0 _ dL_law_358 rfl rfl ?_
  refine lg_il C dL_law_359 ?_
  refine lg_ic C dL_law_360 ki_1 ?_
  refine lg_iadd C dL_law_361 ?_
  refine lg_ld C (by omega) dL_law_362 ?_
  refine lg_al C 0 _ dL_law_363 rfl rfl ?_
  refine lg_il C dL_law_364 ?_
  refine lg_ic C dL_law_365 ki_2 ?_
  refine lg_iadd C dL_law_366 ?_
  refine lg_ld C (by omega) dL_law_367 ?_
  refine lg_al C 0 _ dL_law_368 rfl rfl ?_
  refine lg_il C dL_law_369 ?_
  refine lg_ic C dL_law_370 ki_3 ?_
  refine lg_iadd C dL_law_371 ?_
  refine lg_ld C (by omega) dL_law_372 ?_
  refine lg_callM C kLM_define (mM_define (yl Y) SM a hM (yx Y (i + 1)) (yx Y (i + 2)) (yx Y (i + 3))) rfl rfl ⟨Nat.le_of_ble_eq_true rfl, Nat.le_of_ble_eq_true rfl⟩ (Nat.le_of_ble_eq_true rfl) dL_law_373 (fun r2 S2 h2 => ?_)
  refine lg_eqT C 604 dL_law_376 (by decide) (h1.1.trans h2.1.symm) ?_
  exact kk S1 S2 _ h1.2 h2.2
set_option maxHeartbeats 1000000 in
set_option maxRecDepth 100000 in
theorem law_undefine {Y : il_Y} (C : lg_C Y) {SX SM : il_S} {a : il_A} {i : Nat} (hX : RX a SX) (hM : RM a SM) (hi : i + 4 ≤ yL Y) (kk : ∀ SX' SM' a', RX a' SX' → RM a' SM' → lg_W Y SX' SM' 604 i []) : lg_W Y SX SM 381 i [] := by
  refine lg_al C 1 _ dL_law_381 rfl rfl ?_
  refine lg_al C 0 _ dL_law_382 rfl rfl ?_
  refine lg_il C dL_law_383 ?_
  refine lg_ic C dL_law_384 ki_1 ?_
  refine lg_iadd C dL_law_385 ?_
  refine lg_ld C (by omega) dL_law_386 ?_
  refine lg_al C 0 _ dL_law_387 rfl rfl ?_
  refine lg_il C dL_law_388 ?_
  refine lg_ic C dL_law_389 ki_2 ?_
  refine lg_iadd C dL_law_390 ?_
  refine lg_ld C (by omega) dL_law_391 ?_
  refine lg_callX C kLX_undefine (mX_undefine (yl Y) SX a hX (yx Y (i + 1)) (yx Y (i + 2))) rfl rfl ⟨Nat.le_of_ble_eq_true rfl, Nat.le_of_ble_eq_true rfl⟩ (Nat.le_of_ble_eq_true rfl) dL_law_392 (fun r S1 h1 => ?_)
  refine lg_al C 2 _ dL_law_395 rfl rfl ?_
  refine lg_al C 0 _ dL_law_396 rfl rfl ?_
  refine lg_il C dL_law_397 ?_
  refine lg_ic C dL_law_398 ki_1 ?_
  refine lg_iadd C dL_law_399 ?_
  refine lg_ld C (by omega) dL_law_400 ?_
  refine lg_al C 0 _ dL_law_401 rfl rfl ?_
  refine lg_il C dL_law_402 ?_
  refine lg_ic C dL_law_403 ki_2 ?_
  refine lg_iadd C dL_law_404 ?_
  refine lg_ld C (by omega) dL_law_405 ?_
  refine lg_callM C kLM_undefine (mM_undefine (yl Y) SM a hM (yx Y (i + 1)) (yx Y (i + 2))) rfl rfl ⟨Nat.le_of_ble_eq_true rfl, Nat.le_of_ble_eq_true rfl⟩ (Nat.le_of_ble_eq_true rfl) dL_law_406 (fun r2 S2 h2 => ?_)
  refine lg_eqT C 604 dL_law_409 (by decide) (h1.1.trans h2.1.symm) ?_
  exact kk S1 S2 _ h1.2 h2.2
set_option maxHeartbeats 1000000 in
set_option maxRecDepth 100000 in
theorem law_size {Y : il_Y} (C : lg_C Y) {SX SM : il_S} {a : il_A} {i : Nat} (hX : RX a SX) (hM : RM a SM) (hi : i + 4 ≤ yL Y) (kk : ∀ SX' SM' a', RX a' SX' → RM a' SM' → lg_W Y SX' SM' 604 i []) : lg_W Y SX SM 414 i [] := by
  refine lg_al C 1 _ dL_law_414 rfl rfl ?_
  refine lg_callX C kLX_size (mX_size (yl Y) SX a hX ) rfl rfl ⟨Nat.le_of_ble_eq_true rfl, Nat.le_of_ble_eq_true rfl⟩ (Nat.le_of_ble_eq_true rfl) dL_law_415 (fun r S1 h1 => ?_)
  refine lg_al C 2 _ dL_law_418 rfl rfl ?_
  refine lg_callM C kLM_size (mM_size (yl Y) SM a hM ) rfl rfl ⟨Nat.le_of_ble_eq_true rfl, Nat.le_of_ble_eq_true rfl⟩ (Nat.le_of_ble_eq_true rfl) dL_law_419 (fun r2 S2 h2 => ?_)
  refine lg_eqT C 604 dL_law_422 (by decide) (h1.1.trans h2.1.symm) ?_
  obtain ⟨-, rfl⟩ := h1
  obtain ⟨-, rfl⟩ := h2
  exact kk SX SM a hX hM
set_option maxHeartbeats 1000000 in
set_option maxRecDepth 100000 in
theorem law_value {Y : il_Y} (C : lg_C Y) {SX SM : il_S} {a : il_A} {i : Nat} (hX : RX a SX) (hM : RM a SM) (hi : i + 4 ≤ yL Y) (kk : ∀ SX' SM' a', RX a' SX' → RM a' SM' → lg_W Y SX' SM' 604 i []) : lg_W Y SX SM 427 i [] := by
  refine lg_al C 1 _ dL_law_427 rfl rfl ?_
  refine lg_al C 0 _ dL_law_428 rfl rfl ?_
  refine lg_il C dL_law_429 ?_
  refine lg_ic C dL_law_430 ki_1 ?_
  refine lg_iadd C dL_law_431 ?_
  refine lg_ld C (by omega) dL_law_432 ?_
  refine lg_callX C kLX_value (mX_value (yl Y) SX a hX (yx Y (i + 1))) rfl rfl ⟨Nat.le_of_ble_eq_true rfl, Nat.le_of_ble_eq_true rfl⟩ (Nat.le_of_ble_eq_true rfl) dL_law_433 (fun r S1 h1 => ?_)
  refine lg_al C 2 _ dL_law_436 rfl rfl ?_
  refine lg_al C 0 _ dL_law_437 rfl rfl ?_
  refine lg_il C dL_law_438 ?_
  refine lg_ic C dL_law_439 ki_1 ?_
  refine lg_iadd C dL_law_440 ?_
  refine lg_ld C (by omega) dL_law_441 ?_
  refine lg_callM C kLM_value (mM_value (yl Y) SM a hM (yx Y (i + 1))) rfl rfl ⟨Nat.le_of_ble_eq_true rfl, Nat.le_of_ble_eq_true rfl⟩ (Nat.le_of_ble_eq_true rfl) dL_law_442 (fun r2 S2 h2 => ?_)
  refine lg_eqT C 604 dL_law_445 (by decide) (h1.1.trans h2.1.symm) ?_
  obtain ⟨-, rfl⟩ := h1
  obtain ⟨-, rfl⟩ := h2
  exact kk SX SM a hX hM
set_option maxHeartbeats 1000000 in
set_option maxRecDepth 100000 in
theorem law_address {Y : il_Y} (C : lg_C Y) {SX SM : il_S} {a : il_A} {i : Nat} (hX : RX a SX) (hM : RM a SM) (hi : i + 4 ≤ yL Y) (kk : ∀ SX' SM' a', RX a' SX' → RM a' SM' → lg_W Y SX' SM' 604 i []) : lg_W Y SX SM 450 i [] := by
  refine lg_al C 1 _ dL_law_450 rfl rfl ?_
  refine lg_al C 0 _ dL_law_451 rfl rfl ?_
  refine lg_il C dL_law_452 ?_
  refine lg_ic C dL_law_453 ki_1 ?_
  refine lg_iadd C dL_law_454 ?_
  refine lg_ld C (by omega) dL_law_455 ?_
  refine lg_callX C kLX_address (mX_address (yl Y) SX a hX (yx Y (i + 1))) rfl rfl ⟨Nat.le_of_ble_eq_true rfl, Nat.le_of_ble_eq_true rfl⟩ (Nat.le_of_ble_eq_true rfl) dL_law_456 (fun r S1 h1 => ?_)
  refine lg_al C 2 _ dL_law_459 rfl rfl ?_
  refine lg_al C 0 _ dL_law_460 rfl rfl ?_
  refine lg_il C dL_law_461 ?_
  refine lg_ic C dL_law_462 ki_1 ?_
  refine lg_iadd C dL_law_463 ?_
  refine lg_ld C (by omega) dL_law_464 ?_
  refine lg_callM C kLM_address (mM_address (yl Y) SM a hM (yx Y (i + 1))) rfl rfl ⟨Nat.le_of_ble_eq_true rfl, Nat.le_of_ble_eq_true rfl⟩ (Nat.le_of_ble_eq_true rfl) dL_law_465 (fun r2 S2 h2 => ?_)
  refine lg_eqT C 604 dL_law_468 (by decide) (h1.1.trans h2.1.symm) ?_
  obtain ⟨-, rfl⟩ := h1
  obtain ⟨-, rfl⟩ := h2
  exact kk SX SM a hX hM
set_option maxHeartbeats 1000000 in
set_option maxRecDepth 100000 in
theorem law_where {Y : il_Y} (C : lg_C Y) {SX SM : il_S} {a : il_A} {i : Nat} (hX : RX a SX) (hM : RM a SM) (hi : i + 4 ≤ yL Y) (kk : ∀ SX' SM' a', RX a' SX' → RM a' SM' → lg_W Y SX' SM' 604 i []) : lg_W Y SX SM 473 i [] := by
  refine lg_al C 1 _ dL_law_473 rfl rfl ?_
  refine lg_al C 0 _ dL_law_474 rfl rfl ?_
  refine lg_il C dL_law_475 ?_
  refine lg_ic C dL_law_476 ki_1 ?_
  refine lg_iadd C dL_law_477 ?_
  refine lg_ld C (by omega) dL_law_478 ?_
  refine lg_callX C kLX_where (mX_where (yl Y) SX a hX (yx Y (i + 1))) rfl rfl ⟨Nat.le_of_ble_eq_true rfl, Nat.le_of_ble_eq_true rfl⟩ (Nat.le_of_ble_eq_true rfl) dL_law_479 (fun r S1 h1 => ?_)
  refine lg_al C 2 _ dL_law_482 rfl rfl ?_
  refine lg_al C 0 _ dL_law_483 rfl rfl ?_
  refine lg_il C dL_law_484 ?_
  refine lg_ic C dL_law_485 ki_1 ?_
  refine lg_iadd C dL_law_486 ?_
  refine lg_ld C (by omega) dL_law_487 ?_
  refine lg_callM C kLM_where (mM_where (yl Y) SM a hM (yx Y (i + 1))) rfl rfl ⟨Nat.le_of_ble_eq_true rfl, Nat.le_of_ble_eq_true rfl⟩ (Nat.le_of_ble_eq_true rfl) dL_law_488 (fun r2 S2 h2 => ?_)
  refine lg_eqT C 604 dL_law_491 (by decide) (h1.1.trans h2.1.symm) ?_
  obtain ⟨-, rfl⟩ := h1
  obtain ⟨-, rfl⟩ := h2
  exact kk SX SM a hX hM
set_option maxHeartbeats 1000000 in
set_option maxRecDepth 100000 in
theorem law_undefined {Y : il_Y} (C : lg_C Y) {SX SM : il_S} {a : il_A} {i : Nat} (hX : RX a SX) (hM : RM a SM) (hi : i + 4 ≤ yL Y) (kk : ∀ SX' SM' a', RX a' SX' → RM a' SM' → lg_W Y SX' SM' 604 i []) : lg_W Y SX SM 496 i [] := by
  refine lg_al C 1 _ dL_law_496 rfl rfl ?_
  refine lg_callX C kLX_undefined (mX_undefined (yl Y) SX a hX ) rfl rfl ⟨Nat.le_of_ble_eq_true rfl, Nat.le_of_ble_eq_true rfl⟩ (Nat.le_of_ble_eq_true rfl) dL_law_497 (fun r S1 h1 => ?_)
  refine lg_al C 2 _ dL_law_500 rfl rfl ?_
  refine lg_callM C kLM_undefined (mM_undefined (yl Y) SM a hM ) rfl rfl ⟨Nat.le_of_ble_eq_true rfl, Nat.le_of_ble_eq_true rfl⟩ (Nat.le_of_ble_eq_true rfl) dL_law_501 (fun r2 S2 h2 => ?_)
  refine lg_eqT C 604 dL_law_504 (by decide) (h1.1.trans h2.1.symm) ?_
  obtain ⟨-, rfl⟩ := h1
  obtain ⟨-, rfl⟩ := h2
  exact kk SX SM a hX hM
set_option maxHeartbeats 1000000 in
set_option maxRecDepth 100000 in
theorem law_idle {Y : il_Y} (C : lg_C Y) {SX SM : il_S} {a : il_A} {i : Nat} (hX : RX a SX) (hM : RM a SM) (hi : i + 4 ≤ yL Y) (kk : ∀ SX' SM' a', RX a' SX' → RM a' SM' → lg_W Y SX' SM' 604 i []) : lg_W Y SX SM 509 i [] := by
  refine lg_al C 1 _ dL_law_509 rfl rfl ?_
  refine lg_callX C kLX_idle (mX_idle (yl Y) SX a hX ) rfl rfl ⟨Nat.le_of_ble_eq_true rfl, Nat.le_of_ble_eq_true rfl⟩ (Nat.le_of_ble_eq_true rfl) dL_law_510 (fun r S1 h1 => ?_)
  refine lg_al C 2 _ dL_law_513 rfl rfl ?_
  refine lg_callM C kLM_idle (mM_idle (yl Y) SM a hM ) rfl rfl ⟨Nat.le_of_ble_eq_true rfl, Nat.le_of_ble_eq_true rfl⟩ (Nat.le_of_ble_eq_true rfl) dL_law_514 (fun r2 S2 h2 => ?_)
  refine lg_eqT C 604 dL_law_517 (by decide) (h1.1.trans h2.1.symm) ?_
  obtain ⟨-, rfl⟩ := h1
  obtain ⟨-, rfl⟩ := h2
  exact kk SX SM a hX hM
set_option maxHeartbeats 1000000 in
set_option maxRecDepth 100000 in
theorem law_uses {Y : il_Y} (C : lg_C Y) {SX SM : il_S} {a : il_A} {i : Nat} (hX : RX a SX) (hM : RM a SM) (hi : i + 4 ≤ yL Y) (kk : ∀ SX' SM' a', RX a' SX' → RM a' SM' → lg_W Y SX' SM' 604 i []) : lg_W Y SX SM 522 i [] := by
  refine lg_al C 1 _ dL_law_522 rfl rfl ?_
  refine lg_al C 0 _ dL_law_523 rfl rfl ?_
  refine lg_il C dL_law_524 ?_
  refine lg_ic C dL_law_525 ki_1 ?_
  refine lg_iadd C dL_law_526 ?_
  refine lg_ld C (by omega) dL_law_527 ?_
  refine lg_callX C kLX_uses (mX_uses (yl Y) SX a hX (yx Y (i + 1))) rfl rfl ⟨Nat.le_of_ble_eq_true rfl, Nat.le_of_ble_eq_true rfl⟩ (Nat.le_of_ble_eq_true rfl) dL_law_528 (fun r S1 h1 => ?_)
  refine lg_al C 2 _ dL_law_531 rfl rfl ?_
  refine lg_al C 0 _ dL_law_532 rfl rfl ?_
  refine lg_il C dL_law_533 ?_
  refine lg_ic C dL_law_534 ki_1 ?_
  refine lg_iadd C dL_law_535 ?_
  refine lg_ld C (by omega) dL_law_536 ?_
  refine lg_callM C kLM_uses (mM_uses (yl Y) SM a hM (yx Y (i + 1))) rfl rfl ⟨Nat.le_of_ble_eq_true rfl, Nat.le_of_ble_eq_true rfl⟩ (Nat.le_of_ble_eq_true rfl) dL_law_537 (fun r2 S2 h2 => ?_)
  refine lg_eqT C 604 dL_law_540 (by decide) (h1.1.trans h2.1.symm) ?_
  obtain ⟨-, rfl⟩ := h1
  obtain ⟨-, rfl⟩ := h2
  exact kk SX SM a hX hM
set_option maxHeartbeats 1000000 in
set_option maxRecDepth 100000 in
theorem law_users {Y : il_Y} (C : lg_C Y) {SX SM : il_S} {a : il_A} {i : Nat} (hX : RX a SX) (hM : RM a SM) (hi : i + 4 ≤ yL Y) (kk : ∀ SX' SM' a', RX a' SX' → RM a' SM' → lg_W Y SX' SM' 604 i []) : lg_W Y SX SM 545 i [] := by
  refine lg_al C 1 _ dL_law_545 rfl rfl ?_
  refine lg_al C 0 _ dL_law_546 rfl rfl ?_
  refine lg_il C dL_law_547 ?_
  refine lg_ic C dL_law_548 ki_1 ?_
  refine lg_iadd C dL_law_549 ?_
  refine lg_ld C (by omega) dL_law_550 ?_
  refine lg_callX C kLX_users (mX_users (yl Y) SX a hX (yx Y (i + 1))) rfl rfl ⟨Nat.le_of_ble_eq_true rfl, Nat.le_of_ble_eq_true rfl⟩ (Nat.le_of_ble_eq_true rfl) dL_law_551 (fun r S1 h1 => ?_)
  refine lg_al C 2 _ dL_law_554 rfl rfl ?_
  refine lg_al C 0 _ dL_law_555 rfl rfl ?_
  refine lg_il C dL_law_556 ?_
  refine lg_ic C dL_law_557 ki_1 ?_
  refine lg_iadd C dL_law_558 ?_
  refine lg_ld C (by omega) dL_law_559 ?_
  refine lg_callM C kLM_users (mM_users (yl Y) SM a hM (yx Y (i + 1))) rfl rfl ⟨Nat.le_of_ble_eq_true rfl, Nat.le_of_ble_eq_true rfl⟩ (Nat.le_of_ble_eq_true rfl) dL_law_560 (fun r2 S2 h2 => ?_)
  refine lg_eqT C 604 dL_law_563 (by decide) (h1.1.trans h2.1.symm) ?_
  obtain ⟨-, rfl⟩ := h1
  obtain ⟨-, rfl⟩ := h2
  exact kk SX SM a hX hM
set_option maxHeartbeats 1000000 in
set_option maxRecDepth 100000 in
theorem law_moduleOf {Y : il_Y} (C : lg_C Y) {SX SM : il_S} {a : il_A} {i : Nat} (hX : RX a SX) (hM : RM a SM) (hi : i + 4 ≤ yL Y) (kk : ∀ SX' SM' a', RX a' SX' → RM a' SM' → lg_W Y SX' SM' 604 i []) : lg_W Y SX SM 568 i [] := by
  refine lg_al C 1 _ dL_law_568 rfl rfl ?_
  refine lg_al C 0 _ dL_law_569 rfl rfl ?_
  refine lg_il C dL_law_570 ?_
  refine lg_ic C dL_law_571 ki_1 ?_
  refine lg_iadd C dL_law_572 ?_
  refine lg_ld C (by omega) dL_law_573 ?_
  refine lg_callX C kLX_moduleOf (mX_moduleOf (yl Y) SX a hX (yx Y (i + 1))) rfl rfl ⟨Nat.le_of_ble_eq_true rfl, Nat.le_of_ble_eq_true rfl⟩ (Nat.le_of_ble_eq_true rfl) dL_law_574 (fun r S1 h1 => ?_)
  refine lg_al C 2 _ dL_law_577 rfl rfl ?_
  refine lg_al C 0 _ dL_law_578 rfl rfl ?_
  refine lg_il C dL_law_579 ?_
  refine lg_ic C dL_law_580 ki_1 ?_
  refine lg_iadd C dL_law_581 ?_
  refine lg_ld C (by omega) dL_law_582 ?_
  refine lg_callM C kLM_moduleOf (mM_moduleOf (yl Y) SM a hM (yx Y (i + 1))) rfl rfl ⟨Nat.le_of_ble_eq_true rfl, Nat.le_of_ble_eq_true rfl⟩ (Nat.le_of_ble_eq_true rfl) dL_law_583 (fun r2 S2 h2 => ?_)
  refine lg_eqT C 604 dL_law_586 (by decide) (h1.1.trans h2.1.symm) ?_
  obtain ⟨-, rfl⟩ := h1
  obtain ⟨-, rfl⟩ := h2
  exact kk SX SM a hX hM
set_option maxHeartbeats 1000000 in
set_option maxRecDepth 100000 in
theorem law_digest {Y : il_Y} (C : lg_C Y) {SX SM : il_S} {a : il_A} {i : Nat} (hX : RX a SX) (hM : RM a SM) (hi : i + 4 ≤ yL Y) (kk : ∀ SX' SM' a', RX a' SX' → RM a' SM' → lg_W Y SX' SM' 604 i []) : lg_W Y SX SM 591 i [] := by
  refine lg_al C 1 _ dL_law_591 rfl rfl ?_
  refine lg_callX C kLX_digest (mX_digest (yl Y) SX a hX ) rfl rfl ⟨Nat.le_of_ble_eq_true rfl, Nat.le_of_ble_eq_true rfl⟩ (Nat.le_of_ble_eq_true rfl) dL_law_592 (fun r S1 h1 => ?_)
  refine lg_al C 2 _ dL_law_595 rfl rfl ?_
  refine lg_callM C kLM_digest (mM_digest (yl Y) SM a hM ) rfl rfl ⟨Nat.le_of_ble_eq_true rfl, Nat.le_of_ble_eq_true rfl⟩ (Nat.le_of_ble_eq_true rfl) dL_law_596 (fun r2 S2 h2 => ?_)
  refine lg_eqT C 604 dL_law_599 (by decide) (h1.1.trans h2.1.symm) ?_
  obtain ⟨-, rfl⟩ := h1
  obtain ⟨-, rfl⟩ := h2
  exact kk SX SM a hX hM
set_option maxHeartbeats 1000000 in
set_option maxRecDepth 100000 in
theorem law_exit {Y : il_Y} (C : lg_C Y) {SX SM : il_S} {i : Nat} (hi : yL Y < i + 4) (hi2 : i ≤ 260) : lg_W Y SX SM 18 i [] := by
  have hL := C.2.2.2.2.2
  refine lg_il C dL_law_18 ?_
  refine lg_al C 0 _ dL_law_19 rfl rfl ?_
  refine lg_len C dL_law_20 ?_
  refine lg_ic C dL_law_21 ki_4 ?_
  refine lg_isub C dL_law_22 ?_
  refine lg_gtT C 610 dL_law_23 (by decide) (Int32.lt_iff_toInt_lt.mpr (by rw [pk_sub_toInt (by omega) (by decide), nI_toInt (by omega)]; omega)) ?_
  refine lg_ic C dL_law_610 (v := 1) (by decide) ?_
  exact lg_ret C dL_law_611
set_option maxHeartbeats 1000000 in
set_option maxRecDepth 100000 in
theorem law_loop {Y : il_Y} (C : lg_C Y) : ∀ (n i : Nat) (SX SM : il_S) (a : il_A), yL Y < i + 4 * (n + 1) → i ≤ 260 → RX a SX → RM a SM → lg_W Y SX SM 18 i [] := by
  have hL := C.2.2.2.2.2
  intro n
  induction n with
  | zero =>
    intro i SX SM a hn hi _ _
    exact law_exit C (by omega) hi
  | succ n ih =>
    intro i SX SM a hn hi hX hM
    by_cases hx : yL Y < i + 4
    · exact law_exit C hx hi
    · have hi4 : i + 4 ≤ yL Y := by omega
      have next : ∀ SX' SM' a', RX a' SX' → RM a' SM' → lg_W Y SX' SM' 604 i [] := by
        intro SX' SM' a' hX' hM'
        refine lg_inc C dL_law_604 ?_
        refine lg_goto C 18 dL_law_607 (by decide) ?_
        exact ih (i + 4) SX' SM' a' (by omega) (by omega) hX' hM'
      refine lg_il C dL_law_18 ?_
      refine lg_al C 0 _ dL_law_19 rfl rfl ?_
      refine lg_len C dL_law_20 ?_
      refine lg_ic C dL_law_21 ki_4 ?_
      refine lg_isub C dL_law_22 ?_
      refine lg_gtF C 610 dL_law_23 (by decide) (fun q => by
        have q := Int32.lt_iff_toInt_lt.mp q
        rw [pk_sub_toInt (by omega) (by decide), nI_toInt (by omega)] at q
        omega) ?_
      refine lg_al C 0 _ dL_law_26 rfl rfl ?_
      refine lg_il C dL_law_27 ?_
      refine lg_ld C (by omega) dL_law_28 ?_
      refine lg_bp C dL_law_29 kb_31 ?_
      refine lg_iand C dL_law_31 ?_
      obtain ⟨j, hj, hje⟩ := pk_andE (yx Y i) (m := nI 31) 5 (by decide)
      refine lg_top (nI j) hje ?_
      have hj : j < 32 := hj
      rcases (show j = 0 ∨ j = 1 ∨ j = 2 ∨ j = 3 ∨ j = 4 ∨ j = 5 ∨ j = 6 ∨ j = 7 ∨ j = 8 ∨ j = 9 ∨ j = 10 ∨ j = 11 ∨ j = 12 ∨ j = 13 ∨ j = 14 ∨ j = 15 ∨ j = 16 ∨ j = 17 ∨ 18 ≤ j by omega) with rfl | rfl | rfl | rfl | rfl | rfl | rfl | rfl | rfl | rfl | rfl | rfl | rfl | rfl | rfl | rfl | rfl | rfl | h18
      · exact lg_tabIn C 120 dL_law_32 (by decide) (by decide) (off := 88) (by decide) (by decide) (law_constant C hX hM hi4 next)
      · exact lg_tabIn C 153 dL_law_32 (by decide) (by decide) (off := 121) (by decide) (by decide) (law_reference C hX hM hi4 next)
      · exact lg_tabIn C 196 dL_law_32 (by decide) (by decide) (off := 164) (by decide) (by decide) (law_patch C hX hM hi4 next)
      · exact lg_tabIn C 239 dL_law_32 (by decide) (by decide) (off := 207) (by decide) (by decide) (law_insert C hX hM hi4 next)
      · exact lg_tabIn C 282 dL_law_32 (by decide) (by decide) (off := 250) (by decide) (by decide) (law_delete C hX hM hi4 next)
      · exact lg_tabIn C 315 dL_law_32 (by decide) (by decide) (off := 283) (by decide) (by decide) (law_unload C hX hM hi4 next)
      · exact lg_tabIn C 338 dL_law_32 (by decide) (by decide) (off := 306) (by decide) (by decide) (law_define C hX hM hi4 next)
      · exact lg_tabIn C 381 dL_law_32 (by decide) (by decide) (off := 349) (by decide) (by decide) (law_undefine C hX hM hi4 next)
      · exact lg_tabIn C 414 dL_law_32 (by decide) (by decide) (off := 382) (by decide) (by decide) (law_size C hX hM hi4 next)
      · exact lg_tabIn C 427 dL_law_32 (by decide) (by decide) (off := 395) (by decide) (by decide) (law_value C hX hM hi4 next)
      · exact lg_tabIn C 450 dL_law_32 (by decide) (by decide) (off := 418) (by decide) (by decide) (law_address C hX hM hi4 next)
      · exact lg_tabIn C 473 dL_law_32 (by decide) (by decide) (off := 441) (by decide) (by decide) (law_where C hX hM hi4 next)
      · exact lg_tabIn C 496 dL_law_32 (by decide) (by decide) (off := 464) (by decide) (by decide) (law_undefined C hX hM hi4 next)
      · exact lg_tabIn C 509 dL_law_32 (by decide) (by decide) (off := 477) (by decide) (by decide) (law_idle C hX hM hi4 next)
      · exact lg_tabIn C 522 dL_law_32 (by decide) (by decide) (off := 490) (by decide) (by decide) (law_uses C hX hM hi4 next)
      · exact lg_tabIn C 545 dL_law_32 (by decide) (by decide) (off := 513) (by decide) (by decide) (law_users C hX hM hi4 next)
      · exact lg_tabIn C 568 dL_law_32 (by decide) (by decide) (off := 536) (by decide) (by decide) (law_moduleOf C hX hM hi4 next)
      · exact lg_tabIn C 591 dL_law_32 (by decide) (by decide) (off := 559) (by decide) (by decide) (law_digest C hX hM hi4 next)
      · exact lg_tabOut C 604 dL_law_32 (Or.inr (by rw [nI_toInt (by omega)]; omega)) (by decide) (next SX SM a hX hM)
end
section
theorem va_P_l {D : va_G} {cl : List vw_C} {w1 w2 : va_W} {H : Heap} (h : va_P D cl (w1 ++ w2) H) : va_P D cl w1 H := fun k q hq => h k q (by
  rw [List.getElem?_append_left (List.getElem?_eq_some_iff.mp hq).1]
  exact hq)
theorem va_P_r {D : va_G} {cl : List vw_C} {w1 w2 : va_W} {H : Heap} (h : va_P D cl (w1 ++ w2) H) : va_P D cl w2 H := fun k q hq => h (w1.length + k) q (by
  rw [List.getElem?_append_right (by omega), Nat.add_sub_cancel_left]
  exact hq)
theorem va_D_l {A : Nat → Prop} {w1 w2 : va_W} (h : va_D A (w1 ++ w2)) : va_D A w1 := by
  have at' : ∀ (k : Nat) (q : Nat × va_E), w1[k]? = some q → (w1 ++ w2)[k]? = some q := fun k q hq => by
    rw [List.getElem?_append_left (List.getElem?_eq_some_iff.mp hq).1]
    exact hq
  exact ⟨fun i j p q hi hj e => h.1 i j p q (at' i p hi) (at' j q hj) e, fun k q hq => h.2 k q (at' k q hq)⟩
theorem va_D_r {A : Nat → Prop} {w1 w2 : va_W} (h : va_D A (w1 ++ w2)) : va_D A w2 := by
  have at' : ∀ (k : Nat) (q : Nat × va_E), w2[k]? = some q → (w1 ++ w2)[w1.length + k]? = some q := fun k q hq => by
    rw [List.getElem?_append_right (by omega), Nat.add_sub_cancel_left]
    exact hq
  refine ⟨fun i j p q hi hj e => ?_, fun k q hq => h.2 _ q (at' k q hq)⟩
  have := h.1 _ _ p q (at' i p hi) (at' j q hj) e
  omega
theorem va_D_x {A : Nat → Prop} {w1 w2 : va_W} (h : va_D A (w1 ++ w2)) (i j : Nat) (x y : Nat × va_E) (hi : w1[i]? = some x) (hj : w2[j]? = some y) : x.1 ≠ y.1 := fun e => by
  have hl := (List.getElem?_eq_some_iff.mp hi).1
  have h1 : (w1 ++ w2)[i]? = some x := by
    rw [List.getElem?_append_left hl]
    exact hi
  have h2 : (w1 ++ w2)[w1.length + j]? = some y := by
    rw [List.getElem?_append_right (by omega), Nat.add_sub_cancel_left]
    exact hj
  have := h.1 _ _ x y h1 h2 e
  omega
set_option maxHeartbeats 1000000 in
set_option maxRecDepth 100000 in
theorem whole_start {p : Program} {e : Env} {s : State} {m : MethodId} {below : List Frame} {meth : Method} {c : Code} (l : Launch) {b L : Nat} {xs : Nat → Int32} (hL : L ≤ 256) (C0 : lw_At p s m meth c b L xs) : W p l e room_1 s m #[Value.ref b] below meth c s.heap [] 0 0 (lw_Z below #[Value.ref b] s) (entryFrame m ([Value.ref b] : List Value).toArray 4) := by
  have C1 := C0
  obtain ⟨hx, hb, hr, hml, hown, hts0, hXs, hbl, hlocks, hgv⟩ := C0
  have hts : ∀ w ∈ lw_all, w.before #[Value.ref b] s = true := fun w h => hts0 w (lw_all_tbl h)
  obtain ⟨c0_, iS0, hKn0⟩ := u_known (C := RX0) (T := TX0) (N := 10) (n := 10) hts0 (fun w h => lw_all_tbl (in_X0 w h)) (hts _ q26)
  obtain ⟨c1_, iS1, hKn1⟩ := u_known (C := RX1) (T := TX1) (N := 4) (n := 4) hts0 (fun w h => lw_all_tbl (in_X1 w h)) (hts _ q198)
  obtain ⟨D, hD_⟩ : ∃ D : va_G, D = (fun k => if k = 0 then c0_ else c1_, fun k => if k = 0 then iS0 else iS1) := ⟨_, rfl⟩
  have hK : va_K D vwCl [] s := by
    subst hD_
    refine ⟨fun k q hq => ?_, fun k q hq => by simp at hq⟩
    match k, hq with
    | 0, hq => cases hq; exact hKn0
    | 1, hq => cases hq; exact hKn1
    | k + 2, hq => simp [vwCl] at hq
  have hA : ∀ q : Nat, s.heap.size ≤ q → (fun q => s.heap.size ≤ q) q := fun q h => h
  have hS : va_S (fun q => s.heap.size ≤ q) s.heap s.heap [] := va_S.rf
  have hP : va_P D vwCl [] s.heap := fun k q hq => by simp at hq
  have hD : va_D (fun q => s.heap.size ≤ q) [] := ⟨fun i j p q hi => by simp at hi, fun k q hq => by simp at hq⟩
  have hl := lv_entry ([.ref b]) (n := 4) (Nat.le_of_ble_eq_true rfl)
  rw [lg_entry_eq]
  generalize (lg_sl ([.ref b]) ++ List.replicate (4 - (lg_sl ([.ref b])).length) Slot.unset).toArray = ls at hl ⊢
  have hl : lv_has ls 4 [(0, .ref b)] := hl
  refine va_new (D := D) (ci := 0) (fs := [.null, .null, .null, .null, .null, .null, .null, .null, .null, .null]) (C := RX0) (T := TX0) (N := 10) hx hb hts in_X0 tyX0 tyX0_ok hown (hts _ q25) (hts _ q26) (hts _ q23) hK hP hD hS hA rfl (fun j hj => by rcases (show j = 0 ∨ j = 1 ∨ j = 2 ∨ j = 3 ∨ j = 4 ∨ j = 5 ∨ j = 6 ∨ j = 7 ∨ j = 8 ∨ j = 9 by omega) with rfl | rfl | rfl | rfl | rfl | rfl | rfl | rfl | rfl | rfl <;> rfl) (Nat.le_of_ble_eq_true rfl) (Nat.le_of_ble_eq_true rfl) dL_law_0 (fun qx H hP hD hS => ?_)
  refine W.widen (k := 1) (n := 10) (Nat.le_refl _) (Nat.le_refl _) ?_
  have hP : va_P D vwCl [(qx, .inr (0, [.null, .null, .null, .null, .null, .null, .null, .null, .null, .null]))] H := hP
  have hD : va_D (fun q => s.heap.size ≤ q) [(qx, .inr (0, [.null, .null, .null, .null, .null, .null, .null, .null, .null, .null]))] := hD
  refine lv_dup hx hb dL_law_3 rfl ?_
  have hFc := va_free (wc := [(qx, .inr (0, [.null, .null, .null, .null, .null, .null, .null, .null, .null, .null]))]) hD hS hA [0] rfl
  refine va_callv (va_runI (As := []) (rest := [.ref qx]) ⟨hx, hb, hml, hown, hts⟩ (mX_init l D qx H.size) (cwI 0 hts (lw_meth q29) rfl rfl rfl (hts _ q23) (hts _ q27) (hts _ q28) rfl (by decide +kernel) ⟨(Nat.le_of_ble_eq_true rfl), (Nat.le_of_ble_eq_true rfl)⟩) ⟨fun a U g mk q => by obtain ⟨q0, q1, qP, qK, qD⟩ := q; exact ⟨q0, q1, qP, va_K.moved (u := U) (U := U.calling g mk a) (Vm.Alike.refl U.vm) qK, qD⟩, fun U hU hW => ⟨rfl, by rw [hU], by rw [hU]; exact hP, va_K.moved hW.alike hK, hD.weaken (fun _ _ _ _ => trivial)⟩⟩ rfl rfl hl.1 rfl (lv_room (Nat.le_of_ble_eq_true rfl)) dL_law_4 ⟨(Nat.le_of_ble_eq_true rfl), (Nat.le_of_ble_eq_true rfl)⟩) hS (fun q _ h => hFc q h) hFc (fun u t H1 locs ht hvm hw1 hB hz1 hk1 hS => ?_)
  obtain ⟨hX, cA, SX⟩ := u
  obtain ⟨hX0, hRX⟩ := hw1
  obtain ⟨hP1, hK1, hD1⟩ := hB
  rw [ht] at hP1
  have hKA : va_K D vwCl [(cA, .int)] s := va_K.moved hvm.symm hK1
  have hX0 : hX 0 = qx := hX0
  have hDX : va_D (fun q => s.heap.size ≤ q) (gw GX hX cA SX) := hD1.weaken (fun k q _ h => hFc q.1 h)
  have hPX : va_P D vwCl (gw GX hX cA SX) H1 := hP1
  clear hP hD hP1 hD1 hFc hk1
  refine W.widen (k := 11) (n := 347) (Nat.le_refl _) (Nat.le_refl _) ?_
  refine lv_astore_n (lv' := [(1, .ref qx), (0, .ref b)]) hx hb dL_law_7 rfl hl (by decide) rfl (fun ls hl => ?_)
  refine va_new (D := D) (ci := 1) (fs := [.null, .null, .null, .null]) (C := RX1) (T := TX1) (N := 4) hx hb hts in_X1 tyX1 tyX1_ok hown (hts _ q197) (hts _ q198) (hts _ q24) hK hPX hDX hS hA rfl (fun j hj => by rcases (show j = 0 ∨ j = 1 ∨ j = 2 ∨ j = 3 by omega) with rfl | rfl | rfl | rfl <;> rfl) (Nat.le_of_ble_eq_true rfl) (Nat.le_of_ble_eq_true rfl) dL_law_8 (fun qm H hP hD hS => ?_)
  refine W.widen (k := 12) (n := 351) (Nat.le_refl _) (Nat.le_refl _) ?_
  refine lv_dup hx hb dL_law_11 rfl ?_
  have hPc := va_P_r hP
  have hDc := va_D_r hD
  have hFc := va_free (wc := [(qm, .inr (1, [.null, .null, .null, .null]))]) hD hS hA [11] rfl
  refine va_callv (va_runI (As := []) (rest := [.ref qm]) ⟨hx, hb, hml, hown, hts⟩ (mM_init l D qm H.size) (cwI 0 hts (lw_meth q201) rfl rfl rfl (hts _ q24) (hts _ q199) (hts _ q200) rfl (by decide +kernel) ⟨(Nat.le_of_ble_eq_true rfl), (Nat.le_of_ble_eq_true rfl)⟩) ⟨fun a U g mk q => by obtain ⟨q0, q1, qP, qK, qD⟩ := q; exact ⟨q0, q1, qP, va_K.moved (u := U) (U := U.calling g mk a) (Vm.Alike.refl U.vm) qK, qD⟩, fun U hU hW => ⟨rfl, by rw [hU], by rw [hU]; exact hPc, va_K.moved hW.alike hK, hDc.weaken (fun _ _ _ _ => trivial)⟩⟩ rfl rfl hl.1 rfl (lv_room (Nat.le_of_ble_eq_true rfl)) dL_law_12 ⟨(Nat.le_of_ble_eq_true rfl), (Nat.le_of_ble_eq_true rfl)⟩) hS (fun q _ h => hFc q h) hFc (fun u t H1 locs ht hvm hw1 hB hz1 hk1 hS => ?_)
  obtain ⟨hM, cB, SM⟩ := u
  obtain ⟨hM0, hRM⟩ := hw1
  obtain ⟨hP1, hK1, hD1⟩ := hB
  rw [ht] at hP1
  have hKB : va_K D vwCl [(cB, .int)] s := va_K.moved hvm.symm hK1
  have hM0 : hM 0 = qm := hM0
  obtain ⟨hP2, hD2⟩ := va_join (wr := gw GX hX cA SX) (w1 := gw GM hM cB SM) hP hD [11] [0, 1, 2, 3, 4, 5, 6, 7, 8, 9, 10] rfl rfl (by decide) (by decide) hk1 hFc hP1 hD1
  refine W.widen (k := 16) (n := 513) (Nat.le_refl _) (Nat.le_refl _) ?_
  refine lv_astore_n (lv' := [(2, .ref qm), (1, .ref qx), (0, .ref b)]) hx hb dL_law_15 rfl hl (by decide) rfl (fun ls hl => ?_)
  refine lv_iconst (v := nI 0) hx hb dL_law_16 ki_0 ?_
  refine lv_istore_n (lv' := [(3, .int (nI 0)), (2, .ref qm), (1, .ref qx), (0, .ref b)]) hx hb dL_law_17 rfl hl (by decide) rfl (fun ls hl => ?_)
  have hl := lv_sub hl (l' := [(0, .ref b), (1, .ref qx), (2, .ref qm), (3, .int (nI 0))]) [3, 2, 1, 0] rfl
  rw [← hX0, ← hM0] at hl
  have C : lg_C ((hX, cA, hM, cB, D), (p, l, e, s, m), (below, meth, c), (b, L, xs)) :=
    ⟨C1, hKA.app hKB, fun S => va_D_addr (gw_addr SX S) (va_D_l hD2), fun S => va_D_addr (gw_addr SM S) (va_D_r hD2), fun S T i j x y h1 h2 => by
      have h3 : va_D (fun q => s.heap.size ≤ q) (gw GX hX cA S ++ gw GM hM cB T) := va_D_addr (by rw [List.map_append, List.map_append, gw_addr SX S, gw_addr SM T]) hD2
      exact va_D_x h3 i j x y h1 h2, hL⟩
  exact law_loop C 64 0 SX SM a_0 (by show L < 0 + 4 * (64 + 1); omega) (by omega) hRX hRM H1 locs ls (va_P_l hP2) (va_P_r hP2) hS hl
end
section
set_option maxHeartbeats 4000000 in
theorem lw_walk (l : Launch) (b : Addr) (xs : List Int32) : MetFree l x (headSpec (Jvm.Cond.code x code maxLocals ret :: tables_1) room_1) (lw_P b xs) (fun _ _ _ _ _ => True) lw_Q := by
  refine MetFree.of_bodyS (code := code) (maxLocals := maxLocals) (ret := ret) (by decide) ?_ ?_
  · intro args s m h hn
    obtain ⟨meth, c, h1, h2, h3, h4, h5, h6, -, -⟩ := Cond.code_spec hn (atoms_spec (ws := Jvm.Cond.code x code maxLocals ret :: tables_1) h _ List.mem_cons_self)
    exact ⟨meth, c, h1, h2, h3, h4, h5, h6⟩
  · intro p e s m args below meth c s₁ B hml0 hP _
    obtain ⟨rfl, hx, hbd, hgv⟩ := hP
    obtain ⟨scr, harrAt, hlist, hof, hsmall⟩ := hx
    obtain ⟨hcb, hkn, -, -⟩ := State.arrayAt?_spec harrAt
    have hown : s.vm.findClass R_law = some m.cls := findClass_of_methodNamed B.named
    have hts0 : ∀ c ∈ (Jvm.Cond.code x code maxLocals ret :: tables_1), c.before #[Value.ref b] s = true := atoms_spec (ws := Jvm.Cond.code x code maxLocals ret :: tables_1) B.pre
    have hts : ∀ w ∈ lw_tbl, w.before #[Value.ref b] s = true := k2_hts_sels lw_privs (fun w hw => hts0 w (List.mem_cons_of_mem _ hw)) lw_privs_ok
    have hml : c.maxLocals = 4 := B.maxLocals_eq (hts0 _ List.mem_cons_self)
    have X₀ : Stand p l e room_1 s m #[Value.ref b] below meth c s₁ [] 0 0 := Stand.of_body B
    have hh0 : s₁.heap = s.heap := by rw [B.state]; rfl
    have hsz : scr.slots.size = xs.length := by rw [← Array.length_toList, hlist, List.length_map]
    have hval : ∀ j : Nat, j < xs.length → scr.slots[j]? = some (.int (xs.getD j 0)) := fun j hj => by
      rw [← Array.getElem?_toList, hlist]
      simp [hj]
    have hbl : b < s.heap.size := (Array.getElem?_eq_some_iff.mp hcb).1
    have hX : va_X b xs.length (fun j => xs.getD j 0) s s.heap := ⟨scr, hcb, hof, hkn, hsz, hval⟩
    have K : W p l e room_1 s m #[Value.ref b] below meth c s₁.heap [] 0 0 (lw_Z below #[Value.ref b] s) (entryFrame m ([Value.ref b] : List Value).toArray 4) := by
      rw [hh0]
      exact whole_start l hbd ⟨B.exec, B.bytes, B.returns, hml, hown, hts, hX, hbl, B.notSynchronized, hgv⟩
    obtain ⟨t, a1, o, b1, b2, b3⟩ := K s₁ rfl X₀
    exact ⟨t, o, a1, b1, b2, b3⟩
theorem lw_pre_spec {args : Array Value} {s : State} (h : (Jvm.Cond.and given_1 narrow_1).before args s = true) (hr : rest_1_c.before args s = true) : ∃ (b : Addr) (xs : List Int32), lw_P b xs args s := by
  have hs := flat_of_before _ h
  have hq := flat_of_before _ hr
  have hc : (Cond.count 1).before args s = true := hs _ (by decide +kernel)
  have harr : (Cond.arrayOf (.arg 0) .int).before args s = true := hs _ (by decide +kernel)
  have hle : (Cond.le (.length (.arg 0)) (.int 256)).before args s = true := hs _ (by decide +kernel)
  have hlen : (Cond.isInt (.length (.arg 0))).before args s = true := hq _ (by decide +kernel)
  have hall : (Cond.all (.arg 0) (.isInt (.elem (.arg 0) (.index 0)))).before args s = true := hq _ (by decide +kernel)
  obtain ⟨b, xs, hb, hx⟩ := State.ints_of_pre rfl harr hlen hall
  have hsm : xs.length < 2 ^ 31 := hx.choose_spec.2.2.2
  have hev : (Term.length (.arg 0)).eval args s none [] s = some (.int xs.length.toInt32) := hx.length_eval hb
  have hv := Cond.le_ints hev (show (Term.int 256).eval args s none [] s = some (.int 256) from rfl)
  have hd : xs.length.toInt32 ≤ 256 := by
    simpa [Cond.before, Cond.holds, hv] using hle
  have hN : xs.length ≤ 256 := (Int32.ofNat_le_ofNat hsm (by decide)).mp (show Int32.ofNat xs.length ≤ Int32.ofNat 256 from hd)
  exact ⟨b, xs, Cond.one_arg hc (show args[0]? = some (.ref b) from hb), hx, hN, h⟩
theorem lw_comes (l : Launch) : Comes l x (Jvm.Cond.code x code maxLocals ret :: tables_1) room_1 (fun tb e args s => Calls_1 tb e args s ∧ rest_1 tb e args s ∧ Pre_1 tb e args s)
    (fun _ _ args s o t => lw_Q args s o t) := by
  intro p e ha hc hk s m args below hf hfit hheap happ hpre
  obtain ⟨b, xs, hP⟩ := lw_pre_spec hpre.2.2 hpre.2.1
  obtain ⟨k, o, h1, h2, h3, hQ⟩ := lw_walk l b xs p e ha hc hk s m args below hf ((Spec.applies_iff_loose hf).mp happ).1 hP trivial
  exact ⟨k, o, h1, h2, h3, hQ⟩
theorem lw_frame {s t : State} {o : Outcome} {args : Array Value} (h : Framed s o t [] 600000 7290000) :
    Framed s o t (fieldLocs frame_1_writes args s ++ arrayLocs frame_1_arrays args s ++ staticLocs frame_1_statics s) 600000 7290000 := h
theorem lw_limb (L : Cond) (hL : ∀ (args : Array Value) (s t : State), L.after args s (.returned (some (.int 1))) t = true) :
    ArmFor flags0 classFile x code maxLocals ret World_1 tables_1 room_1 Calls_1 rest_1 Pre_1
      (fun tb e a s o t => postC L tb e a s o t ∧ Framed s o t (fieldLocs frame_1_writes a s ++ arrayLocs frame_1_arrays a s ++ staticLocs frame_1_statics s) 600000 7290000) := by
  intro l _ _ _ p e ha hc hk s m args below hf hfit hheap happ hpre
  obtain ⟨k, o, h1, h2, h3, rfl, hF⟩ := lw_comes l p e ha hc hk s m args below hf hfit hheap happ hpre
  exact ⟨k, _, h1, h2, h3, hL args s _, lw_frame hF⟩
theorem i_vc : Claimed_1_1 ∧ Claimed_1_2 := ⟨lw_limb limb_1_1 (fun args s t => by simp [limb_1_1, Cond.after, Cond.holds, Cond.value]), lw_limb limb_1_2 (fun args s t => Cond.after_iff.mpr (by
  first | (rw [show limb_1_2 = Cond.eq .result (.int 1) from rfl, Cond.eq_ints (x := 1) (y := 1) rfl rfl]; simp; done) | (simp [limb_1_2, Cond.value, Term.eval]; done)))⟩
end
