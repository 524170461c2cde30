section
-- ===== PART A: goes FIRST, ahead of the names: the tables' words, and 'selects' of the private methods out of them =====
/-- a private method of a class that the tables say can be made, by its rows of tables_1 -/
def lw_okq (q : MethodName × Nat) : Prop := (q.1.cls ≠ "java/lang/invoke/MethodHandle" ∧ q.1.cls ≠ "java/lang/invoke/VarHandle") ∧ Cond.instantiable q.1.cls q.2 ∈ tables_1 ∧ Cond.privateMethod q.1 ∈ tables_1 ∧ Cond.instanceMethod q.1 ∈ tables_1
set_option maxRecDepth 100000
theorem lw_t1 {w : Cond} (h : w ∈ tables_1_1) : w ∈ tables_1 := List.mem_append_left _ h
theorem lw_t2 {w : Cond} (h : w ∈ tables_1_2) : w ∈ tables_1 := List.mem_append_right _ h
theorem lw_p0 : lw_okq (⟨"KahnNet", "isWritten", "(I)Z"⟩, 16) := ⟨⟨by decide +kernel, by decide +kernel⟩, lw_t1 (List.mem_of_getElem? (i := 4) rfl), lw_t1 (List.mem_of_getElem? (i := 67) rfl), lw_t1 (List.mem_of_getElem? (i := 68) rfl)⟩
theorem lw_p1 : lw_okq (⟨"KahnNet", "addProcess", "(IIIII)I"⟩, 16) := ⟨⟨by decide +kernel, by decide +kernel⟩, lw_t1 (List.mem_of_getElem? (i := 4) rfl), lw_t1 (List.mem_of_getElem? (i := 71) rfl), lw_t1 (List.mem_of_getElem? (i := 72) rfl)⟩
theorem lw_p2 : lw_okq (⟨"KahnNet", "isRead", "(I)Z"⟩, 16) := ⟨⟨by decide +kernel, by decide +kernel⟩, lw_t1 (List.mem_of_getElem? (i := 4) rfl), lw_t1 (List.mem_of_getElem? (i := 79) rfl), lw_t1 (List.mem_of_getElem? (i := 80) rfl)⟩
theorem lw_p3 : lw_okq (⟨"KahnNet", "runAll", "()V"⟩, 16) := ⟨⟨by decide +kernel, by decide +kernel⟩, lw_t1 (List.mem_of_getElem? (i := 4) rfl), lw_t1 (List.mem_of_getElem? (i := 91) rfl), lw_t1 (List.mem_of_getElem? (i := 92) rfl)⟩
theorem lw_p4 : lw_okq (⟨"KahnNet", "step", "(I)Z"⟩, 16) := ⟨⟨by decide +kernel, by decide +kernel⟩, lw_t1 (List.mem_of_getElem? (i := 4) rfl), lw_t1 (List.mem_of_getElem? (i := 95) rfl), lw_t1 (List.mem_of_getElem? (i := 96) rfl)⟩
theorem lw_p5 : lw_okq (⟨"KahnNet", "isReady", "(I)Z"⟩, 16) := ⟨⟨by decide +kernel, by decide +kernel⟩, lw_t1 (List.mem_of_getElem? (i := 4) rfl), lw_t1 (List.mem_of_getElem? (i := 99) rfl), lw_t1 (List.mem_of_getElem? (i := 100) rfl)⟩
theorem lw_p6 : lw_okq (⟨"KahnNet", "isComplete", "(I)Z"⟩, 16) := ⟨⟨by decide +kernel, by decide +kernel⟩, lw_t1 (List.mem_of_getElem? (i := 4) rfl), lw_t1 (List.mem_of_getElem? (i := 103) rfl), lw_t1 (List.mem_of_getElem? (i := 104) rfl)⟩
theorem lw_p7 : lw_okq (⟨"KahnNet", "unread", "(I)I"⟩, 16) := ⟨⟨by decide +kernel, by decide +kernel⟩, lw_t1 (List.mem_of_getElem? (i := 4) rfl), lw_t1 (List.mem_of_getElem? (i := 107) rfl), lw_t1 (List.mem_of_getElem? (i := 108) rfl)⟩
theorem lw_p8 : lw_okq (⟨"KahnNet", "hasRoom", "(I)Z"⟩, 16) := ⟨⟨by decide +kernel, by decide +kernel⟩, lw_t1 (List.mem_of_getElem? (i := 4) rfl), lw_t1 (List.mem_of_getElem? (i := 111) rfl), lw_t1 (List.mem_of_getElem? (i := 112) rfl)⟩
theorem lw_p9 : lw_okq (⟨"KahnNet", "put", "(II)V"⟩, 16) := ⟨⟨by decide +kernel, by decide +kernel⟩, lw_t1 (List.mem_of_getElem? (i := 4) rfl), lw_t1 (List.mem_of_getElem? (i := 115) rfl), lw_t1 (List.mem_of_getElem? (i := 116) rfl)⟩
theorem lw_p10 : lw_okq (⟨"KahnNet", "take", "(I)I"⟩, 16) := ⟨⟨by decide +kernel, by decide +kernel⟩, lw_t1 (List.mem_of_getElem? (i := 4) rfl), lw_t1 (List.mem_of_getElem? (i := 119) rfl), lw_t1 (List.mem_of_getElem? (i := 120) rfl)⟩
theorem lw_p11 : lw_okq (⟨"KahnNet", "peek", "(I)I"⟩, 16) := ⟨⟨by decide +kernel, by decide +kernel⟩, lw_t1 (List.mem_of_getElem? (i := 4) rfl), lw_t1 (List.mem_of_getElem? (i := 123) rfl), lw_t1 (List.mem_of_getElem? (i := 124) rfl)⟩
theorem lw_p12 : lw_okq (⟨"KahnNet", "stepOne", "(II)V"⟩, 16) := ⟨⟨by decide +kernel, by decide +kernel⟩, lw_t1 (List.mem_of_getElem? (i := 4) rfl), lw_t1 (List.mem_of_getElem? (i := 127) rfl), lw_t1 (List.mem_of_getElem? (i := 128) rfl)⟩
theorem lw_p13 : lw_okq (⟨"KahnNet", "growSmallest", "()Z"⟩, 16) := ⟨⟨by decide +kernel, by decide +kernel⟩, lw_t1 (List.mem_of_getElem? (i := 4) rfl), lw_t1 (List.mem_of_getElem? (i := 131) rfl), lw_t1 (List.mem_of_getElem? (i := 132) rfl)⟩
theorem lw_p14 : lw_okq (⟨"KahnNet", "smaller", "(II)I"⟩, 16) := ⟨⟨by decide +kernel, by decide +kernel⟩, lw_t1 (List.mem_of_getElem? (i := 4) rfl), lw_t1 (List.mem_of_getElem? (i := 135) rfl), lw_t1 (List.mem_of_getElem? (i := 136) rfl)⟩
theorem lw_p15 : lw_okq (⟨"KahnNetModel", "addProcess", "(IIIII)I"⟩, 14) := ⟨⟨by decide +kernel, by decide +kernel⟩, lw_t1 (List.mem_of_getElem? (i := 158) rfl), lw_t1 (List.mem_of_getElem? (i := 212) rfl), lw_t1 (List.mem_of_getElem? (i := 213) rfl)⟩
def lw_privs_1 : List (MethodName × Nat) := [(⟨"KahnNet", "isWritten", "(I)Z"⟩, 16), (⟨"KahnNet", "addProcess", "(IIIII)I"⟩, 16), (⟨"KahnNet", "isRead", "(I)Z"⟩, 16), (⟨"KahnNet", "runAll", "()V"⟩, 16), (⟨"KahnNet", "step", "(I)Z"⟩, 16), (⟨"KahnNet", "isReady", "(I)Z"⟩, 16), (⟨"KahnNet", "isComplete", "(I)Z"⟩, 16), (⟨"KahnNet", "unread", "(I)I"⟩, 16), (⟨"KahnNet", "hasRoom", "(I)Z"⟩, 16), (⟨"KahnNet", "put", "(II)V"⟩, 16), (⟨"KahnNet", "take", "(I)I"⟩, 16), (⟨"KahnNet", "peek", "(I)I"⟩, 16), (⟨"KahnNet", "stepOne", "(II)V"⟩, 16), (⟨"KahnNet", "growSmallest", "()Z"⟩, 16), (⟨"KahnNet", "smaller", "(II)I"⟩, 16), (⟨"KahnNetModel", "addProcess", "(IIIII)I"⟩, 14)]
theorem lw_r1 : ∀ q ∈ lw_privs_1, lw_okq q := List.forall_mem_cons.mpr ⟨lw_p0, List.forall_mem_cons.mpr ⟨lw_p1, List.forall_mem_cons.mpr ⟨lw_p2, List.forall_mem_cons.mpr ⟨lw_p3, List.forall_mem_cons.mpr ⟨lw_p4, List.forall_mem_cons.mpr ⟨lw_p5, List.forall_mem_cons.mpr ⟨lw_p6, List.forall_mem_cons.mpr ⟨lw_p7, List.forall_mem_cons.mpr ⟨lw_p8, List.forall_mem_cons.mpr ⟨lw_p9, List.forall_mem_cons.mpr ⟨lw_p10, List.forall_mem_cons.mpr ⟨lw_p11, List.forall_mem_cons.mpr ⟨lw_p12, List.forall_mem_cons.mpr ⟨lw_p13, List.forall_mem_cons.mpr ⟨lw_p14, List.forall_mem_cons.mpr ⟨lw_p15, fun _ h => absurd h List.not_mem_nil⟩⟩⟩⟩⟩⟩⟩⟩⟩⟩⟩⟩⟩⟩⟩⟩
theorem lw_p16 : lw_okq (⟨"KahnNetModel", "isTaken", "(IIIII)Z"⟩, 14) := ⟨⟨by decide +kernel, by decide +kernel⟩, lw_t1 (List.mem_of_getElem? (i := 158) rfl), lw_t1 (List.mem_of_getElem? (i := 220) rfl), lw_t1 (List.mem_of_getElem? (i := 221) rfl)⟩
theorem lw_p17 : lw_okq (⟨"KahnNetModel", "isChannel", "(I)Z"⟩, 14) := ⟨⟨by decide +kernel, by decide +kernel⟩, lw_t1 (List.mem_of_getElem? (i := 158) rfl), lw_t1 (List.mem_of_getElem? (i := 232) rfl), lw_t1 (List.mem_of_getElem? (i := 233) rfl)⟩
theorem lw_p18 : lw_okq (⟨"KahnNetModel", "settle", "()V"⟩, 14) := ⟨⟨by decide +kernel, by decide +kernel⟩, lw_t1 (List.mem_of_getElem? (i := 158) rfl), lw_t1 (List.mem_of_getElem? (i := 236) rfl), lw_t1 (List.mem_of_getElem? (i := 237) rfl)⟩
theorem lw_p19 : lw_okq (⟨"KahnNetModel", "work", "(I)V"⟩, 14) := ⟨⟨by decide +kernel, by decide +kernel⟩, lw_t1 (List.mem_of_getElem? (i := 158) rfl), lw_t2 (List.mem_of_getElem? (i := 0) rfl), lw_t2 (List.mem_of_getElem? (i := 1) rfl)⟩
theorem lw_p20 : lw_okq (⟨"KahnNetModel", "write", "(I)V"⟩, 14) := ⟨⟨by decide +kernel, by decide +kernel⟩, lw_t1 (List.mem_of_getElem? (i := 158) rfl), lw_t2 (List.mem_of_getElem? (i := 4) rfl), lw_t2 (List.mem_of_getElem? (i := 5) rfl)⟩
theorem lw_p21 : lw_okq (⟨"KahnNetModel", "join", "(II)V"⟩, 14) := ⟨⟨by decide +kernel, by decide +kernel⟩, lw_t1 (List.mem_of_getElem? (i := 158) rfl), lw_t2 (List.mem_of_getElem? (i := 8) rfl), lw_t2 (List.mem_of_getElem? (i := 9) rfl)⟩
theorem lw_p22 : lw_okq (⟨"KahnNetModel", "get", "(II)I"⟩, 14) := ⟨⟨by decide +kernel, by decide +kernel⟩, lw_t1 (List.mem_of_getElem? (i := 158) rfl), lw_t2 (List.mem_of_getElem? (i := 12) rfl), lw_t2 (List.mem_of_getElem? (i := 13) rfl)⟩
theorem lw_p23 : lw_okq (⟨"KahnNetModel", "store", "(I)Z"⟩, 14) := ⟨⟨by decide +kernel, by decide +kernel⟩, lw_t1 (List.mem_of_getElem? (i := 158) rfl), lw_t2 (List.mem_of_getElem? (i := 16) rfl), lw_t2 (List.mem_of_getElem? (i := 17) rfl)⟩
def lw_privs_2 : List (MethodName × Nat) := [(⟨"KahnNetModel", "isTaken", "(IIIII)Z"⟩, 14), (⟨"KahnNetModel", "isChannel", "(I)Z"⟩, 14), (⟨"KahnNetModel", "settle", "()V"⟩, 14), (⟨"KahnNetModel", "work", "(I)V"⟩, 14), (⟨"KahnNetModel", "write", "(I)V"⟩, 14), (⟨"KahnNetModel", "join", "(II)V"⟩, 14), (⟨"KahnNetModel", "get", "(II)I"⟩, 14), (⟨"KahnNetModel", "store", "(I)Z"⟩, 14)]
theorem lw_r2 : ∀ q ∈ lw_privs_2, lw_okq q := List.forall_mem_cons.mpr ⟨lw_p16, List.forall_mem_cons.mpr ⟨lw_p17, List.forall_mem_cons.mpr ⟨lw_p18, List.forall_mem_cons.mpr ⟨lw_p19, List.forall_mem_cons.mpr ⟨lw_p20, List.forall_mem_cons.mpr ⟨lw_p21, List.forall_mem_cons.mpr ⟨lw_p22, List.forall_mem_cons.mpr ⟨lw_p23, fun _ h => absurd h List.not_mem_nil⟩⟩⟩⟩⟩⟩⟩⟩
def lw_privs : List (MethodName × Nat) := lw_privs_1 ++ (lw_privs_2)
def lw_tbl : List Cond := k2_sels lw_privs ++ tables_1
theorem lw_privs_ok : ∀ q ∈ lw_privs, lw_okq q := by
  show ∀ q ∈ lw_privs_1 ++ (lw_privs_2), lw_okq q
  exact List.forall_mem_append.mpr ⟨lw_r1, lw_r2⟩
-- ===== ONE list of words for every method: the tables' words that hold all through a run =====
def lw_all : List Cond := lw_tbl.filter goodWord
/-- a word of the tables by its place: claim/WORDS.tsv -/
theorem lw_w {w : Cond} (i : Nat) (h : lw_tbl[i]? = some w) (g : goodWord w = true) : w ∈ lw_all := List.mem_filter.mpr ⟨List.mem_of_getElem? h, g⟩
theorem lw_all_tbl {w : Cond} (h : w ∈ lw_all) : w ∈ lw_tbl := (List.mem_filter.mp h).1
theorem lw_self : GoodIn lw_all lw_all := fun w h => ⟨h, good_of_word (List.mem_filter.mp h).2⟩
/-- a class's field words, by their places -/
theorem lw_in (ws : List Cond) (ps : List Nat) (hp : ws = ps.filterMap (fun i => lw_tbl[i]?)) (hg : ws.all goodWord = true) : ∀ w ∈ ws, w ∈ lw_all := by
  intro w h
  have h1 := List.all_eq_true.mp hg w h
  rw [hp] at h
  obtain ⟨i, -, hi⟩ := List.mem_filterMap.mp h
  exact lw_w i hi h1
/-- the words of a contract for the method y with code b, L locals, answer r -/
abbrev ws_ (y : MethodName) (b : ByteArray) (L : Nat) (r : Option FieldType) : List Cond := Cond.code y b L r :: lw_all
theorem lw_meth {y : MethodName} {b : ByteArray} {L : Nat} {r : Option FieldType} (h : Cond.code y b L r ∈ lw_all) : GoodIn lw_all (ws_ y b L r) := by
  intro w hw
  rcases List.mem_cons.mp hw with e | e
  · rw [e]
    exact lw_self _ h
  · exact lw_self _ e
theorem lw_app {a c : List Cond} (ha : ∀ w ∈ a, w ∈ lw_all) (hc : GoodIn lw_all c) : GoodIn lw_all (a ++ c) := by
  intro w hw
  rcases List.mem_append.mp hw with e | e
  · exact lw_self w (ha w e)
  · exact hc w e
/-- what a call through an object asks: cwV n hts (lw_V ..) -/
theorem lw_V {own : String} {idx : Nat} {C : String} {y : MethodName} {b : ByteArray} {L : Nat} {r : Option FieldType} (h1 : Cond.methodLink own idx y ∈ lw_all) (h2 : Cond.instanceMethod y ∈ lw_all) (h3 : Cond.selects C y y ∈ lw_all) (h4 : Cond.initialized C ∈ lw_all) (h5 : Cond.code y b L r ∈ lw_all) : GoodIn lw_all (wsV own idx C y (ws_ y b L r)) := by
  refine lw_app ?_ (lw_meth h5)
  intro w hw
  simp only [List.mem_cons, List.not_mem_nil, or_false] at hw
  rcases hw with e | e | e | e
  · rw [e]; exact h1
  · rw [e]; exact h2
  · rw [e]; exact h3
  · rw [e]; exact h4
/-- what a static call asks: va_cwS n hts (lw_S ..) -/
theorem lw_S {own : String} {idx : Nat} {y : MethodName} {b : ByteArray} {L : Nat} {r : Option FieldType} (h1 : Cond.methodLink own idx y ∈ lw_all) (h2 : Cond.static y ∈ lw_all) (h3 : Cond.initialized y.cls ∈ lw_all) (h4 : Cond.code y b L r ∈ lw_all) : GoodIn lw_all (va_wsS own idx y (ws_ y b L r)) := by
  refine lw_app ?_ (lw_meth h4)
  intro w hw
  simp only [List.mem_cons, List.not_mem_nil, or_false] at hw
  rcases hw with e | e | e
  · rw [e]; exact h1
  · rw [e]; exact h2
  · rw [e]; exact h3
/-- the words of a contract for a method WITH HANDLERS (hh: its table) -/
abbrev wsW_ (y : MethodName) (b : ByteArray) (L : Nat) (r : Option FieldType) (hh : List (Nat × Nat × Nat × Nat)) : List Cond := Cond.codeWith y b L r hh :: lw_all
theorem lw_methW {y : MethodName} {b : ByteArray} {L : Nat} {r : Option FieldType} {hh : List (Nat × Nat × Nat × Nat)} (h : Cond.codeWith y b L r hh ∈ lw_all) : GoodIn lw_all (wsW_ y b L r hh) := by
  intro w hw
  rcases List.mem_cons.mp hw with e | e
  · rw [e]
    exact lw_self _ h
  · exact lw_self _ e
/-- any list of words by their places (lw_in), good -/
theorem lw_good {ws : List Cond} (h : ∀ w ∈ ws, w ∈ lw_all) : GoodIn lw_all ws := fun w hw => lw_self w (h w hw)
/-- what a call of a method with handlers asks: vx_cwVW n hts (lw_VW ..), vx_cwSW n hts (lw_SW ..) -/
theorem lw_VW {own : String} {idx : Nat} {C : String} {y : MethodName} {b : ByteArray} {L : Nat} {r : Option FieldType} {hh : List (Nat × Nat × Nat × Nat)} (h1 : Cond.methodLink own idx y ∈ lw_all) (h2 : Cond.instanceMethod y ∈ lw_all) (h3 : Cond.selects C y y ∈ lw_all) (h4 : Cond.initialized C ∈ lw_all) (h5 : Cond.codeWith y b L r hh ∈ lw_all) : GoodIn lw_all (wsV own idx C y (wsW_ y b L r hh)) := by
  refine lw_app ?_ (lw_methW h5)
  intro w hw
  simp only [List.mem_cons, List.not_mem_nil, or_false] at hw
  rcases hw with e | e | e | e
  · rw [e]; exact h1
  · rw [e]; exact h2
  · rw [e]; exact h3
  · rw [e]; exact h4
theorem lw_SW {own : String} {idx : Nat} {y : MethodName} {b : ByteArray} {L : Nat} {r : Option FieldType} {hh : List (Nat × Nat × Nat × Nat)} (h1 : Cond.methodLink own idx y ∈ lw_all) (h2 : Cond.static y ∈ lw_all) (h3 : Cond.initialized y.cls ∈ lw_all) (h4 : Cond.codeWith y b L r hh ∈ lw_all) : GoodIn lw_all (va_wsS own idx y (wsW_ y b L r hh)) := by
  refine lw_app ?_ (lw_methW h4)
  intro w hw
  simp only [List.mem_cons, List.not_mem_nil, or_false] at hw
  rcases hw with e | e | e
  · rw [e]; exact h1
  · rw [e]; exact h2
  · rw [e]; exact h3
/-- a word by its place in its run of the tables -/
theorem lw_at {r : List Cond} (hr : ∀ w ∈ r, w ∈ lw_tbl) {w : Cond} (i : Nat) (h : r[i]? = some w) : w ∈ lw_tbl := hr w (List.mem_of_getElem? h)
theorem lw_g {w : Cond} (h : w ∈ lw_tbl) (g : goodWord w = true) : w ∈ lw_all := List.mem_filter.mpr ⟨h, g⟩
theorem lw_ms : ∀ w ∈ k2_sels lw_privs, w ∈ lw_tbl := fun w h => show w ∈ k2_sels lw_privs ++ tables_1 from List.mem_append_left _ h
theorem lw_m1 : ∀ w ∈ tables_1_1, w ∈ lw_tbl := fun w h => show w ∈ k2_sels lw_privs ++ tables_1 from List.mem_append_right (k2_sels lw_privs) (show w ∈ tables_1 from List.mem_append_left _ h)
theorem lw_m2 : ∀ w ∈ tables_1_2, w ∈ lw_tbl := fun w h => show w ∈ k2_sels lw_privs ++ tables_1 from List.mem_append_right (k2_sels lw_privs) (show w ∈ tables_1 from List.mem_append_right _ h)
theorem qs0 : (Cond.selects "KahnNet" ⟨"KahnNet", "isWritten", "(I)Z"⟩ ⟨"KahnNet", "isWritten", "(I)Z"⟩) ∈ lw_all := lw_g (lw_at lw_ms 0 rfl) rfl
theorem qs1 : (Cond.selects "KahnNet" ⟨"KahnNet", "addProcess", "(IIIII)I"⟩ ⟨"KahnNet", "addProcess", "(IIIII)I"⟩) ∈ lw_all := lw_g (lw_at lw_ms 1 rfl) rfl
theorem qs2 : (Cond.selects "KahnNet" ⟨"KahnNet", "isRead", "(I)Z"⟩ ⟨"KahnNet", "isRead", "(I)Z"⟩) ∈ lw_all := lw_g (lw_at lw_ms 2 rfl) rfl
theorem qs3 : (Cond.selects "KahnNet" ⟨"KahnNet", "runAll", "()V"⟩ ⟨"KahnNet", "runAll", "()V"⟩) ∈ lw_all := lw_g (lw_at lw_ms 3 rfl) rfl
theorem qs4 : (Cond.selects "KahnNet" ⟨"KahnNet", "step", "(I)Z"⟩ ⟨"KahnNet", "step", "(I)Z"⟩) ∈ lw_all := lw_g (lw_at lw_ms 4 rfl) rfl
theorem qs5 : (Cond.selects "KahnNet" ⟨"KahnNet", "isReady", "(I)Z"⟩ ⟨"KahnNet", "isReady", "(I)Z"⟩) ∈ lw_all := lw_g (lw_at lw_ms 5 rfl) rfl
theorem qs6 : (Cond.selects "KahnNet" ⟨"KahnNet", "isComplete", "(I)Z"⟩ ⟨"KahnNet", "isComplete", "(I)Z"⟩) ∈ lw_all := lw_g (lw_at lw_ms 6 rfl) rfl
theorem qs7 : (Cond.selects "KahnNet" ⟨"KahnNet", "unread", "(I)I"⟩ ⟨"KahnNet", "unread", "(I)I"⟩) ∈ lw_all := lw_g (lw_at lw_ms 7 rfl) rfl
theorem qs8 : (Cond.selects "KahnNet" ⟨"KahnNet", "hasRoom", "(I)Z"⟩ ⟨"KahnNet", "hasRoom", "(I)Z"⟩) ∈ lw_all := lw_g (lw_at lw_ms 8 rfl) rfl
theorem qs9 : (Cond.selects "KahnNet" ⟨"KahnNet", "put", "(II)V"⟩ ⟨"KahnNet", "put", "(II)V"⟩) ∈ lw_all := lw_g (lw_at lw_ms 9 rfl) rfl
theorem qs10 : (Cond.selects "KahnNet" ⟨"KahnNet", "take", "(I)I"⟩ ⟨"KahnNet", "take", "(I)I"⟩) ∈ lw_all := lw_g (lw_at lw_ms 10 rfl) rfl
theorem qs11 : (Cond.selects "KahnNet" ⟨"KahnNet", "peek", "(I)I"⟩ ⟨"KahnNet", "peek", "(I)I"⟩) ∈ lw_all := lw_g (lw_at lw_ms 11 rfl) rfl
theorem qs12 : (Cond.selects "KahnNet" ⟨"KahnNet", "stepOne", "(II)V"⟩ ⟨"KahnNet", "stepOne", "(II)V"⟩) ∈ lw_all := lw_g (lw_at lw_ms 12 rfl) rfl
theorem qs13 : (Cond.selects "KahnNet" ⟨"KahnNet", "growSmallest", "()Z"⟩ ⟨"KahnNet", "growSmallest", "()Z"⟩) ∈ lw_all := lw_g (lw_at lw_ms 13 rfl) rfl
theorem qs14 : (Cond.selects "KahnNet" ⟨"KahnNet", "smaller", "(II)I"⟩ ⟨"KahnNet", "smaller", "(II)I"⟩) ∈ lw_all := lw_g (lw_at lw_ms 14 rfl) rfl
theorem qs15 : (Cond.selects "KahnNetModel" ⟨"KahnNetModel", "addProcess", "(IIIII)I"⟩ ⟨"KahnNetModel", "addProcess", "(IIIII)I"⟩) ∈ lw_all := lw_g (lw_at lw_ms 15 rfl) rfl
theorem qs16 : (Cond.selects "KahnNetModel" ⟨"KahnNetModel", "isTaken", "(IIIII)Z"⟩ ⟨"KahnNetModel", "isTaken", "(IIIII)Z"⟩) ∈ lw_all := lw_g (lw_at lw_ms 16 rfl) rfl
theorem qs17 : (Cond.selects "KahnNetModel" ⟨"KahnNetModel", "isChannel", "(I)Z"⟩ ⟨"KahnNetModel", "isChannel", "(I)Z"⟩) ∈ lw_all := lw_g (lw_at lw_ms 17 rfl) rfl
theorem qs18 : (Cond.selects "KahnNetModel" ⟨"KahnNetModel", "settle", "()V"⟩ ⟨"KahnNetModel", "settle", "()V"⟩) ∈ lw_all := lw_g (lw_at lw_ms 18 rfl) rfl
theorem qs19 : (Cond.selects "KahnNetModel" ⟨"KahnNetModel", "work", "(I)V"⟩ ⟨"KahnNetModel", "work", "(I)V"⟩) ∈ lw_all := lw_g (lw_at lw_ms 19 rfl) rfl
theorem qs20 : (Cond.selects "KahnNetModel" ⟨"KahnNetModel", "write", "(I)V"⟩ ⟨"KahnNetModel", "write", "(I)V"⟩) ∈ lw_all := lw_g (lw_at lw_ms 20 rfl) rfl
theorem qs21 : (Cond.selects "KahnNetModel" ⟨"KahnNetModel", "join", "(II)V"⟩ ⟨"KahnNetModel", "join", "(II)V"⟩) ∈ lw_all := lw_g (lw_at lw_ms 21 rfl) rfl
theorem qs22 : (Cond.selects "KahnNetModel" ⟨"KahnNetModel", "get", "(II)I"⟩ ⟨"KahnNetModel", "get", "(II)I"⟩) ∈ lw_all := lw_g (lw_at lw_ms 22 rfl) rfl
theorem qs23 : (Cond.selects "KahnNetModel" ⟨"KahnNetModel", "store", "(I)Z"⟩ ⟨"KahnNetModel", "store", "(I)Z"⟩) ∈ lw_all := lw_g (lw_at lw_ms 23 rfl) rfl
end
section
/-! KahnNet -/
set_option maxRecDepth 100000
def RX1 : String := "KahnNet"
def TX1 : u_T := fun k => match k with
  | 0 => ("KahnNet", "firstBuffer", "I", false)
  | 1 => ("KahnNet", "processCount", "I", false)
  | 2 => ("KahnNet", "kinds", "[B", true)
  | 3 => ("KahnNet", "readsA", "[B", true)
  | 4 => ("KahnNet", "readsB", "[B", true)
  | 5 => ("KahnNet", "writesC", "[B", true)
  | 6 => ("KahnNet", "writesD", "[B", true)
  | 7 => ("KahnNet", "numberP", "[I", true)
  | 8 => ("KahnNet", "numberQ", "[I", true)
  | 9 => ("KahnNet", "hasRun", "Z", false)
  | 10 => ("KahnNet", "stream", "[I", true)
  | 11 => ("KahnNet", "written", "[B", true)
  | 12 => ("KahnNet", "taken", "[B", true)
  | 13 => ("KahnNet", "room", "[B", true)
  | 14 => ("KahnNet", "memory", "[I", true)
  | _ => ("KahnNet", "phase", "[B", true)
def tyX1 : Nat → FieldType := fun k => match k with
  | 0 => .int
  | 1 => .int
  | 2 => .array .byte
  | 3 => .array .byte
  | 4 => .array .byte
  | 5 => .array .byte
  | 6 => .array .byte
  | 7 => .array .int
  | 8 => .array .int
  | 9 => .boolean
  | 10 => .array .int
  | 11 => .array .byte
  | 12 => .array .byte
  | 13 => .array .byte
  | 14 => .array .int
  | _ => .array .byte
abbrev wsX10 : List Cond := u_ws RX1 TX1 16
set_option maxRecDepth 100000 in
theorem nmX1 : ∀ a, a < 16 → ∀ b, b < 16 → a ≠ b → (TX1 a).2.1 ≠ (TX1 b).2.1 := by decide +kernel
set_option maxRecDepth 100000 in
theorem tyX1_ok : ∀ k, k < 16 → parseFieldDescriptor (TX1 k).2.2.1 = some (tyX1 k) := by decide +kernel
abbrev cX1_init : ByteArray := prog_1_method_1_code
def yX1_init : MethodName := ⟨RX1, "<init>", "(I)V"⟩
abbrev cX1_source : ByteArray := prog_1_method_2_code
def yX1_source : MethodName := ⟨RX1, "source", "(III)I"⟩
abbrev cX1_isWritten : ByteArray := prog_1_method_6_code
def yX1_isWritten : MethodName := ⟨RX1, "isWritten", "(I)Z"⟩
abbrev cX1_addProcess : ByteArray := prog_1_method_4_code
def yX1_addProcess : MethodName := ⟨RX1, "addProcess", "(IIIII)I"⟩
abbrev cX1_process : ByteArray := prog_1_method_3_code
def yX1_process : MethodName := ⟨RX1, "process", "(III)I"⟩
abbrev cX1_isRead : ByteArray := prog_1_method_5_code
def yX1_isRead : MethodName := ⟨RX1, "isRead", "(I)Z"⟩
abbrev cX1_clear : ByteArray := prog_1_method_7_code
def yX1_clear : MethodName := ⟨RX1, "clear", "()I"⟩
abbrev cX1_length : ByteArray := prog_1_method_8_code
def yX1_length : MethodName := ⟨RX1, "length", "(I)I"⟩
abbrev cX1_runAll : ByteArray := prog_1_method_19_code
def yX1_runAll : MethodName := ⟨RX1, "runAll", "()V"⟩
abbrev cX1_step : ByteArray := prog_1_method_23_code
def yX1_step : MethodName := ⟨RX1, "step", "(I)Z"⟩
abbrev cX1_isReady : ByteArray := prog_1_method_22_code
def yX1_isReady : MethodName := ⟨RX1, "isReady", "(I)Z"⟩
abbrev cX1_isComplete : ByteArray := prog_1_method_15_code
def yX1_isComplete : MethodName := ⟨RX1, "isComplete", "(I)Z"⟩
abbrev cX1_unread : ByteArray := prog_1_method_13_code
def yX1_unread : MethodName := ⟨RX1, "unread", "(I)I"⟩
abbrev cX1_hasRoom : ByteArray := prog_1_method_14_code
def yX1_hasRoom : MethodName := ⟨RX1, "hasRoom", "(I)Z"⟩
abbrev cX1_put : ByteArray := prog_1_method_18_code
def yX1_put : MethodName := ⟨RX1, "put", "(II)V"⟩
abbrev cX1_take : ByteArray := prog_1_method_17_code
def yX1_take : MethodName := ⟨RX1, "take", "(I)I"⟩
abbrev cX1_peek : ByteArray := prog_1_method_16_code
def yX1_peek : MethodName := ⟨RX1, "peek", "(I)I"⟩
abbrev cX1_stepOne : ByteArray := prog_1_method_24_code
def yX1_stepOne : MethodName := ⟨RX1, "stepOne", "(II)V"⟩
abbrev cX1_growSmallest : ByteArray := prog_1_method_20_code
def yX1_growSmallest : MethodName := ⟨RX1, "growSmallest", "()Z"⟩
abbrev cX1_smaller : ByteArray := prog_1_method_21_code
def yX1_smaller : MethodName := ⟨RX1, "smaller", "(II)I"⟩
abbrev cX1_at : ByteArray := prog_1_method_9_code
def yX1_at : MethodName := ⟨RX1, "at", "(II)I"⟩
abbrev cX1_processes : ByteArray := prog_1_method_10_code
def yX1_processes : MethodName := ⟨RX1, "processes", "()I"⟩
abbrev cX1_total : ByteArray := prog_1_method_11_code
def yX1_total : MethodName := ⟨RX1, "total", "()I"⟩
abbrev cX1_firstDifference : ByteArray := prog_1_method_12_code
def yX1_firstDifference : MethodName := ⟨RX1, "firstDifference", "(II)I"⟩
theorem q25 : (Jvm.Cond.initialized "KahnNet") ∈ lw_all := lw_g (lw_at lw_m1 1 rfl) rfl
theorem q28 : (Jvm.Cond.instantiable "KahnNet" (16 : Nat)) ∈ lw_all := lw_g (lw_at lw_m1 4 rfl) rfl
theorem q30 : (Jvm.Cond.instanceMethod ({ cls := "KahnNet", name := "<init>", desc := "(I)V" } : Jvm.MethodName)) ∈ lw_all := lw_g (lw_at lw_m1 6 rfl) rfl
theorem q31 : (Jvm.Cond.code ({ cls := "KahnNet", name := "<init>", desc := "(I)V" } : Jvm.MethodName) prog_1_method_1_code (2 : Nat) (Option.none : Option Jvm.ClassFile.FieldType)) ∈ lw_all := lw_g (lw_at lw_m1 7 rfl) rfl
theorem q32 : (Jvm.Cond.methodLink "KahnNet" (1 : Nat) ({ cls := "java/lang/Object", name := "<init>", desc := "()V" } : Jvm.MethodName)) ∈ lw_all := lw_g (lw_at lw_m1 8 rfl) rfl
theorem q35 : (Jvm.Cond.fieldLink "KahnNet" (50 : Nat) "KahnNet" "firstBuffer" "I") ∈ lw_all := lw_g (lw_at lw_m1 11 rfl) rfl
theorem q36 : (Jvm.Cond.fieldLink "KahnNet" (54 : Nat) "KahnNet" "processCount" "I") ∈ lw_all := lw_g (lw_at lw_m1 12 rfl) rfl
theorem q37 : (Jvm.Cond.fieldLink "KahnNet" (7 : Nat) "KahnNet" "kinds" "[B") ∈ lw_all := lw_g (lw_at lw_m1 13 rfl) rfl
theorem q38 : (Jvm.Cond.fieldLink "KahnNet" (13 : Nat) "KahnNet" "readsA" "[B") ∈ lw_all := lw_g (lw_at lw_m1 14 rfl) rfl
theorem q39 : (Jvm.Cond.fieldLink "KahnNet" (16 : Nat) "KahnNet" "readsB" "[B") ∈ lw_all := lw_g (lw_at lw_m1 15 rfl) rfl
theorem q40 : (Jvm.Cond.fieldLink "KahnNet" (19 : Nat) "KahnNet" "writesC" "[B") ∈ lw_all := lw_g (lw_at lw_m1 16 rfl) rfl
theorem q41 : (Jvm.Cond.fieldLink "KahnNet" (22 : Nat) "KahnNet" "writesD" "[B") ∈ lw_all := lw_g (lw_at lw_m1 17 rfl) rfl
theorem q42 : (Jvm.Cond.fieldLink "KahnNet" (25 : Nat) "KahnNet" "numberP" "[I") ∈ lw_all := lw_g (lw_at lw_m1 18 rfl) rfl
theorem q43 : (Jvm.Cond.fieldLink "KahnNet" (29 : Nat) "KahnNet" "numberQ" "[I") ∈ lw_all := lw_g (lw_at lw_m1 19 rfl) rfl
theorem q44 : (Jvm.Cond.fieldLink "KahnNet" (68 : Nat) "KahnNet" "hasRun" "Z") ∈ lw_all := lw_g (lw_at lw_m1 20 rfl) rfl
theorem q45 : (Jvm.Cond.fieldLink "KahnNet" (32 : Nat) "KahnNet" "stream" "[I") ∈ lw_all := lw_g (lw_at lw_m1 21 rfl) rfl
theorem q46 : (Jvm.Cond.fieldLink "KahnNet" (35 : Nat) "KahnNet" "written" "[B") ∈ lw_all := lw_g (lw_at lw_m1 22 rfl) rfl
theorem q47 : (Jvm.Cond.fieldLink "KahnNet" (38 : Nat) "KahnNet" "taken" "[B") ∈ lw_all := lw_g (lw_at lw_m1 23 rfl) rfl
theorem q48 : (Jvm.Cond.fieldLink "KahnNet" (41 : Nat) "KahnNet" "room" "[B") ∈ lw_all := lw_g (lw_at lw_m1 24 rfl) rfl
theorem q49 : (Jvm.Cond.fieldLink "KahnNet" (44 : Nat) "KahnNet" "memory" "[I") ∈ lw_all := lw_g (lw_at lw_m1 25 rfl) rfl
theorem q50 : (Jvm.Cond.fieldLink "KahnNet" (47 : Nat) "KahnNet" "phase" "[B") ∈ lw_all := lw_g (lw_at lw_m1 26 rfl) rfl
theorem q51 : (Jvm.Cond.lays "KahnNet" "KahnNet" "firstBuffer" "I") ∈ lw_all := lw_g (lw_at lw_m1 27 rfl) rfl
theorem q52 : (Jvm.Cond.soleField "KahnNet" "firstBuffer") ∈ lw_all := lw_g (lw_at lw_m1 28 rfl) rfl
theorem q53 : (Jvm.Cond.lays "KahnNet" "KahnNet" "processCount" "I") ∈ lw_all := lw_g (lw_at lw_m1 29 rfl) rfl
theorem q54 : (Jvm.Cond.soleField "KahnNet" "processCount") ∈ lw_all := lw_g (lw_at lw_m1 30 rfl) rfl
theorem q55 : (Jvm.Cond.laysFinal "KahnNet" "KahnNet" "kinds" "[B") ∈ lw_all := lw_g (lw_at lw_m1 31 rfl) rfl
theorem q56 : (Jvm.Cond.soleField "KahnNet" "kinds") ∈ lw_all := lw_g (lw_at lw_m1 32 rfl) rfl
theorem q57 : (Jvm.Cond.laysFinal "KahnNet" "KahnNet" "readsA" "[B") ∈ lw_all := lw_g (lw_at lw_m1 33 rfl) rfl
theorem q58 : (Jvm.Cond.soleField "KahnNet" "readsA") ∈ lw_all := lw_g (lw_at lw_m1 34 rfl) rfl
theorem q59 : (Jvm.Cond.laysFinal "KahnNet" "KahnNet" "readsB" "[B") ∈ lw_all := lw_g (lw_at lw_m1 35 rfl) rfl
theorem q60 : (Jvm.Cond.soleField "KahnNet" "readsB") ∈ lw_all := lw_g (lw_at lw_m1 36 rfl) rfl
theorem q61 : (Jvm.Cond.laysFinal "KahnNet" "KahnNet" "writesC" "[B") ∈ lw_all := lw_g (lw_at lw_m1 37 rfl) rfl
theorem q62 : (Jvm.Cond.soleField "KahnNet" "writesC") ∈ lw_all := lw_g (lw_at lw_m1 38 rfl) rfl
theorem q63 : (Jvm.Cond.laysFinal "KahnNet" "KahnNet" "writesD" "[B") ∈ lw_all := lw_g (lw_at lw_m1 39 rfl) rfl
theorem q64 : (Jvm.Cond.soleField "KahnNet" "writesD") ∈ lw_all := lw_g (lw_at lw_m1 40 rfl) rfl
theorem q65 : (Jvm.Cond.laysFinal "KahnNet" "KahnNet" "numberP" "[I") ∈ lw_all := lw_g (lw_at lw_m1 41 rfl) rfl
theorem q66 : (Jvm.Cond.soleField "KahnNet" "numberP") ∈ lw_all := lw_g (lw_at lw_m1 42 rfl) rfl
theorem q67 : (Jvm.Cond.laysFinal "KahnNet" "KahnNet" "numberQ" "[I") ∈ lw_all := lw_g (lw_at lw_m1 43 rfl) rfl
theorem q68 : (Jvm.Cond.soleField "KahnNet" "numberQ") ∈ lw_all := lw_g (lw_at lw_m1 44 rfl) rfl
theorem q69 : (Jvm.Cond.lays "KahnNet" "KahnNet" "hasRun" "Z") ∈ lw_all := lw_g (lw_at lw_m1 45 rfl) rfl
theorem q70 : (Jvm.Cond.soleField "KahnNet" "hasRun") ∈ lw_all := lw_g (lw_at lw_m1 46 rfl) rfl
theorem q71 : (Jvm.Cond.laysFinal "KahnNet" "KahnNet" "stream" "[I") ∈ lw_all := lw_g (lw_at lw_m1 47 rfl) rfl
theorem q72 : (Jvm.Cond.soleField "KahnNet" "stream") ∈ lw_all := lw_g (lw_at lw_m1 48 rfl) rfl
theorem q73 : (Jvm.Cond.laysFinal "KahnNet" "KahnNet" "written" "[B") ∈ lw_all := lw_g (lw_at lw_m1 49 rfl) rfl
theorem q74 : (Jvm.Cond.soleField "KahnNet" "written") ∈ lw_all := lw_g (lw_at lw_m1 50 rfl) rfl
theorem q75 : (Jvm.Cond.laysFinal "KahnNet" "KahnNet" "taken" "[B") ∈ lw_all := lw_g (lw_at lw_m1 51 rfl) rfl
theorem q76 : (Jvm.Cond.soleField "KahnNet" "taken") ∈ lw_all := lw_g (lw_at lw_m1 52 rfl) rfl
theorem q77 : (Jvm.Cond.laysFinal "KahnNet" "KahnNet" "room" "[B") ∈ lw_all := lw_g (lw_at lw_m1 53 rfl) rfl
theorem q78 : (Jvm.Cond.soleField "KahnNet" "room") ∈ lw_all := lw_g (lw_at lw_m1 54 rfl) rfl
theorem q79 : (Jvm.Cond.laysFinal "KahnNet" "KahnNet" "memory" "[I") ∈ lw_all := lw_g (lw_at lw_m1 55 rfl) rfl
theorem q80 : (Jvm.Cond.soleField "KahnNet" "memory") ∈ lw_all := lw_g (lw_at lw_m1 56 rfl) rfl
theorem q81 : (Jvm.Cond.laysFinal "KahnNet" "KahnNet" "phase" "[B") ∈ lw_all := lw_g (lw_at lw_m1 57 rfl) rfl
theorem q82 : (Jvm.Cond.soleField "KahnNet" "phase") ∈ lw_all := lw_g (lw_at lw_m1 58 rfl) rfl
theorem q83 : (Jvm.Cond.superclass "KahnNet" "java/lang/Object") ∈ lw_all := lw_g (lw_at lw_m1 59 rfl) rfl
theorem q87 : (Jvm.Cond.instanceMethod ({ cls := "KahnNet", name := "source", desc := "(III)I" } : Jvm.MethodName)) ∈ lw_all := lw_g (lw_at lw_m1 63 rfl) rfl
theorem q88 : (Jvm.Cond.selects "KahnNet" ({ cls := "KahnNet", name := "source", desc := "(III)I" } : Jvm.MethodName) ({ cls := "KahnNet", name := "source", desc := "(III)I" } : Jvm.MethodName)) ∈ lw_all := lw_g (lw_at lw_m1 64 rfl) rfl
theorem q89 : (Jvm.Cond.code ({ cls := "KahnNet", name := "source", desc := "(III)I" } : Jvm.MethodName) prog_1_method_2_code (7 : Nat) (Option.some Jvm.ClassFile.FieldType.int)) ∈ lw_all := lw_g (lw_at lw_m1 65 rfl) rfl
theorem q90 : (Jvm.Cond.methodLink "KahnNet" (57 : Nat) ({ cls := "KahnNet", name := "isWritten", desc := "(I)Z" } : Jvm.MethodName)) ∈ lw_all := lw_g (lw_at lw_m1 66 rfl) rfl
theorem q92 : (Jvm.Cond.instanceMethod ({ cls := "KahnNet", name := "isWritten", desc := "(I)Z" } : Jvm.MethodName)) ∈ lw_all := lw_g (lw_at lw_m1 68 rfl) rfl
theorem q93 : (Jvm.Cond.code ({ cls := "KahnNet", name := "isWritten", desc := "(I)Z" } : Jvm.MethodName) prog_1_method_6_code (3 : Nat) (Option.some Jvm.ClassFile.FieldType.boolean)) ∈ lw_all := lw_g (lw_at lw_m1 69 rfl) rfl
theorem q94 : (Jvm.Cond.methodLink "KahnNet" (61 : Nat) ({ cls := "KahnNet", name := "addProcess", desc := "(IIIII)I" } : Jvm.MethodName)) ∈ lw_all := lw_g (lw_at lw_m1 70 rfl) rfl
theorem q96 : (Jvm.Cond.instanceMethod ({ cls := "KahnNet", name := "addProcess", desc := "(IIIII)I" } : Jvm.MethodName)) ∈ lw_all := lw_g (lw_at lw_m1 72 rfl) rfl
theorem q97 : (Jvm.Cond.code ({ cls := "KahnNet", name := "addProcess", desc := "(IIIII)I" } : Jvm.MethodName) prog_1_method_4_code (7 : Nat) (Option.some Jvm.ClassFile.FieldType.int)) ∈ lw_all := lw_g (lw_at lw_m1 73 rfl) rfl
theorem q99 : (Jvm.Cond.instanceMethod ({ cls := "KahnNet", name := "process", desc := "(III)I" } : Jvm.MethodName)) ∈ lw_all := lw_g (lw_at lw_m1 75 rfl) rfl
theorem q100 : (Jvm.Cond.selects "KahnNet" ({ cls := "KahnNet", name := "process", desc := "(III)I" } : Jvm.MethodName) ({ cls := "KahnNet", name := "process", desc := "(III)I" } : Jvm.MethodName)) ∈ lw_all := lw_g (lw_at lw_m1 76 rfl) rfl
theorem q101 : (Jvm.Cond.code ({ cls := "KahnNet", name := "process", desc := "(III)I" } : Jvm.MethodName) prog_1_method_3_code (10 : Nat) (Option.some Jvm.ClassFile.FieldType.int)) ∈ lw_all := lw_g (lw_at lw_m1 77 rfl) rfl
theorem q102 : (Jvm.Cond.methodLink "KahnNet" (65 : Nat) ({ cls := "KahnNet", name := "isRead", desc := "(I)Z" } : Jvm.MethodName)) ∈ lw_all := lw_g (lw_at lw_m1 78 rfl) rfl
theorem q104 : (Jvm.Cond.instanceMethod ({ cls := "KahnNet", name := "isRead", desc := "(I)Z" } : Jvm.MethodName)) ∈ lw_all := lw_g (lw_at lw_m1 80 rfl) rfl
theorem q105 : (Jvm.Cond.code ({ cls := "KahnNet", name := "isRead", desc := "(I)Z" } : Jvm.MethodName) prog_1_method_5_code (3 : Nat) (Option.some Jvm.ClassFile.FieldType.boolean)) ∈ lw_all := lw_g (lw_at lw_m1 81 rfl) rfl
theorem q107 : (Jvm.Cond.instanceMethod ({ cls := "KahnNet", name := "clear", desc := "()I" } : Jvm.MethodName)) ∈ lw_all := lw_g (lw_at lw_m1 83 rfl) rfl
theorem q108 : (Jvm.Cond.selects "KahnNet" ({ cls := "KahnNet", name := "clear", desc := "()I" } : Jvm.MethodName) ({ cls := "KahnNet", name := "clear", desc := "()I" } : Jvm.MethodName)) ∈ lw_all := lw_g (lw_at lw_m1 84 rfl) rfl
theorem q109 : (Jvm.Cond.code ({ cls := "KahnNet", name := "clear", desc := "()I" } : Jvm.MethodName) prog_1_method_7_code (2 : Nat) (Option.some Jvm.ClassFile.FieldType.int)) ∈ lw_all := lw_g (lw_at lw_m1 85 rfl) rfl
theorem q111 : (Jvm.Cond.instanceMethod ({ cls := "KahnNet", name := "length", desc := "(I)I" } : Jvm.MethodName)) ∈ lw_all := lw_g (lw_at lw_m1 87 rfl) rfl
theorem q112 : (Jvm.Cond.selects "KahnNet" ({ cls := "KahnNet", name := "length", desc := "(I)I" } : Jvm.MethodName) ({ cls := "KahnNet", name := "length", desc := "(I)I" } : Jvm.MethodName)) ∈ lw_all := lw_g (lw_at lw_m1 88 rfl) rfl
theorem q113 : (Jvm.Cond.code ({ cls := "KahnNet", name := "length", desc := "(I)I" } : Jvm.MethodName) prog_1_method_8_code (2 : Nat) (Option.some Jvm.ClassFile.FieldType.int)) ∈ lw_all := lw_g (lw_at lw_m1 89 rfl) rfl
theorem q114 : (Jvm.Cond.methodLink "KahnNet" (72 : Nat) ({ cls := "KahnNet", name := "runAll", desc := "()V" } : Jvm.MethodName)) ∈ lw_all := lw_g (lw_at lw_m1 90 rfl) rfl
theorem q116 : (Jvm.Cond.instanceMethod ({ cls := "KahnNet", name := "runAll", desc := "()V" } : Jvm.MethodName)) ∈ lw_all := lw_g (lw_at lw_m1 92 rfl) rfl
theorem q117 : (Jvm.Cond.code ({ cls := "KahnNet", name := "runAll", desc := "()V" } : Jvm.MethodName) prog_1_method_19_code (3 : Nat) (Option.none : Option Jvm.ClassFile.FieldType)) ∈ lw_all := lw_g (lw_at lw_m1 93 rfl) rfl
theorem q118 : (Jvm.Cond.methodLink "KahnNet" (82 : Nat) ({ cls := "KahnNet", name := "step", desc := "(I)Z" } : Jvm.MethodName)) ∈ lw_all := lw_g (lw_at lw_m1 94 rfl) rfl
theorem q120 : (Jvm.Cond.instanceMethod ({ cls := "KahnNet", name := "step", desc := "(I)Z" } : Jvm.MethodName)) ∈ lw_all := lw_g (lw_at lw_m1 96 rfl) rfl
theorem q121 : (Jvm.Cond.code ({ cls := "KahnNet", name := "step", desc := "(I)Z" } : Jvm.MethodName) prog_1_method_23_code (6 : Nat) (Option.some Jvm.ClassFile.FieldType.boolean)) ∈ lw_all := lw_g (lw_at lw_m1 97 rfl) rfl
theorem q122 : (Jvm.Cond.methodLink "KahnNet" (89 : Nat) ({ cls := "KahnNet", name := "isReady", desc := "(I)Z" } : Jvm.MethodName)) ∈ lw_all := lw_g (lw_at lw_m1 98 rfl) rfl
theorem q124 : (Jvm.Cond.instanceMethod ({ cls := "KahnNet", name := "isReady", desc := "(I)Z" } : Jvm.MethodName)) ∈ lw_all := lw_g (lw_at lw_m1 100 rfl) rfl
theorem q125 : (Jvm.Cond.code ({ cls := "KahnNet", name := "isReady", desc := "(I)Z" } : Jvm.MethodName) prog_1_method_22_code (3 : Nat) (Option.some Jvm.ClassFile.FieldType.boolean)) ∈ lw_all := lw_g (lw_at lw_m1 101 rfl) rfl
theorem q126 : (Jvm.Cond.methodLink "KahnNet" (96 : Nat) ({ cls := "KahnNet", name := "isComplete", desc := "(I)Z" } : Jvm.MethodName)) ∈ lw_all := lw_g (lw_at lw_m1 102 rfl) rfl
theorem q128 : (Jvm.Cond.instanceMethod ({ cls := "KahnNet", name := "isComplete", desc := "(I)Z" } : Jvm.MethodName)) ∈ lw_all := lw_g (lw_at lw_m1 104 rfl) rfl
theorem q129 : (Jvm.Cond.code ({ cls := "KahnNet", name := "isComplete", desc := "(I)Z" } : Jvm.MethodName) prog_1_method_15_code (2 : Nat) (Option.some Jvm.ClassFile.FieldType.boolean)) ∈ lw_all := lw_g (lw_at lw_m1 105 rfl) rfl
theorem q130 : (Jvm.Cond.methodLink "KahnNet" (75 : Nat) ({ cls := "KahnNet", name := "unread", desc := "(I)I" } : Jvm.MethodName)) ∈ lw_all := lw_g (lw_at lw_m1 106 rfl) rfl
theorem q132 : (Jvm.Cond.instanceMethod ({ cls := "KahnNet", name := "unread", desc := "(I)I" } : Jvm.MethodName)) ∈ lw_all := lw_g (lw_at lw_m1 108 rfl) rfl
theorem q133 : (Jvm.Cond.code ({ cls := "KahnNet", name := "unread", desc := "(I)I" } : Jvm.MethodName) prog_1_method_13_code (2 : Nat) (Option.some Jvm.ClassFile.FieldType.int)) ∈ lw_all := lw_g (lw_at lw_m1 109 rfl) rfl
theorem q134 : (Jvm.Cond.methodLink "KahnNet" (99 : Nat) ({ cls := "KahnNet", name := "hasRoom", desc := "(I)Z" } : Jvm.MethodName)) ∈ lw_all := lw_g (lw_at lw_m1 110 rfl) rfl
theorem q136 : (Jvm.Cond.instanceMethod ({ cls := "KahnNet", name := "hasRoom", desc := "(I)Z" } : Jvm.MethodName)) ∈ lw_all := lw_g (lw_at lw_m1 112 rfl) rfl
theorem q137 : (Jvm.Cond.code ({ cls := "KahnNet", name := "hasRoom", desc := "(I)Z" } : Jvm.MethodName) prog_1_method_14_code (2 : Nat) (Option.some Jvm.ClassFile.FieldType.boolean)) ∈ lw_all := lw_g (lw_at lw_m1 113 rfl) rfl
theorem q138 : (Jvm.Cond.methodLink "KahnNet" (102 : Nat) ({ cls := "KahnNet", name := "put", desc := "(II)V" } : Jvm.MethodName)) ∈ lw_all := lw_g (lw_at lw_m1 114 rfl) rfl
theorem q140 : (Jvm.Cond.instanceMethod ({ cls := "KahnNet", name := "put", desc := "(II)V" } : Jvm.MethodName)) ∈ lw_all := lw_g (lw_at lw_m1 116 rfl) rfl
theorem q141 : (Jvm.Cond.code ({ cls := "KahnNet", name := "put", desc := "(II)V" } : Jvm.MethodName) prog_1_method_18_code (3 : Nat) (Option.none : Option Jvm.ClassFile.FieldType)) ∈ lw_all := lw_g (lw_at lw_m1 117 rfl) rfl
theorem q142 : (Jvm.Cond.methodLink "KahnNet" (106 : Nat) ({ cls := "KahnNet", name := "take", desc := "(I)I" } : Jvm.MethodName)) ∈ lw_all := lw_g (lw_at lw_m1 118 rfl) rfl
theorem q144 : (Jvm.Cond.instanceMethod ({ cls := "KahnNet", name := "take", desc := "(I)I" } : Jvm.MethodName)) ∈ lw_all := lw_g (lw_at lw_m1 120 rfl) rfl
theorem q145 : (Jvm.Cond.code ({ cls := "KahnNet", name := "take", desc := "(I)I" } : Jvm.MethodName) prog_1_method_17_code (3 : Nat) (Option.some Jvm.ClassFile.FieldType.int)) ∈ lw_all := lw_g (lw_at lw_m1 121 rfl) rfl
theorem q146 : (Jvm.Cond.methodLink "KahnNet" (79 : Nat) ({ cls := "KahnNet", name := "peek", desc := "(I)I" } : Jvm.MethodName)) ∈ lw_all := lw_g (lw_at lw_m1 122 rfl) rfl
theorem q148 : (Jvm.Cond.instanceMethod ({ cls := "KahnNet", name := "peek", desc := "(I)I" } : Jvm.MethodName)) ∈ lw_all := lw_g (lw_at lw_m1 124 rfl) rfl
theorem q149 : (Jvm.Cond.code ({ cls := "KahnNet", name := "peek", desc := "(I)I" } : Jvm.MethodName) prog_1_method_16_code (2 : Nat) (Option.some Jvm.ClassFile.FieldType.int)) ∈ lw_all := lw_g (lw_at lw_m1 125 rfl) rfl
theorem q150 : (Jvm.Cond.methodLink "KahnNet" (109 : Nat) ({ cls := "KahnNet", name := "stepOne", desc := "(II)V" } : Jvm.MethodName)) ∈ lw_all := lw_g (lw_at lw_m1 126 rfl) rfl
theorem q152 : (Jvm.Cond.instanceMethod ({ cls := "KahnNet", name := "stepOne", desc := "(II)V" } : Jvm.MethodName)) ∈ lw_all := lw_g (lw_at lw_m1 128 rfl) rfl
theorem q153 : (Jvm.Cond.code ({ cls := "KahnNet", name := "stepOne", desc := "(II)V" } : Jvm.MethodName) prog_1_method_24_code (5 : Nat) (Option.none : Option Jvm.ClassFile.FieldType)) ∈ lw_all := lw_g (lw_at lw_m1 129 rfl) rfl
theorem q154 : (Jvm.Cond.methodLink "KahnNet" (85 : Nat) ({ cls := "KahnNet", name := "growSmallest", desc := "()Z" } : Jvm.MethodName)) ∈ lw_all := lw_g (lw_at lw_m1 130 rfl) rfl
theorem q156 : (Jvm.Cond.instanceMethod ({ cls := "KahnNet", name := "growSmallest", desc := "()Z" } : Jvm.MethodName)) ∈ lw_all := lw_g (lw_at lw_m1 132 rfl) rfl
theorem q157 : (Jvm.Cond.code ({ cls := "KahnNet", name := "growSmallest", desc := "()Z" } : Jvm.MethodName) prog_1_method_20_code (3 : Nat) (Option.some Jvm.ClassFile.FieldType.boolean)) ∈ lw_all := lw_g (lw_at lw_m1 133 rfl) rfl
theorem q158 : (Jvm.Cond.methodLink "KahnNet" (92 : Nat) ({ cls := "KahnNet", name := "smaller", desc := "(II)I" } : Jvm.MethodName)) ∈ lw_all := lw_g (lw_at lw_m1 134 rfl) rfl
theorem q160 : (Jvm.Cond.instanceMethod ({ cls := "KahnNet", name := "smaller", desc := "(II)I" } : Jvm.MethodName)) ∈ lw_all := lw_g (lw_at lw_m1 136 rfl) rfl
theorem q161 : (Jvm.Cond.code ({ cls := "KahnNet", name := "smaller", desc := "(II)I" } : Jvm.MethodName) prog_1_method_21_code (3 : Nat) (Option.some Jvm.ClassFile.FieldType.int)) ∈ lw_all := lw_g (lw_at lw_m1 137 rfl) rfl
theorem q163 : (Jvm.Cond.instanceMethod ({ cls := "KahnNet", name := "at", desc := "(II)I" } : Jvm.MethodName)) ∈ lw_all := lw_g (lw_at lw_m1 139 rfl) rfl
theorem q164 : (Jvm.Cond.selects "KahnNet" ({ cls := "KahnNet", name := "at", desc := "(II)I" } : Jvm.MethodName) ({ cls := "KahnNet", name := "at", desc := "(II)I" } : Jvm.MethodName)) ∈ lw_all := lw_g (lw_at lw_m1 140 rfl) rfl
theorem q165 : (Jvm.Cond.code ({ cls := "KahnNet", name := "at", desc := "(II)I" } : Jvm.MethodName) prog_1_method_9_code (3 : Nat) (Option.some Jvm.ClassFile.FieldType.int)) ∈ lw_all := lw_g (lw_at lw_m1 141 rfl) rfl
theorem q167 : (Jvm.Cond.instanceMethod ({ cls := "KahnNet", name := "processes", desc := "()I" } : Jvm.MethodName)) ∈ lw_all := lw_g (lw_at lw_m1 143 rfl) rfl
theorem q168 : (Jvm.Cond.selects "KahnNet" ({ cls := "KahnNet", name := "processes", desc := "()I" } : Jvm.MethodName) ({ cls := "KahnNet", name := "processes", desc := "()I" } : Jvm.MethodName)) ∈ lw_all := lw_g (lw_at lw_m1 144 rfl) rfl
theorem q169 : (Jvm.Cond.code ({ cls := "KahnNet", name := "processes", desc := "()I" } : Jvm.MethodName) prog_1_method_10_code (1 : Nat) (Option.some Jvm.ClassFile.FieldType.int)) ∈ lw_all := lw_g (lw_at lw_m1 145 rfl) rfl
theorem q171 : (Jvm.Cond.instanceMethod ({ cls := "KahnNet", name := "total", desc := "()I" } : Jvm.MethodName)) ∈ lw_all := lw_g (lw_at lw_m1 147 rfl) rfl
theorem q172 : (Jvm.Cond.selects "KahnNet" ({ cls := "KahnNet", name := "total", desc := "()I" } : Jvm.MethodName) ({ cls := "KahnNet", name := "total", desc := "()I" } : Jvm.MethodName)) ∈ lw_all := lw_g (lw_at lw_m1 148 rfl) rfl
theorem q173 : (Jvm.Cond.code ({ cls := "KahnNet", name := "total", desc := "()I" } : Jvm.MethodName) prog_1_method_11_code (3 : Nat) (Option.some Jvm.ClassFile.FieldType.int)) ∈ lw_all := lw_g (lw_at lw_m1 149 rfl) rfl
theorem q175 : (Jvm.Cond.instanceMethod ({ cls := "KahnNet", name := "firstDifference", desc := "(II)I" } : Jvm.MethodName)) ∈ lw_all := lw_g (lw_at lw_m1 151 rfl) rfl
theorem q176 : (Jvm.Cond.selects "KahnNet" ({ cls := "KahnNet", name := "firstDifference", desc := "(II)I" } : Jvm.MethodName) ({ cls := "KahnNet", name := "firstDifference", desc := "(II)I" } : Jvm.MethodName)) ∈ lw_all := lw_g (lw_at lw_m1 152 rfl) rfl
theorem q177 : (Jvm.Cond.code ({ cls := "KahnNet", name := "firstDifference", desc := "(II)I" } : Jvm.MethodName) prog_1_method_12_code (4 : Nat) (Option.some Jvm.ClassFile.FieldType.int)) ∈ lw_all := lw_g (lw_at lw_m1 153 rfl) rfl
theorem in_X1 : ∀ w ∈ wsX10, w ∈ lw_all := lw_in wsX10 [51, 53, 55, 57, 59, 61, 63, 65, 67, 69, 71, 73, 75, 77, 79, 81] (by decide +kernel) (by decide +kernel)
/-! KahnNetModel -/
set_option maxRecDepth 100000
def RX2 : String := "KahnNetModel"
def TX2 : u_T := fun k => match k with
  | 0 => ("KahnNetModel", "n", "I", false)
  | 1 => ("KahnNetModel", "kind", "[I", false)
  | 2 => ("KahnNetModel", "a", "[I", false)
  | 3 => ("KahnNetModel", "b", "[I", false)
  | 4 => ("KahnNetModel", "c", "[I", false)
  | 5 => ("KahnNetModel", "d", "[I", false)
  | 6 => ("KahnNetModel", "p", "[I", false)
  | 7 => ("KahnNetModel", "q", "[I", false)
  | 8 => ("KahnNetModel", "read", "[Z", false)
  | 9 => ("KahnNetModel", "written", "[Z", false)
  | 10 => ("KahnNetModel", "size", "[I", false)
  | 11 => ("KahnNetModel", "ints", "[I", false)
  | 12 => ("KahnNetModel", "made", "[I", false)
  | _ => ("KahnNetModel", "count", "I", false)
def tyX2 : Nat → FieldType := fun k => match k with
  | 0 => .int
  | 1 => .array .int
  | 2 => .array .int
  | 3 => .array .int
  | 4 => .array .int
  | 5 => .array .int
  | 6 => .array .int
  | 7 => .array .int
  | 8 => .array .boolean
  | 9 => .array .boolean
  | 10 => .array .int
  | 11 => .array .int
  | 12 => .array .int
  | _ => .int
abbrev wsX20 : List Cond := u_ws RX2 TX2 14
set_option maxRecDepth 100000 in
theorem nmX2 : ∀ a, a < 14 → ∀ b, b < 14 → a ≠ b → (TX2 a).2.1 ≠ (TX2 b).2.1 := by decide +kernel
set_option maxRecDepth 100000 in
theorem tyX2_ok : ∀ k, k < 14 → parseFieldDescriptor (TX2 k).2.2.1 = some (tyX2 k) := by decide +kernel
abbrev cX2_init : ByteArray := prog_3_method_1_code
def yX2_init : MethodName := ⟨RX2, "<init>", "(I)V"⟩
abbrev cX2_source : ByteArray := prog_3_method_4_code
def yX2_source : MethodName := ⟨RX2, "source", "(III)I"⟩
abbrev cX2_addProcess : ByteArray := prog_3_method_3_code
def yX2_addProcess : MethodName := ⟨RX2, "addProcess", "(IIIII)I"⟩
abbrev cX2_process : ByteArray := prog_3_method_6_code
def yX2_process : MethodName := ⟨RX2, "process", "(III)I"⟩
abbrev cX2_isTaken : ByteArray := prog_3_method_5_code
def yX2_isTaken : MethodName := ⟨RX2, "isTaken", "(IIIII)Z"⟩
abbrev cX2_clear : ByteArray := prog_3_method_13_code
def yX2_clear : MethodName := ⟨RX2, "clear", "()I"⟩
abbrev cX2_length : ByteArray := prog_3_method_14_code
def yX2_length : MethodName := ⟨RX2, "length", "(I)I"⟩
abbrev cX2_isChannel : ByteArray := prog_3_method_2_code
def yX2_isChannel : MethodName := ⟨RX2, "isChannel", "(I)Z"⟩
abbrev cX2_settle : ByteArray := prog_3_method_12_code
def yX2_settle : MethodName := ⟨RX2, "settle", "()V"⟩
abbrev cX2_work : ByteArray := prog_3_method_10_code
def yX2_work : MethodName := ⟨RX2, "work", "(I)V"⟩
abbrev cX2_write : ByteArray := prog_3_method_7_code
def yX2_write : MethodName := ⟨RX2, "write", "(I)V"⟩
abbrev cX2_join : ByteArray := prog_3_method_9_code
def yX2_join : MethodName := ⟨RX2, "join", "(II)V"⟩
abbrev cX2_get : ByteArray := prog_3_method_8_code
def yX2_get : MethodName := ⟨RX2, "get", "(II)I"⟩
abbrev cX2_store : ByteArray := prog_3_method_11_code
def yX2_store : MethodName := ⟨RX2, "store", "(I)Z"⟩
abbrev cX2_at : ByteArray := prog_3_method_15_code
def yX2_at : MethodName := ⟨RX2, "at", "(II)I"⟩
abbrev cX2_processes : ByteArray := prog_3_method_16_code
def yX2_processes : MethodName := ⟨RX2, "processes", "()I"⟩
abbrev cX2_total : ByteArray := prog_3_method_17_code
def yX2_total : MethodName := ⟨RX2, "total", "()I"⟩
abbrev cX2_firstDifference : ByteArray := prog_3_method_18_code
def yX2_firstDifference : MethodName := ⟨RX2, "firstDifference", "(II)I"⟩
theorem q26 : (Jvm.Cond.initialized "KahnNetModel") ∈ lw_all := lw_g (lw_at lw_m1 2 rfl) rfl
theorem q182 : (Jvm.Cond.instantiable "KahnNetModel" (14 : Nat)) ∈ lw_all := lw_g (lw_at lw_m1 158 rfl) rfl
theorem q184 : (Jvm.Cond.instanceMethod ({ cls := "KahnNetModel", name := "<init>", desc := "(I)V" } : Jvm.MethodName)) ∈ lw_all := lw_g (lw_at lw_m1 160 rfl) rfl
theorem q185 : (Jvm.Cond.code ({ cls := "KahnNetModel", name := "<init>", desc := "(I)V" } : Jvm.MethodName) prog_3_method_1_code (2 : Nat) (Option.none : Option Jvm.ClassFile.FieldType)) ∈ lw_all := lw_g (lw_at lw_m1 161 rfl) rfl
theorem q186 : (Jvm.Cond.methodLink "KahnNetModel" (1 : Nat) ({ cls := "java/lang/Object", name := "<init>", desc := "()V" } : Jvm.MethodName)) ∈ lw_all := lw_g (lw_at lw_m1 162 rfl) rfl
theorem q187 : (Jvm.Cond.fieldLink "KahnNetModel" (7 : Nat) "KahnNetModel" "n" "I") ∈ lw_all := lw_g (lw_at lw_m1 163 rfl) rfl
theorem q188 : (Jvm.Cond.fieldLink "KahnNetModel" (13 : Nat) "KahnNetModel" "kind" "[I") ∈ lw_all := lw_g (lw_at lw_m1 164 rfl) rfl
theorem q189 : (Jvm.Cond.fieldLink "KahnNetModel" (17 : Nat) "KahnNetModel" "a" "[I") ∈ lw_all := lw_g (lw_at lw_m1 165 rfl) rfl
theorem q190 : (Jvm.Cond.fieldLink "KahnNetModel" (20 : Nat) "KahnNetModel" "b" "[I") ∈ lw_all := lw_g (lw_at lw_m1 166 rfl) rfl
theorem q191 : (Jvm.Cond.fieldLink "KahnNetModel" (23 : Nat) "KahnNetModel" "c" "[I") ∈ lw_all := lw_g (lw_at lw_m1 167 rfl) rfl
theorem q192 : (Jvm.Cond.fieldLink "KahnNetModel" (26 : Nat) "KahnNetModel" "d" "[I") ∈ lw_all := lw_g (lw_at lw_m1 168 rfl) rfl
theorem q193 : (Jvm.Cond.fieldLink "KahnNetModel" (29 : Nat) "KahnNetModel" "p" "[I") ∈ lw_all := lw_g (lw_at lw_m1 169 rfl) rfl
theorem q194 : (Jvm.Cond.fieldLink "KahnNetModel" (32 : Nat) "KahnNetModel" "q" "[I") ∈ lw_all := lw_g (lw_at lw_m1 170 rfl) rfl
theorem q195 : (Jvm.Cond.fieldLink "KahnNetModel" (35 : Nat) "KahnNetModel" "read" "[Z") ∈ lw_all := lw_g (lw_at lw_m1 171 rfl) rfl
theorem q196 : (Jvm.Cond.fieldLink "KahnNetModel" (39 : Nat) "KahnNetModel" "written" "[Z") ∈ lw_all := lw_g (lw_at lw_m1 172 rfl) rfl
theorem q197 : (Jvm.Cond.fieldLink "KahnNetModel" (42 : Nat) "KahnNetModel" "size" "[I") ∈ lw_all := lw_g (lw_at lw_m1 173 rfl) rfl
theorem q198 : (Jvm.Cond.fieldLink "KahnNetModel" (45 : Nat) "KahnNetModel" "ints" "[I") ∈ lw_all := lw_g (lw_at lw_m1 174 rfl) rfl
theorem q199 : (Jvm.Cond.fieldLink "KahnNetModel" (48 : Nat) "KahnNetModel" "made" "[I") ∈ lw_all := lw_g (lw_at lw_m1 175 rfl) rfl
theorem q200 : (Jvm.Cond.fieldLink "KahnNetModel" (59 : Nat) "KahnNetModel" "count" "I") ∈ lw_all := lw_g (lw_at lw_m1 176 rfl) rfl
theorem q201 : (Jvm.Cond.lays "KahnNetModel" "KahnNetModel" "n" "I") ∈ lw_all := lw_g (lw_at lw_m1 177 rfl) rfl
theorem q202 : (Jvm.Cond.soleField "KahnNetModel" "n") ∈ lw_all := lw_g (lw_at lw_m1 178 rfl) rfl
theorem q203 : (Jvm.Cond.lays "KahnNetModel" "KahnNetModel" "kind" "[I") ∈ lw_all := lw_g (lw_at lw_m1 179 rfl) rfl
theorem q204 : (Jvm.Cond.soleField "KahnNetModel" "kind") ∈ lw_all := lw_g (lw_at lw_m1 180 rfl) rfl
theorem q205 : (Jvm.Cond.lays "KahnNetModel" "KahnNetModel" "a" "[I") ∈ lw_all := lw_g (lw_at lw_m1 181 rfl) rfl
theorem q206 : (Jvm.Cond.soleField "KahnNetModel" "a") ∈ lw_all := lw_g (lw_at lw_m1 182 rfl) rfl
theorem q207 : (Jvm.Cond.lays "KahnNetModel" "KahnNetModel" "b" "[I") ∈ lw_all := lw_g (lw_at lw_m1 183 rfl) rfl
theorem q208 : (Jvm.Cond.soleField "KahnNetModel" "b") ∈ lw_all := lw_g (lw_at lw_m1 184 rfl) rfl
theorem q209 : (Jvm.Cond.lays "KahnNetModel" "KahnNetModel" "c" "[I") ∈ lw_all := lw_g (lw_at lw_m1 185 rfl) rfl
theorem q210 : (Jvm.Cond.soleField "KahnNetModel" "c") ∈ lw_all := lw_g (lw_at lw_m1 186 rfl) rfl
theorem q211 : (Jvm.Cond.lays "KahnNetModel" "KahnNetModel" "d" "[I") ∈ lw_all := lw_g (lw_at lw_m1 187 rfl) rfl
theorem q212 : (Jvm.Cond.soleField "KahnNetModel" "d") ∈ lw_all := lw_g (lw_at lw_m1 188 rfl) rfl
theorem q213 : (Jvm.Cond.lays "KahnNetModel" "KahnNetModel" "p" "[I") ∈ lw_all := lw_g (lw_at lw_m1 189 rfl) rfl
theorem q214 : (Jvm.Cond.soleField "KahnNetModel" "p") ∈ lw_all := lw_g (lw_at lw_m1 190 rfl) rfl
theorem q215 : (Jvm.Cond.lays "KahnNetModel" "KahnNetModel" "q" "[I") ∈ lw_all := lw_g (lw_at lw_m1 191 rfl) rfl
theorem q216 : (Jvm.Cond.soleField "KahnNetModel" "q") ∈ lw_all := lw_g (lw_at lw_m1 192 rfl) rfl
theorem q217 : (Jvm.Cond.lays "KahnNetModel" "KahnNetModel" "read" "[Z") ∈ lw_all := lw_g (lw_at lw_m1 193 rfl) rfl
theorem q218 : (Jvm.Cond.soleField "KahnNetModel" "read") ∈ lw_all := lw_g (lw_at lw_m1 194 rfl) rfl
theorem q219 : (Jvm.Cond.lays "KahnNetModel" "KahnNetModel" "written" "[Z") ∈ lw_all := lw_g (lw_at lw_m1 195 rfl) rfl
theorem q220 : (Jvm.Cond.soleField "KahnNetModel" "written") ∈ lw_all := lw_g (lw_at lw_m1 196 rfl) rfl
theorem q221 : (Jvm.Cond.lays "KahnNetModel" "KahnNetModel" "size" "[I") ∈ lw_all := lw_g (lw_at lw_m1 197 rfl) rfl
theorem q222 : (Jvm.Cond.soleField "KahnNetModel" "size") ∈ lw_all := lw_g (lw_at lw_m1 198 rfl) rfl
theorem q223 : (Jvm.Cond.lays "KahnNetModel" "KahnNetModel" "ints" "[I") ∈ lw_all := lw_g (lw_at lw_m1 199 rfl) rfl
theorem q224 : (Jvm.Cond.soleField "KahnNetModel" "ints") ∈ lw_all := lw_g (lw_at lw_m1 200 rfl) rfl
theorem q225 : (Jvm.Cond.lays "KahnNetModel" "KahnNetModel" "made" "[I") ∈ lw_all := lw_g (lw_at lw_m1 201 rfl) rfl
theorem q226 : (Jvm.Cond.soleField "KahnNetModel" "made") ∈ lw_all := lw_g (lw_at lw_m1 202 rfl) rfl
theorem q227 : (Jvm.Cond.lays "KahnNetModel" "KahnNetModel" "count" "I") ∈ lw_all := lw_g (lw_at lw_m1 203 rfl) rfl
theorem q228 : (Jvm.Cond.soleField "KahnNetModel" "count") ∈ lw_all := lw_g (lw_at lw_m1 204 rfl) rfl
theorem q229 : (Jvm.Cond.superclass "KahnNetModel" "java/lang/Object") ∈ lw_all := lw_g (lw_at lw_m1 205 rfl) rfl
theorem q232 : (Jvm.Cond.instanceMethod ({ cls := "KahnNetModel", name := "source", desc := "(III)I" } : Jvm.MethodName)) ∈ lw_all := lw_g (lw_at lw_m1 208 rfl) rfl
theorem q233 : (Jvm.Cond.selects "KahnNetModel" ({ cls := "KahnNetModel", name := "source", desc := "(III)I" } : Jvm.MethodName) ({ cls := "KahnNetModel", name := "source", desc := "(III)I" } : Jvm.MethodName)) ∈ lw_all := lw_g (lw_at lw_m1 209 rfl) rfl
theorem q234 : (Jvm.Cond.code ({ cls := "KahnNetModel", name := "source", desc := "(III)I" } : Jvm.MethodName) prog_3_method_4_code (4 : Nat) (Option.some Jvm.ClassFile.FieldType.int)) ∈ lw_all := lw_g (lw_at lw_m1 210 rfl) rfl
theorem q235 : (Jvm.Cond.methodLink "KahnNetModel" (51 : Nat) ({ cls := "KahnNetModel", name := "addProcess", desc := "(IIIII)I" } : Jvm.MethodName)) ∈ lw_all := lw_g (lw_at lw_m1 211 rfl) rfl
theorem q237 : (Jvm.Cond.instanceMethod ({ cls := "KahnNetModel", name := "addProcess", desc := "(IIIII)I" } : Jvm.MethodName)) ∈ lw_all := lw_g (lw_at lw_m1 213 rfl) rfl
theorem q238 : (Jvm.Cond.code ({ cls := "KahnNetModel", name := "addProcess", desc := "(IIIII)I" } : Jvm.MethodName) prog_3_method_3_code (6 : Nat) (Option.some Jvm.ClassFile.FieldType.int)) ∈ lw_all := lw_g (lw_at lw_m1 214 rfl) rfl
theorem q240 : (Jvm.Cond.instanceMethod ({ cls := "KahnNetModel", name := "process", desc := "(III)I" } : Jvm.MethodName)) ∈ lw_all := lw_g (lw_at lw_m1 216 rfl) rfl
theorem q241 : (Jvm.Cond.selects "KahnNetModel" ({ cls := "KahnNetModel", name := "process", desc := "(III)I" } : Jvm.MethodName) ({ cls := "KahnNetModel", name := "process", desc := "(III)I" } : Jvm.MethodName)) ∈ lw_all := lw_g (lw_at lw_m1 217 rfl) rfl
theorem q242 : (Jvm.Cond.code ({ cls := "KahnNetModel", name := "process", desc := "(III)I" } : Jvm.MethodName) prog_3_method_6_code (8 : Nat) (Option.some Jvm.ClassFile.FieldType.int)) ∈ lw_all := lw_g (lw_at lw_m1 218 rfl) rfl
theorem q243 : (Jvm.Cond.methodLink "KahnNetModel" (55 : Nat) ({ cls := "KahnNetModel", name := "isTaken", desc := "(IIIII)Z" } : Jvm.MethodName)) ∈ lw_all := lw_g (lw_at lw_m1 219 rfl) rfl
theorem q245 : (Jvm.Cond.instanceMethod ({ cls := "KahnNetModel", name := "isTaken", desc := "(IIIII)Z" } : Jvm.MethodName)) ∈ lw_all := lw_g (lw_at lw_m1 221 rfl) rfl
theorem q246 : (Jvm.Cond.code ({ cls := "KahnNetModel", name := "isTaken", desc := "(IIIII)Z" } : Jvm.MethodName) prog_3_method_5_code (8 : Nat) (Option.some Jvm.ClassFile.FieldType.boolean)) ∈ lw_all := lw_g (lw_at lw_m1 222 rfl) rfl
theorem q248 : (Jvm.Cond.instanceMethod ({ cls := "KahnNetModel", name := "clear", desc := "()I" } : Jvm.MethodName)) ∈ lw_all := lw_g (lw_at lw_m1 224 rfl) rfl
theorem q249 : (Jvm.Cond.selects "KahnNetModel" ({ cls := "KahnNetModel", name := "clear", desc := "()I" } : Jvm.MethodName) ({ cls := "KahnNetModel", name := "clear", desc := "()I" } : Jvm.MethodName)) ∈ lw_all := lw_g (lw_at lw_m1 225 rfl) rfl
theorem q250 : (Jvm.Cond.code ({ cls := "KahnNetModel", name := "clear", desc := "()I" } : Jvm.MethodName) prog_3_method_13_code (3 : Nat) (Option.some Jvm.ClassFile.FieldType.int)) ∈ lw_all := lw_g (lw_at lw_m1 226 rfl) rfl
theorem q252 : (Jvm.Cond.instanceMethod ({ cls := "KahnNetModel", name := "length", desc := "(I)I" } : Jvm.MethodName)) ∈ lw_all := lw_g (lw_at lw_m1 228 rfl) rfl
theorem q253 : (Jvm.Cond.selects "KahnNetModel" ({ cls := "KahnNetModel", name := "length", desc := "(I)I" } : Jvm.MethodName) ({ cls := "KahnNetModel", name := "length", desc := "(I)I" } : Jvm.MethodName)) ∈ lw_all := lw_g (lw_at lw_m1 229 rfl) rfl
theorem q254 : (Jvm.Cond.code ({ cls := "KahnNetModel", name := "length", desc := "(I)I" } : Jvm.MethodName) prog_3_method_14_code (2 : Nat) (Option.some Jvm.ClassFile.FieldType.int)) ∈ lw_all := lw_g (lw_at lw_m1 230 rfl) rfl
theorem q255 : (Jvm.Cond.methodLink "KahnNetModel" (81 : Nat) ({ cls := "KahnNetModel", name := "isChannel", desc := "(I)Z" } : Jvm.MethodName)) ∈ lw_all := lw_g (lw_at lw_m1 231 rfl) rfl
theorem q257 : (Jvm.Cond.instanceMethod ({ cls := "KahnNetModel", name := "isChannel", desc := "(I)Z" } : Jvm.MethodName)) ∈ lw_all := lw_g (lw_at lw_m1 233 rfl) rfl
theorem q258 : (Jvm.Cond.code ({ cls := "KahnNetModel", name := "isChannel", desc := "(I)Z" } : Jvm.MethodName) prog_3_method_2_code (2 : Nat) (Option.some Jvm.ClassFile.FieldType.boolean)) ∈ lw_all := lw_g (lw_at lw_m1 234 rfl) rfl
theorem q259 : (Jvm.Cond.methodLink "KahnNetModel" (84 : Nat) ({ cls := "KahnNetModel", name := "settle", desc := "()V" } : Jvm.MethodName)) ∈ lw_all := lw_g (lw_at lw_m1 235 rfl) rfl
theorem q261 : (Jvm.Cond.instanceMethod ({ cls := "KahnNetModel", name := "settle", desc := "()V" } : Jvm.MethodName)) ∈ lw_all := lw_g (lw_at lw_m1 237 rfl) rfl
theorem q262 : (Jvm.Cond.code ({ cls := "KahnNetModel", name := "settle", desc := "()V" } : Jvm.MethodName) prog_3_method_12_code (4 : Nat) (Option.none : Option Jvm.ClassFile.FieldType)) ∈ lw_all := lw_g (lw_at lw_m1 238 rfl) rfl
theorem q263 : (Jvm.Cond.methodLink "KahnNetModel" (74 : Nat) ({ cls := "KahnNetModel", name := "work", desc := "(I)V" } : Jvm.MethodName)) ∈ lw_all := lw_g (lw_at lw_m1 239 rfl) rfl
theorem q265 : (Jvm.Cond.instanceMethod ({ cls := "KahnNetModel", name := "work", desc := "(I)V" } : Jvm.MethodName)) ∈ lw_all := lw_g (lw_at lw_m2 1 rfl) rfl
theorem q266 : (Jvm.Cond.code ({ cls := "KahnNetModel", name := "work", desc := "(I)V" } : Jvm.MethodName) prog_3_method_10_code (8 : Nat) (Option.none : Option Jvm.ClassFile.FieldType)) ∈ lw_all := lw_g (lw_at lw_m2 2 rfl) rfl
theorem q267 : (Jvm.Cond.methodLink "KahnNetModel" (66 : Nat) ({ cls := "KahnNetModel", name := "write", desc := "(I)V" } : Jvm.MethodName)) ∈ lw_all := lw_g (lw_at lw_m2 3 rfl) rfl
theorem q269 : (Jvm.Cond.instanceMethod ({ cls := "KahnNetModel", name := "write", desc := "(I)V" } : Jvm.MethodName)) ∈ lw_all := lw_g (lw_at lw_m2 5 rfl) rfl
theorem q270 : (Jvm.Cond.code ({ cls := "KahnNetModel", name := "write", desc := "(I)V" } : Jvm.MethodName) prog_3_method_7_code (2 : Nat) (Option.none : Option Jvm.ClassFile.FieldType)) ∈ lw_all := lw_g (lw_at lw_m2 6 rfl) rfl
theorem q271 : (Jvm.Cond.methodLink "KahnNetModel" (70 : Nat) ({ cls := "KahnNetModel", name := "join", desc := "(II)V" } : Jvm.MethodName)) ∈ lw_all := lw_g (lw_at lw_m2 7 rfl) rfl
theorem q273 : (Jvm.Cond.instanceMethod ({ cls := "KahnNetModel", name := "join", desc := "(II)V" } : Jvm.MethodName)) ∈ lw_all := lw_g (lw_at lw_m2 9 rfl) rfl
theorem q274 : (Jvm.Cond.code ({ cls := "KahnNetModel", name := "join", desc := "(II)V" } : Jvm.MethodName) prog_3_method_9_code (8 : Nat) (Option.none : Option Jvm.ClassFile.FieldType)) ∈ lw_all := lw_g (lw_at lw_m2 10 rfl) rfl
theorem q275 : (Jvm.Cond.methodLink "KahnNetModel" (62 : Nat) ({ cls := "KahnNetModel", name := "get", desc := "(II)I" } : Jvm.MethodName)) ∈ lw_all := lw_g (lw_at lw_m2 11 rfl) rfl
theorem q277 : (Jvm.Cond.instanceMethod ({ cls := "KahnNetModel", name := "get", desc := "(II)I" } : Jvm.MethodName)) ∈ lw_all := lw_g (lw_at lw_m2 13 rfl) rfl
theorem q278 : (Jvm.Cond.code ({ cls := "KahnNetModel", name := "get", desc := "(II)I" } : Jvm.MethodName) prog_3_method_8_code (3 : Nat) (Option.some Jvm.ClassFile.FieldType.int)) ∈ lw_all := lw_g (lw_at lw_m2 14 rfl) rfl
theorem q279 : (Jvm.Cond.methodLink "KahnNetModel" (77 : Nat) ({ cls := "KahnNetModel", name := "store", desc := "(I)Z" } : Jvm.MethodName)) ∈ lw_all := lw_g (lw_at lw_m2 15 rfl) rfl
theorem q281 : (Jvm.Cond.instanceMethod ({ cls := "KahnNetModel", name := "store", desc := "(I)Z" } : Jvm.MethodName)) ∈ lw_all := lw_g (lw_at lw_m2 17 rfl) rfl
theorem q282 : (Jvm.Cond.code ({ cls := "KahnNetModel", name := "store", desc := "(I)Z" } : Jvm.MethodName) prog_3_method_11_code (4 : Nat) (Option.some Jvm.ClassFile.FieldType.boolean)) ∈ lw_all := lw_g (lw_at lw_m2 18 rfl) rfl
theorem q284 : (Jvm.Cond.instanceMethod ({ cls := "KahnNetModel", name := "at", desc := "(II)I" } : Jvm.MethodName)) ∈ lw_all := lw_g (lw_at lw_m2 20 rfl) rfl
theorem q285 : (Jvm.Cond.selects "KahnNetModel" ({ cls := "KahnNetModel", name := "at", desc := "(II)I" } : Jvm.MethodName) ({ cls := "KahnNetModel", name := "at", desc := "(II)I" } : Jvm.MethodName)) ∈ lw_all := lw_g (lw_at lw_m2 21 rfl) rfl
theorem q286 : (Jvm.Cond.code ({ cls := "KahnNetModel", name := "at", desc := "(II)I" } : Jvm.MethodName) prog_3_method_15_code (3 : Nat) (Option.some Jvm.ClassFile.FieldType.int)) ∈ lw_all := lw_g (lw_at lw_m2 22 rfl) rfl
theorem q288 : (Jvm.Cond.instanceMethod ({ cls := "KahnNetModel", name := "processes", desc := "()I" } : Jvm.MethodName)) ∈ lw_all := lw_g (lw_at lw_m2 24 rfl) rfl
theorem q289 : (Jvm.Cond.selects "KahnNetModel" ({ cls := "KahnNetModel", name := "processes", desc := "()I" } : Jvm.MethodName) ({ cls := "KahnNetModel", name := "processes", desc := "()I" } : Jvm.MethodName)) ∈ lw_all := lw_g (lw_at lw_m2 25 rfl) rfl
theorem q290 : (Jvm.Cond.code ({ cls := "KahnNetModel", name := "processes", desc := "()I" } : Jvm.MethodName) prog_3_method_16_code (1 : Nat) (Option.some Jvm.ClassFile.FieldType.int)) ∈ lw_all := lw_g (lw_at lw_m2 26 rfl) rfl
theorem q292 : (Jvm.Cond.instanceMethod ({ cls := "KahnNetModel", name := "total", desc := "()I" } : Jvm.MethodName)) ∈ lw_all := lw_g (lw_at lw_m2 28 rfl) rfl
theorem q293 : (Jvm.Cond.selects "KahnNetModel" ({ cls := "KahnNetModel", name := "total", desc := "()I" } : Jvm.MethodName) ({ cls := "KahnNetModel", name := "total", desc := "()I" } : Jvm.MethodName)) ∈ lw_all := lw_g (lw_at lw_m2 29 rfl) rfl
theorem q294 : (Jvm.Cond.code ({ cls := "KahnNetModel", name := "total", desc := "()I" } : Jvm.MethodName) prog_3_method_17_code (3 : Nat) (Option.some Jvm.ClassFile.FieldType.int)) ∈ lw_all := lw_g (lw_at lw_m2 30 rfl) rfl
theorem q296 : (Jvm.Cond.instanceMethod ({ cls := "KahnNetModel", name := "firstDifference", desc := "(II)I" } : Jvm.MethodName)) ∈ lw_all := lw_g (lw_at lw_m2 32 rfl) rfl
theorem q297 : (Jvm.Cond.selects "KahnNetModel" ({ cls := "KahnNetModel", name := "firstDifference", desc := "(II)I" } : Jvm.MethodName) ({ cls := "KahnNetModel", name := "firstDifference", desc := "(II)I" } : Jvm.MethodName)) ∈ lw_all := lw_g (lw_at lw_m2 33 rfl) rfl
theorem q298 : (Jvm.Cond.code ({ cls := "KahnNetModel", name := "firstDifference", desc := "(II)I" } : Jvm.MethodName) prog_3_method_18_code (4 : Nat) (Option.some Jvm.ClassFile.FieldType.int)) ∈ lw_all := lw_g (lw_at lw_m2 34 rfl) rfl
theorem in_X2 : ∀ w ∈ wsX20, w ∈ lw_all := lw_in wsX20 [201, 203, 205, 207, 209, 211, 213, 215, 217, 219, 221, 223, 225, 227] (by decide +kernel) (by decide +kernel)
/-! KahnNetLaw -/
set_option maxRecDepth 100000
def RX0 : String := "KahnNetLaw"
abbrev cX0_cell : ByteArray := method_2_code
def yX0_cell : MethodName := ⟨RX0, "cell", "([II)I"⟩
theorem q24 : (Jvm.Cond.initialized "KahnNetLaw") ∈ lw_all := lw_g (lw_at lw_m1 0 rfl) rfl
theorem q27 : (Jvm.Cond.classLink "KahnNetLaw" (7 : Nat) "KahnNet") ∈ lw_all := lw_g (lw_at lw_m1 3 rfl) rfl
theorem q29 : (Jvm.Cond.methodLink "KahnNetLaw" (15 : Nat) ({ cls := "KahnNet", name := "<init>", desc := "(I)V" } : Jvm.MethodName)) ∈ lw_all := lw_g (lw_at lw_m1 5 rfl) rfl
theorem q86 : (Jvm.Cond.methodLink "KahnNetLaw" (21 : Nat) ({ cls := "KahnNet", name := "source", desc := "(III)I" } : Jvm.MethodName)) ∈ lw_all := lw_g (lw_at lw_m1 62 rfl) rfl
theorem q98 : (Jvm.Cond.methodLink "KahnNetLaw" (26 : Nat) ({ cls := "KahnNet", name := "process", desc := "(III)I" } : Jvm.MethodName)) ∈ lw_all := lw_g (lw_at lw_m1 74 rfl) rfl
theorem q106 : (Jvm.Cond.methodLink "KahnNetLaw" (30 : Nat) ({ cls := "KahnNet", name := "clear", desc := "()I" } : Jvm.MethodName)) ∈ lw_all := lw_g (lw_at lw_m1 82 rfl) rfl
theorem q110 : (Jvm.Cond.methodLink "KahnNetLaw" (35 : Nat) ({ cls := "KahnNet", name := "length", desc := "(I)I" } : Jvm.MethodName)) ∈ lw_all := lw_g (lw_at lw_m1 86 rfl) rfl
theorem q162 : (Jvm.Cond.methodLink "KahnNetLaw" (40 : Nat) ({ cls := "KahnNet", name := "at", desc := "(II)I" } : Jvm.MethodName)) ∈ lw_all := lw_g (lw_at lw_m1 138 rfl) rfl
theorem q166 : (Jvm.Cond.methodLink "KahnNetLaw" (45 : Nat) ({ cls := "KahnNet", name := "processes", desc := "()I" } : Jvm.MethodName)) ∈ lw_all := lw_g (lw_at lw_m1 142 rfl) rfl
theorem q170 : (Jvm.Cond.methodLink "KahnNetLaw" (49 : Nat) ({ cls := "KahnNet", name := "total", desc := "()I" } : Jvm.MethodName)) ∈ lw_all := lw_g (lw_at lw_m1 146 rfl) rfl
theorem q174 : (Jvm.Cond.methodLink "KahnNetLaw" (53 : Nat) ({ cls := "KahnNet", name := "firstDifference", desc := "(II)I" } : Jvm.MethodName)) ∈ lw_all := lw_g (lw_at lw_m1 150 rfl) rfl
theorem q178 : (Jvm.Cond.methodLink "KahnNetLaw" (9 : Nat) ({ cls := "KahnNetLaw", name := "cell", desc := "([II)I" } : Jvm.MethodName)) ∈ lw_all := lw_g (lw_at lw_m1 154 rfl) rfl
theorem q179 : (Jvm.Cond.static ({ cls := "KahnNetLaw", name := "cell", desc := "([II)I" } : Jvm.MethodName)) ∈ lw_all := lw_g (lw_at lw_m1 155 rfl) rfl
theorem q180 : (Jvm.Cond.code ({ cls := "KahnNetLaw", name := "cell", desc := "([II)I" } : Jvm.MethodName) method_2_code (2 : Nat) (Option.some Jvm.ClassFile.FieldType.int)) ∈ lw_all := lw_g (lw_at lw_m1 156 rfl) rfl
theorem q181 : (Jvm.Cond.classLink "KahnNetLaw" (18 : Nat) "KahnNetModel") ∈ lw_all := lw_g (lw_at lw_m1 157 rfl) rfl
theorem q183 : (Jvm.Cond.methodLink "KahnNetLaw" (20 : Nat) ({ cls := "KahnNetModel", name := "<init>", desc := "(I)V" } : Jvm.MethodName)) ∈ lw_all := lw_g (lw_at lw_m1 159 rfl) rfl
theorem q231 : (Jvm.Cond.methodLink "KahnNetLaw" (25 : Nat) ({ cls := "KahnNetModel", name := "source", desc := "(III)I" } : Jvm.MethodName)) ∈ lw_all := lw_g (lw_at lw_m1 207 rfl) rfl
theorem q239 : (Jvm.Cond.methodLink "KahnNetLaw" (29 : Nat) ({ cls := "KahnNetModel", name := "process", desc := "(III)I" } : Jvm.MethodName)) ∈ lw_all := lw_g (lw_at lw_m1 215 rfl) rfl
theorem q247 : (Jvm.Cond.methodLink "KahnNetLaw" (34 : Nat) ({ cls := "KahnNetModel", name := "clear", desc := "()I" } : Jvm.MethodName)) ∈ lw_all := lw_g (lw_at lw_m1 223 rfl) rfl
theorem q251 : (Jvm.Cond.methodLink "KahnNetLaw" (39 : Nat) ({ cls := "KahnNetModel", name := "length", desc := "(I)I" } : Jvm.MethodName)) ∈ lw_all := lw_g (lw_at lw_m1 227 rfl) rfl
theorem q283 : (Jvm.Cond.methodLink "KahnNetLaw" (44 : Nat) ({ cls := "KahnNetModel", name := "at", desc := "(II)I" } : Jvm.MethodName)) ∈ lw_all := lw_g (lw_at lw_m2 19 rfl) rfl
theorem q287 : (Jvm.Cond.methodLink "KahnNetLaw" (48 : Nat) ({ cls := "KahnNetModel", name := "processes", desc := "()I" } : Jvm.MethodName)) ∈ lw_all := lw_g (lw_at lw_m2 23 rfl) rfl
theorem q291 : (Jvm.Cond.methodLink "KahnNetLaw" (52 : Nat) ({ cls := "KahnNetModel", name := "total", desc := "()I" } : Jvm.MethodName)) ∈ lw_all := lw_g (lw_at lw_m2 27 rfl) rfl
theorem q295 : (Jvm.Cond.methodLink "KahnNetLaw" (56 : Nat) ({ cls := "KahnNetModel", name := "firstDifference", desc := "(II)I" } : Jvm.MethodName)) ∈ lw_all := lw_g (lw_at lw_m2 31 rfl) rfl
/-! java/lang/Object -/
set_option maxRecDepth 100000
def RJ0 : String := "java/lang/Object"
abbrev cJ0_init : ByteArray := object_method_1_code
def yJ0_init : MethodName := ⟨RJ0, "<init>", "()V"⟩
theorem q33 : (Jvm.Cond.instanceMethod ({ cls := "java/lang/Object", name := "<init>", desc := "()V" } : Jvm.MethodName)) ∈ lw_all := lw_g (lw_at lw_m1 9 rfl) rfl
theorem q34 : (Jvm.Cond.code ({ cls := "java/lang/Object", name := "<init>", desc := "()V" } : Jvm.MethodName) object_method_1_code (1 : Nat) (Option.none : Option Jvm.ClassFile.FieldType)) ∈ lw_all := lw_g (lw_at lw_m1 10 rfl) rfl
theorem q84 : (Jvm.Cond.arrayClass Jvm.ClassFile.FieldType.byte) ∈ lw_all := lw_g (lw_at lw_m1 60 rfl) rfl
set_option maxRecDepth 100000
theorem q85 : (Jvm.Cond.arrayClass Jvm.ClassFile.FieldType.int) ∈ lw_all := lw_g (lw_at lw_m1 61 rfl) rfl
theorem q230 : (Jvm.Cond.arrayClass Jvm.ClassFile.FieldType.boolean) ∈ lw_all := lw_g (lw_at lw_m1 206 rfl) rfl
/-! the law's own entry -/
set_option maxRecDepth 100000
abbrev cL_law : ByteArray := code
end
section
set_option maxRecDepth 100000
theorem dX1_init_0 : decode cX1_init 0 = .ok (.aload_n 0, 1) := by decide +kernel
theorem dX1_init_1 : decode cX1_init 1 = .ok (.invokespecial 1, 3) := by decide +kernel
theorem dX1_init_4 : decode cX1_init 4 = .ok (.aload_n 0, 1) := by decide +kernel
theorem dX1_init_5 : decode cX1_init 5 = .ok (.bipush 8, 2) := by decide +kernel
theorem dX1_init_7 : decode cX1_init 7 = .ok (.newarray .byte, 2) := by decide +kernel
theorem dX1_init_9 : decode cX1_init 9 = .ok (.putfield 7, 3) := by decide +kernel
theorem dX1_init_12 : decode cX1_init 12 = .ok (.aload_n 0, 1) := by decide +kernel
theorem dX1_init_13 : decode cX1_init 13 = .ok (.bipush 8, 2) := by decide +kernel
theorem dX1_init_15 : decode cX1_init 15 = .ok (.newarray .byte, 2) := by decide +kernel
theorem dX1_init_17 : decode cX1_init 17 = .ok (.putfield 13, 3) := by decide +kernel
theorem dX1_init_20 : decode cX1_init 20 = .ok (.aload_n 0, 1) := by decide +kernel
theorem dX1_init_21 : decode cX1_init 21 = .ok (.bipush 8, 2) := by decide +kernel
theorem dX1_init_23 : decode cX1_init 23 = .ok (.newarray .byte, 2) := by decide +kernel
theorem dX1_init_25 : decode cX1_init 25 = .ok (.putfield 16, 3) := by decide +kernel
theorem dX1_init_28 : decode cX1_init 28 = .ok (.aload_n 0, 1) := by decide +kernel
theorem dX1_init_29 : decode cX1_init 29 = .ok (.bipush 8, 2) := by decide +kernel
theorem dX1_init_31 : decode cX1_init 31 = .ok (.newarray .byte, 2) := by decide +kernel
theorem dX1_init_33 : decode cX1_init 33 = .ok (.putfield 19, 3) := by decide +kernel
theorem dX1_init_36 : decode cX1_init 36 = .ok (.aload_n 0, 1) := by decide +kernel
theorem dX1_init_37 : decode cX1_init 37 = .ok (.bipush 8, 2) := by decide +kernel
theorem dX1_init_39 : decode cX1_init 39 = .ok (.newarray .byte, 2) := by decide +kernel
theorem dX1_init_41 : decode cX1_init 41 = .ok (.putfield 22, 3) := by decide +kernel
theorem dX1_init_44 : decode cX1_init 44 = .ok (.aload_n 0, 1) := by decide +kernel
theorem dX1_init_45 : decode cX1_init 45 = .ok (.bipush 8, 2) := by decide +kernel
theorem dX1_init_47 : decode cX1_init 47 = .ok (.newarray .int, 2) := by decide +kernel
theorem dX1_init_49 : decode cX1_init 49 = .ok (.putfield 25, 3) := by decide +kernel
theorem dX1_init_52 : decode cX1_init 52 = .ok (.aload_n 0, 1) := by decide +kernel
theorem dX1_init_53 : decode cX1_init 53 = .ok (.bipush 8, 2) := by decide +kernel
theorem dX1_init_55 : decode cX1_init 55 = .ok (.newarray .int, 2) := by decide +kernel
theorem dX1_init_57 : decode cX1_init 57 = .ok (.putfield 29, 3) := by decide +kernel
theorem dX1_init_60 : decode cX1_init 60 = .ok (.aload_n 0, 1) := by decide +kernel
theorem dX1_init_61 : decode cX1_init 61 = .ok (.sipush 200, 3) := by decide +kernel
theorem dX1_init_64 : decode cX1_init 64 = .ok (.newarray .int, 2) := by decide +kernel
theorem dX1_init_66 : decode cX1_init 66 = .ok (.putfield 32, 3) := by decide +kernel
theorem dX1_init_69 : decode cX1_init 69 = .ok (.aload_n 0, 1) := by decide +kernel
theorem dX1_init_70 : decode cX1_init 70 = .ok (.bipush 10, 2) := by decide +kernel
theorem dX1_init_72 : decode cX1_init 72 = .ok (.newarray .byte, 2) := by decide +kernel
theorem dX1_init_74 : decode cX1_init 74 = .ok (.putfield 35, 3) := by decide +kernel
theorem dX1_init_77 : decode cX1_init 77 = .ok (.aload_n 0, 1) := by decide +kernel
theorem dX1_init_78 : decode cX1_init 78 = .ok (.bipush 10, 2) := by decide +kernel
theorem dX1_init_80 : decode cX1_init 80 = .ok (.newarray .byte, 2) := by decide +kernel
theorem dX1_init_82 : decode cX1_init 82 = .ok (.putfield 38, 3) := by decide +kernel
theorem dX1_init_85 : decode cX1_init 85 = .ok (.aload_n 0, 1) := by decide +kernel
theorem dX1_init_86 : decode cX1_init 86 = .ok (.bipush 10, 2) := by decide +kernel
theorem dX1_init_88 : decode cX1_init 88 = .ok (.newarray .byte, 2) := by decide +kernel
theorem dX1_init_90 : decode cX1_init 90 = .ok (.putfield 41, 3) := by decide +kernel
theorem dX1_init_93 : decode cX1_init 93 = .ok (.aload_n 0, 1) := by decide +kernel
theorem dX1_init_94 : decode cX1_init 94 = .ok (.bipush 8, 2) := by decide +kernel
theorem dX1_init_96 : decode cX1_init 96 = .ok (.newarray .int, 2) := by decide +kernel
theorem dX1_init_98 : decode cX1_init 98 = .ok (.putfield 44, 3) := by decide +kernel
theorem dX1_init_101 : decode cX1_init 101 = .ok (.aload_n 0, 1) := by decide +kernel
theorem dX1_init_102 : decode cX1_init 102 = .ok (.bipush 8, 2) := by decide +kernel
theorem dX1_init_104 : decode cX1_init 104 = .ok (.newarray .byte, 2) := by decide +kernel
theorem dX1_init_106 : decode cX1_init 106 = .ok (.putfield 47, 3) := by decide +kernel
theorem dX1_init_109 : decode cX1_init 109 = .ok (.aload_n 0, 1) := by decide +kernel
theorem dX1_init_110 : decode cX1_init 110 = .ok (.iload_n 1, 1) := by decide +kernel
theorem dX1_init_111 : decode cX1_init 111 = .ok (.iconst 1, 1) := by decide +kernel
theorem dX1_init_112 : decode cX1_init 112 = .ok (.if_icmp .ge 7, 3) := by decide +kernel
theorem dX1_init_115 : decode cX1_init 115 = .ok (.iconst 1, 1) := by decide +kernel
theorem dX1_init_116 : decode cX1_init 116 = .ok (.goto 15, 3) := by decide +kernel
theorem dX1_init_119 : decode cX1_init 119 = .ok (.iload_n 1, 1) := by decide +kernel
theorem dX1_init_120 : decode cX1_init 120 = .ok (.bipush 6, 2) := by decide +kernel
theorem dX1_init_122 : decode cX1_init 122 = .ok (.if_icmp .le 8, 3) := by decide +kernel
theorem dX1_init_125 : decode cX1_init 125 = .ok (.bipush 6, 2) := by decide +kernel
theorem dX1_init_127 : decode cX1_init 127 = .ok (.goto 4, 3) := by decide +kernel
theorem dX1_init_130 : decode cX1_init 130 = .ok (.iload_n 1, 1) := by decide +kernel
theorem dX1_init_131 : decode cX1_init 131 = .ok (.putfield 50, 3) := by decide +kernel
theorem dX1_init_134 : decode cX1_init 134 = .ok (.return_, 1) := by decide +kernel
theorem dX1_source_0 : decode cX1_source 0 = .ok (.aload_n 0, 1) := by decide +kernel
theorem dX1_source_1 : decode cX1_source 1 = .ok (.getfield 54, 3) := by decide +kernel
theorem dX1_source_4 : decode cX1_source 4 = .ok (.bipush 8, 2) := by decide +kernel
theorem dX1_source_6 : decode cX1_source 6 = .ok (.if_icmp .lt 6, 3) := by decide +kernel
theorem dX1_source_9 : decode cX1_source 9 = .ok (.bipush (-2), 2) := by decide +kernel
theorem dX1_source_11 : decode cX1_source 11 = .ok (.ireturn, 1) := by decide +kernel
theorem dX1_source_12 : decode cX1_source 12 = .ok (.iload_n 1, 1) := by decide +kernel
theorem dX1_source_13 : decode cX1_source 13 = .ok (.iconst 4, 1) := by decide +kernel
theorem dX1_source_14 : decode cX1_source 14 = .ok (.ishr, 1) := by decide +kernel
theorem dX1_source_15 : decode cX1_source 15 = .ok (.istore 4, 2) := by decide +kernel
theorem dX1_source_17 : decode cX1_source 17 = .ok (.iload_n 1, 1) := by decide +kernel
theorem dX1_source_18 : decode cX1_source 18 = .ok (.bipush 15, 2) := by decide +kernel
theorem dX1_source_20 : decode cX1_source 20 = .ok (.iand, 1) := by decide +kernel
theorem dX1_source_21 : decode cX1_source 21 = .ok (.istore 5, 2) := by decide +kernel
theorem dX1_source_23 : decode cX1_source 23 = .ok (.iload_n 1, 1) := by decide +kernel
theorem dX1_source_24 : decode cX1_source 24 = .ok (.ifCond .lt 17, 3) := by decide +kernel
theorem dX1_source_27 : decode cX1_source 27 = .ok (.iload 4, 2) := by decide +kernel
theorem dX1_source_29 : decode cX1_source 29 = .ok (.bipush 9, 2) := by decide +kernel
theorem dX1_source_31 : decode cX1_source 31 = .ok (.if_icmp .gt 10, 3) := by decide +kernel
theorem dX1_source_34 : decode cX1_source 34 = .ok (.iload 5, 2) := by decide +kernel
theorem dX1_source_36 : decode cX1_source 36 = .ok (.bipush 12, 2) := by decide +kernel
theorem dX1_source_38 : decode cX1_source 38 = .ok (.if_icmp .le 5, 3) := by decide +kernel
theorem dX1_source_41 : decode cX1_source 41 = .ok (.iconst (-1), 1) := by decide +kernel
theorem dX1_source_42 : decode cX1_source 42 = .ok (.ireturn, 1) := by decide +kernel
theorem dX1_source_43 : decode cX1_source 43 = .ok (.aload_n 0, 1) := by decide +kernel
theorem dX1_source_44 : decode cX1_source 44 = .ok (.iload 4, 2) := by decide +kernel
theorem dX1_source_46 : decode cX1_source 46 = .ok (.invokevirtual 57, 3) := by decide +kernel
theorem dX1_source_49 : decode cX1_source 49 = .ok (.ifCond .eq 6, 3) := by decide +kernel
theorem dX1_source_52 : decode cX1_source 52 = .ok (.bipush (-3), 2) := by decide +kernel
theorem dX1_source_54 : decode cX1_source 54 = .ok (.ireturn, 1) := by decide +kernel
theorem dX1_source_55 : decode cX1_source 55 = .ok (.aload_n 0, 1) := by decide +kernel
theorem dX1_source_56 : decode cX1_source 56 = .ok (.iconst 0, 1) := by decide +kernel
theorem dX1_source_57 : decode cX1_source 57 = .ok (.iconst (-1), 1) := by decide +kernel
theorem dX1_source_58 : decode cX1_source 58 = .ok (.iconst (-1), 1) := by decide +kernel
theorem dX1_source_59 : decode cX1_source 59 = .ok (.iload 4, 2) := by decide +kernel
theorem dX1_source_61 : decode cX1_source 61 = .ok (.iconst (-1), 1) := by decide +kernel
theorem dX1_source_62 : decode cX1_source 62 = .ok (.invokevirtual 61, 3) := by decide +kernel
theorem dX1_source_65 : decode cX1_source 65 = .ok (.istore 6, 2) := by decide +kernel
theorem dX1_source_67 : decode cX1_source 67 = .ok (.aload_n 0, 1) := by decide +kernel
theorem dX1_source_68 : decode cX1_source 68 = .ok (.getfield 25, 3) := by decide +kernel
theorem dX1_source_71 : decode cX1_source 71 = .ok (.iload 6, 2) := by decide +kernel
theorem dX1_source_73 : decode cX1_source 73 = .ok (.iload_n 2, 1) := by decide +kernel
theorem dX1_source_74 : decode cX1_source 74 = .ok (.iastore, 1) := by decide +kernel
theorem dX1_source_75 : decode cX1_source 75 = .ok (.aload_n 0, 1) := by decide +kernel
theorem dX1_source_76 : decode cX1_source 76 = .ok (.getfield 29, 3) := by decide +kernel
theorem dX1_source_79 : decode cX1_source 79 = .ok (.iload 6, 2) := by decide +kernel
theorem dX1_source_81 : decode cX1_source 81 = .ok (.iload_n 3, 1) := by decide +kernel
theorem dX1_source_82 : decode cX1_source 82 = .ok (.iastore, 1) := by decide +kernel
theorem dX1_source_83 : decode cX1_source 83 = .ok (.aload_n 0, 1) := by decide +kernel
theorem dX1_source_84 : decode cX1_source 84 = .ok (.getfield 47, 3) := by decide +kernel
theorem dX1_source_87 : decode cX1_source 87 = .ok (.iload 6, 2) := by decide +kernel
theorem dX1_source_89 : decode cX1_source 89 = .ok (.iload 5, 2) := by decide +kernel
theorem dX1_source_91 : decode cX1_source 91 = .ok (.i2b, 1) := by decide +kernel
theorem dX1_source_92 : decode cX1_source 92 = .ok (.bastore, 1) := by decide +kernel
theorem dX1_source_93 : decode cX1_source 93 = .ok (.iload 6, 2) := by decide +kernel
theorem dX1_source_95 : decode cX1_source 95 = .ok (.ireturn, 1) := by decide +kernel
theorem dX1_isWritten_0 : decode cX1_isWritten 0 = .ok (.iload_n 1, 1) := by decide +kernel
theorem dX1_isWritten_1 : decode cX1_isWritten 1 = .ok (.ifCond .ge 5, 3) := by decide +kernel
theorem dX1_isWritten_4 : decode cX1_isWritten 4 = .ok (.iconst 0, 1) := by decide +kernel
theorem dX1_isWritten_5 : decode cX1_isWritten 5 = .ok (.ireturn, 1) := by decide +kernel
theorem dX1_isWritten_6 : decode cX1_isWritten 6 = .ok (.iconst 0, 1) := by decide +kernel
theorem dX1_isWritten_7 : decode cX1_isWritten 7 = .ok (.istore_n 2, 1) := by decide +kernel
theorem dX1_isWritten_8 : decode cX1_isWritten 8 = .ok (.iload_n 2, 1) := by decide +kernel
theorem dX1_isWritten_9 : decode cX1_isWritten 9 = .ok (.aload_n 0, 1) := by decide +kernel
theorem dX1_isWritten_10 : decode cX1_isWritten 10 = .ok (.getfield 54, 3) := by decide +kernel
theorem dX1_isWritten_13 : decode cX1_isWritten 13 = .ok (.if_icmp .ge 31, 3) := by decide +kernel
theorem dX1_isWritten_16 : decode cX1_isWritten 16 = .ok (.aload_n 0, 1) := by decide +kernel
theorem dX1_isWritten_17 : decode cX1_isWritten 17 = .ok (.getfield 19, 3) := by decide +kernel
theorem dX1_isWritten_20 : decode cX1_isWritten 20 = .ok (.iload_n 2, 1) := by decide +kernel
theorem dX1_isWritten_21 : decode cX1_isWritten 21 = .ok (.baload, 1) := by decide +kernel
theorem dX1_isWritten_22 : decode cX1_isWritten 22 = .ok (.iload_n 1, 1) := by decide +kernel
theorem dX1_isWritten_23 : decode cX1_isWritten 23 = .ok (.if_icmp .eq 13, 3) := by decide +kernel
theorem dX1_isWritten_26 : decode cX1_isWritten 26 = .ok (.aload_n 0, 1) := by decide +kernel
theorem dX1_isWritten_27 : decode cX1_isWritten 27 = .ok (.getfield 22, 3) := by decide +kernel
theorem dX1_isWritten_30 : decode cX1_isWritten 30 = .ok (.iload_n 2, 1) := by decide +kernel
theorem dX1_isWritten_31 : decode cX1_isWritten 31 = .ok (.baload, 1) := by decide +kernel
theorem dX1_isWritten_32 : decode cX1_isWritten 32 = .ok (.iload_n 1, 1) := by decide +kernel
theorem dX1_isWritten_33 : decode cX1_isWritten 33 = .ok (.if_icmp .ne 5, 3) := by decide +kernel
theorem dX1_isWritten_36 : decode cX1_isWritten 36 = .ok (.iconst 1, 1) := by decide +kernel
theorem dX1_isWritten_37 : decode cX1_isWritten 37 = .ok (.ireturn, 1) := by decide +kernel
theorem dX1_isWritten_38 : decode cX1_isWritten 38 = .ok (.iinc 2 1, 3) := by decide +kernel
theorem dX1_isWritten_41 : decode cX1_isWritten 41 = .ok (.goto (-33), 3) := by decide +kernel
theorem dX1_isWritten_44 : decode cX1_isWritten 44 = .ok (.iconst 0, 1) := by decide +kernel
theorem dX1_isWritten_45 : decode cX1_isWritten 45 = .ok (.ireturn, 1) := by decide +kernel
theorem dX1_addProcess_0 : decode cX1_addProcess 0 = .ok (.aload_n 0, 1) := by decide +kernel
theorem dX1_addProcess_1 : decode cX1_addProcess 1 = .ok (.getfield 54, 3) := by decide +kernel
theorem dX1_addProcess_4 : decode cX1_addProcess 4 = .ok (.istore 6, 2) := by decide +kernel
theorem dX1_addProcess_6 : decode cX1_addProcess 6 = .ok (.aload_n 0, 1) := by decide +kernel
theorem dX1_addProcess_7 : decode cX1_addProcess 7 = .ok (.dup, 1) := by decide +kernel
theorem dX1_addProcess_8 : decode cX1_addProcess 8 = .ok (.getfield 54, 3) := by decide +kernel
theorem dX1_addProcess_11 : decode cX1_addProcess 11 = .ok (.iconst 1, 1) := by decide +kernel
theorem dX1_addProcess_12 : decode cX1_addProcess 12 = .ok (.iadd, 1) := by decide +kernel
theorem dX1_addProcess_13 : decode cX1_addProcess 13 = .ok (.putfield 54, 3) := by decide +kernel
theorem dX1_addProcess_16 : decode cX1_addProcess 16 = .ok (.aload_n 0, 1) := by decide +kernel
theorem dX1_addProcess_17 : decode cX1_addProcess 17 = .ok (.getfield 7, 3) := by decide +kernel
theorem dX1_addProcess_20 : decode cX1_addProcess 20 = .ok (.iload 6, 2) := by decide +kernel
theorem dX1_addProcess_22 : decode cX1_addProcess 22 = .ok (.iload_n 1, 1) := by decide +kernel
theorem dX1_addProcess_23 : decode cX1_addProcess 23 = .ok (.i2b, 1) := by decide +kernel
theorem dX1_addProcess_24 : decode cX1_addProcess 24 = .ok (.bastore, 1) := by decide +kernel
theorem dX1_addProcess_25 : decode cX1_addProcess 25 = .ok (.aload_n 0, 1) := by decide +kernel
theorem dX1_addProcess_26 : decode cX1_addProcess 26 = .ok (.getfield 13, 3) := by decide +kernel
theorem dX1_addProcess_29 : decode cX1_addProcess 29 = .ok (.iload 6, 2) := by decide +kernel
theorem dX1_addProcess_31 : decode cX1_addProcess 31 = .ok (.iload_n 2, 1) := by decide +kernel
theorem dX1_addProcess_32 : decode cX1_addProcess 32 = .ok (.i2b, 1) := by decide +kernel
theorem dX1_addProcess_33 : decode cX1_addProcess 33 = .ok (.bastore, 1) := by decide +kernel
theorem dX1_addProcess_34 : decode cX1_addProcess 34 = .ok (.aload_n 0, 1) := by decide +kernel
theorem dX1_addProcess_35 : decode cX1_addProcess 35 = .ok (.getfield 16, 3) := by decide +kernel
theorem dX1_addProcess_38 : decode cX1_addProcess 38 = .ok (.iload 6, 2) := by decide +kernel
theorem dX1_addProcess_40 : decode cX1_addProcess 40 = .ok (.iload_n 3, 1) := by decide +kernel
theorem dX1_addProcess_41 : decode cX1_addProcess 41 = .ok (.i2b, 1) := by decide +kernel
theorem dX1_addProcess_42 : decode cX1_addProcess 42 = .ok (.bastore, 1) := by decide +kernel
theorem dX1_addProcess_43 : decode cX1_addProcess 43 = .ok (.aload_n 0, 1) := by decide +kernel
theorem dX1_addProcess_44 : decode cX1_addProcess 44 = .ok (.getfield 19, 3) := by decide +kernel
theorem dX1_addProcess_47 : decode cX1_addProcess 47 = .ok (.iload 6, 2) := by decide +kernel
theorem dX1_addProcess_49 : decode cX1_addProcess 49 = .ok (.iload 4, 2) := by decide +kernel
theorem dX1_addProcess_51 : decode cX1_addProcess 51 = .ok (.i2b, 1) := by decide +kernel
theorem dX1_addProcess_52 : decode cX1_addProcess 52 = .ok (.bastore, 1) := by decide +kernel
theorem dX1_addProcess_53 : decode cX1_addProcess 53 = .ok (.aload_n 0, 1) := by decide +kernel
theorem dX1_addProcess_54 : decode cX1_addProcess 54 = .ok (.getfield 22, 3) := by decide +kernel
theorem dX1_addProcess_57 : decode cX1_addProcess 57 = .ok (.iload 6, 2) := by decide +kernel
theorem dX1_addProcess_59 : decode cX1_addProcess 59 = .ok (.iload 5, 2) := by decide +kernel
theorem dX1_addProcess_61 : decode cX1_addProcess 61 = .ok (.i2b, 1) := by decide +kernel
theorem dX1_addProcess_62 : decode cX1_addProcess 62 = .ok (.bastore, 1) := by decide +kernel
theorem dX1_addProcess_63 : decode cX1_addProcess 63 = .ok (.aload_n 0, 1) := by decide +kernel
theorem dX1_addProcess_64 : decode cX1_addProcess 64 = .ok (.iconst 0, 1) := by decide +kernel
theorem dX1_addProcess_65 : decode cX1_addProcess 65 = .ok (.putfield 68, 3) := by decide +kernel
theorem dX1_addProcess_68 : decode cX1_addProcess 68 = .ok (.iload 6, 2) := by decide +kernel
theorem dX1_addProcess_70 : decode cX1_addProcess 70 = .ok (.ireturn, 1) := by decide +kernel
theorem dX1_process_0 : decode cX1_process 0 = .ok (.aload_n 0, 1) := by decide +kernel
theorem dX1_process_1 : decode cX1_process 1 = .ok (.getfield 54, 3) := by decide +kernel
theorem dX1_process_4 : decode cX1_process 4 = .ok (.bipush 8, 2) := by decide +kernel
theorem dX1_process_6 : decode cX1_process 6 = .ok (.if_icmp .lt 6, 3) := by decide +kernel
theorem dX1_process_9 : decode cX1_process 9 = .ok (.bipush (-2), 2) := by decide +kernel
theorem dX1_process_11 : decode cX1_process 11 = .ok (.ireturn, 1) := by decide +kernel
theorem dX1_process_12 : decode cX1_process 12 = .ok (.iload_n 1, 1) := by decide +kernel
theorem dX1_process_13 : decode cX1_process 13 = .ok (.iconst 1, 1) := by decide +kernel
theorem dX1_process_14 : decode cX1_process 14 = .ok (.if_icmp .lt 20, 3) := by decide +kernel
theorem dX1_process_17 : decode cX1_process 17 = .ok (.iload_n 1, 1) := by decide +kernel
theorem dX1_process_18 : decode cX1_process 18 = .ok (.bipush 7, 2) := by decide +kernel
theorem dX1_process_20 : decode cX1_process 20 = .ok (.if_icmp .gt 14, 3) := by decide +kernel
theorem dX1_process_23 : decode cX1_process 23 = .ok (.iload_n 2, 1) := by decide +kernel
theorem dX1_process_24 : decode cX1_process 24 = .ok (.ifCond .lt 10, 3) := by decide +kernel
theorem dX1_process_27 : decode cX1_process 27 = .ok (.iload_n 2, 1) := by decide +kernel
theorem dX1_process_28 : decode cX1_process 28 = .ok (.sipush 9999, 3) := by decide +kernel
theorem dX1_process_31 : decode cX1_process 31 = .ok (.if_icmp .le 5, 3) := by decide +kernel
theorem dX1_process_34 : decode cX1_process 34 = .ok (.iconst (-1), 1) := by decide +kernel
theorem dX1_process_35 : decode cX1_process 35 = .ok (.ireturn, 1) := by decide +kernel
theorem dX1_process_36 : decode cX1_process 36 = .ok (.iload_n 1, 1) := by decide +kernel
theorem dX1_process_37 : decode cX1_process 37 = .ok (.iconst 2, 1) := by decide +kernel
theorem dX1_process_38 : decode cX1_process 38 = .ok (.if_icmp .eq 8, 3) := by decide +kernel
theorem dX1_process_41 : decode cX1_process 41 = .ok (.iload_n 1, 1) := by decide +kernel
theorem dX1_process_42 : decode cX1_process 42 = .ok (.iconst 5, 1) := by decide +kernel
theorem dX1_process_43 : decode cX1_process 43 = .ok (.if_icmp .ne 7, 3) := by decide +kernel
theorem dX1_process_46 : decode cX1_process 46 = .ok (.iconst 1, 1) := by decide +kernel
theorem dX1_process_47 : decode cX1_process 47 = .ok (.goto 4, 3) := by decide +kernel
theorem dX1_process_50 : decode cX1_process 50 = .ok (.iconst 0, 1) := by decide +kernel
theorem dX1_process_51 : decode cX1_process 51 = .ok (.istore 4, 2) := by decide +kernel
theorem dX1_process_53 : decode cX1_process 53 = .ok (.iload_n 2, 1) := by decide +kernel
theorem dX1_process_54 : decode cX1_process 54 = .ok (.sipush 1000, 3) := by decide +kernel
theorem dX1_process_57 : decode cX1_process 57 = .ok (.idiv, 1) := by decide +kernel
theorem dX1_process_58 : decode cX1_process 58 = .ok (.istore 5, 2) := by decide +kernel
theorem dX1_process_60 : decode cX1_process 60 = .ok (.iload 4, 2) := by decide +kernel
theorem dX1_process_62 : decode cX1_process 62 = .ok (.ifCond .eq 13, 3) := by decide +kernel
theorem dX1_process_65 : decode cX1_process 65 = .ok (.iload_n 2, 1) := by decide +kernel
theorem dX1_process_66 : decode cX1_process 66 = .ok (.bipush 100, 2) := by decide +kernel
theorem dX1_process_68 : decode cX1_process 68 = .ok (.idiv, 1) := by decide +kernel
theorem dX1_process_69 : decode cX1_process 69 = .ok (.bipush 10, 2) := by decide +kernel
theorem dX1_process_71 : decode cX1_process 71 = .ok (.irem, 1) := by decide +kernel
theorem dX1_process_72 : decode cX1_process 72 = .ok (.goto 4, 3) := by decide +kernel
theorem dX1_process_75 : decode cX1_process 75 = .ok (.iconst (-1), 1) := by decide +kernel
theorem dX1_process_76 : decode cX1_process 76 = .ok (.istore 6, 2) := by decide +kernel
theorem dX1_process_78 : decode cX1_process 78 = .ok (.iload_n 2, 1) := by decide +kernel
theorem dX1_process_79 : decode cX1_process 79 = .ok (.bipush 10, 2) := by decide +kernel
theorem dX1_process_81 : decode cX1_process 81 = .ok (.idiv, 1) := by decide +kernel
theorem dX1_process_82 : decode cX1_process 82 = .ok (.bipush 10, 2) := by decide +kernel
theorem dX1_process_84 : decode cX1_process 84 = .ok (.irem, 1) := by decide +kernel
theorem dX1_process_85 : decode cX1_process 85 = .ok (.istore 7, 2) := by decide +kernel
theorem dX1_process_87 : decode cX1_process 87 = .ok (.iload_n 1, 1) := by decide +kernel
theorem dX1_process_88 : decode cX1_process 88 = .ok (.iconst 1, 1) := by decide +kernel
theorem dX1_process_89 : decode cX1_process 89 = .ok (.if_icmp .ne 10, 3) := by decide +kernel
theorem dX1_process_92 : decode cX1_process 92 = .ok (.iload_n 2, 1) := by decide +kernel
theorem dX1_process_93 : decode cX1_process 93 = .ok (.bipush 10, 2) := by decide +kernel
theorem dX1_process_95 : decode cX1_process 95 = .ok (.irem, 1) := by decide +kernel
theorem dX1_process_96 : decode cX1_process 96 = .ok (.goto 4, 3) := by decide +kernel
theorem dX1_process_99 : decode cX1_process 99 = .ok (.iconst (-1), 1) := by decide +kernel
theorem dX1_process_100 : decode cX1_process 100 = .ok (.istore 8, 2) := by decide +kernel
theorem dX1_process_102 : decode cX1_process 102 = .ok (.aload_n 0, 1) := by decide +kernel
theorem dX1_process_103 : decode cX1_process 103 = .ok (.iload 5, 2) := by decide +kernel
theorem dX1_process_105 : decode cX1_process 105 = .ok (.invokevirtual 65, 3) := by decide +kernel
theorem dX1_process_108 : decode cX1_process 108 = .ok (.ifCond .ne 44, 3) := by decide +kernel
theorem dX1_process_111 : decode cX1_process 111 = .ok (.aload_n 0, 1) := by decide +kernel
theorem dX1_process_112 : decode cX1_process 112 = .ok (.iload 6, 2) := by decide +kernel
theorem dX1_process_114 : decode cX1_process 114 = .ok (.invokevirtual 65, 3) := by decide +kernel
theorem dX1_process_117 : decode cX1_process 117 = .ok (.ifCond .ne 35, 3) := by decide +kernel
theorem dX1_process_120 : decode cX1_process 120 = .ok (.aload_n 0, 1) := by decide +kernel
theorem dX1_process_121 : decode cX1_process 121 = .ok (.iload 7, 2) := by decide +kernel
theorem dX1_process_123 : decode cX1_process 123 = .ok (.invokevirtual 57, 3) := by decide +kernel
theorem dX1_process_126 : decode cX1_process 126 = .ok (.ifCond .ne 26, 3) := by decide +kernel
theorem dX1_process_129 : decode cX1_process 129 = .ok (.aload_n 0, 1) := by decide +kernel
theorem dX1_process_130 : decode cX1_process 130 = .ok (.iload 8, 2) := by decide +kernel
theorem dX1_process_132 : decode cX1_process 132 = .ok (.invokevirtual 57, 3) := by decide +kernel
theorem dX1_process_135 : decode cX1_process 135 = .ok (.ifCond .ne 17, 3) := by decide +kernel
theorem dX1_process_138 : decode cX1_process 138 = .ok (.iload 5, 2) := by decide +kernel
theorem dX1_process_140 : decode cX1_process 140 = .ok (.iload 6, 2) := by decide +kernel
theorem dX1_process_142 : decode cX1_process 142 = .ok (.if_icmp .eq 10, 3) := by decide +kernel
theorem dX1_process_145 : decode cX1_process 145 = .ok (.iload 7, 2) := by decide +kernel
theorem dX1_process_147 : decode cX1_process 147 = .ok (.iload 8, 2) := by decide +kernel
theorem dX1_process_149 : decode cX1_process 149 = .ok (.if_icmp .ne 6, 3) := by decide +kernel
theorem dX1_process_152 : decode cX1_process 152 = .ok (.bipush (-3), 2) := by decide +kernel
theorem dX1_process_154 : decode cX1_process 154 = .ok (.ireturn, 1) := by decide +kernel
theorem dX1_process_155 : decode cX1_process 155 = .ok (.aload_n 0, 1) := by decide +kernel
theorem dX1_process_156 : decode cX1_process 156 = .ok (.iload_n 1, 1) := by decide +kernel
theorem dX1_process_157 : decode cX1_process 157 = .ok (.iload 5, 2) := by decide +kernel
theorem dX1_process_159 : decode cX1_process 159 = .ok (.iload 6, 2) := by decide +kernel
theorem dX1_process_161 : decode cX1_process 161 = .ok (.iload 7, 2) := by decide +kernel
theorem dX1_process_163 : decode cX1_process 163 = .ok (.iload 8, 2) := by decide +kernel
theorem dX1_process_165 : decode cX1_process 165 = .ok (.invokevirtual 61, 3) := by decide +kernel
theorem dX1_process_168 : decode cX1_process 168 = .ok (.istore 9, 2) := by decide +kernel
theorem dX1_process_170 : decode cX1_process 170 = .ok (.aload_n 0, 1) := by decide +kernel
theorem dX1_process_171 : decode cX1_process 171 = .ok (.getfield 25, 3) := by decide +kernel
theorem dX1_process_174 : decode cX1_process 174 = .ok (.iload 9, 2) := by decide +kernel
theorem dX1_process_176 : decode cX1_process 176 = .ok (.iload_n 3, 1) := by decide +kernel
theorem dX1_process_177 : decode cX1_process 177 = .ok (.iastore, 1) := by decide +kernel
theorem dX1_process_178 : decode cX1_process 178 = .ok (.iload 9, 2) := by decide +kernel
theorem dX1_process_180 : decode cX1_process 180 = .ok (.ireturn, 1) := by decide +kernel
theorem dX1_isRead_0 : decode cX1_isRead 0 = .ok (.iload_n 1, 1) := by decide +kernel
theorem dX1_isRead_1 : decode cX1_isRead 1 = .ok (.ifCond .ge 5, 3) := by decide +kernel
theorem dX1_isRead_4 : decode cX1_isRead 4 = .ok (.iconst 0, 1) := by decide +kernel
theorem dX1_isRead_5 : decode cX1_isRead 5 = .ok (.ireturn, 1) := by decide +kernel
theorem dX1_isRead_6 : decode cX1_isRead 6 = .ok (.iconst 0, 1) := by decide +kernel
theorem dX1_isRead_7 : decode cX1_isRead 7 = .ok (.istore_n 2, 1) := by decide +kernel
theorem dX1_isRead_8 : decode cX1_isRead 8 = .ok (.iload_n 2, 1) := by decide +kernel
theorem dX1_isRead_9 : decode cX1_isRead 9 = .ok (.aload_n 0, 1) := by decide +kernel
theorem dX1_isRead_10 : decode cX1_isRead 10 = .ok (.getfield 54, 3) := by decide +kernel
theorem dX1_isRead_13 : decode cX1_isRead 13 = .ok (.if_icmp .ge 31, 3) := by decide +kernel
theorem dX1_isRead_16 : decode cX1_isRead 16 = .ok (.aload_n 0, 1) := by decide +kernel
theorem dX1_isRead_17 : decode cX1_isRead 17 = .ok (.getfield 13, 3) := by decide +kernel
theorem dX1_isRead_20 : decode cX1_isRead 20 = .ok (.iload_n 2, 1) := by decide +kernel
theorem dX1_isRead_21 : decode cX1_isRead 21 = .ok (.baload, 1) := by decide +kernel
theorem dX1_isRead_22 : decode cX1_isRead 22 = .ok (.iload_n 1, 1) := by decide +kernel
theorem dX1_isRead_23 : decode cX1_isRead 23 = .ok (.if_icmp .eq 13, 3) := by decide +kernel
theorem dX1_isRead_26 : decode cX1_isRead 26 = .ok (.aload_n 0, 1) := by decide +kernel
theorem dX1_isRead_27 : decode cX1_isRead 27 = .ok (.getfield 16, 3) := by decide +kernel
theorem dX1_isRead_30 : decode cX1_isRead 30 = .ok (.iload_n 2, 1) := by decide +kernel
theorem dX1_isRead_31 : decode cX1_isRead 31 = .ok (.baload, 1) := by decide +kernel
theorem dX1_isRead_32 : decode cX1_isRead 32 = .ok (.iload_n 1, 1) := by decide +kernel
theorem dX1_isRead_33 : decode cX1_isRead 33 = .ok (.if_icmp .ne 5, 3) := by decide +kernel
theorem dX1_isRead_36 : decode cX1_isRead 36 = .ok (.iconst 1, 1) := by decide +kernel
theorem dX1_isRead_37 : decode cX1_isRead 37 = .ok (.ireturn, 1) := by decide +kernel
theorem dX1_isRead_38 : decode cX1_isRead 38 = .ok (.iinc 2 1, 3) := by decide +kernel
theorem dX1_isRead_41 : decode cX1_isRead 41 = .ok (.goto (-33), 3) := by decide +kernel
theorem dX1_isRead_44 : decode cX1_isRead 44 = .ok (.iconst 0, 1) := by decide +kernel
theorem dX1_isRead_45 : decode cX1_isRead 45 = .ok (.ireturn, 1) := by decide +kernel
theorem dX1_clear_0 : decode cX1_clear 0 = .ok (.aload_n 0, 1) := by decide +kernel
theorem dX1_clear_1 : decode cX1_clear 1 = .ok (.getfield 54, 3) := by decide +kernel
theorem dX1_clear_4 : decode cX1_clear 4 = .ok (.istore_n 1, 1) := by decide +kernel
theorem dX1_clear_5 : decode cX1_clear 5 = .ok (.aload_n 0, 1) := by decide +kernel
theorem dX1_clear_6 : decode cX1_clear 6 = .ok (.iconst 0, 1) := by decide +kernel
theorem dX1_clear_7 : decode cX1_clear 7 = .ok (.putfield 54, 3) := by decide +kernel
theorem dX1_clear_10 : decode cX1_clear 10 = .ok (.aload_n 0, 1) := by decide +kernel
theorem dX1_clear_11 : decode cX1_clear 11 = .ok (.iconst 0, 1) := by decide +kernel
theorem dX1_clear_12 : decode cX1_clear 12 = .ok (.putfield 68, 3) := by decide +kernel
theorem dX1_clear_15 : decode cX1_clear 15 = .ok (.iload_n 1, 1) := by decide +kernel
theorem dX1_clear_16 : decode cX1_clear 16 = .ok (.ireturn, 1) := by decide +kernel
theorem dX1_length_0 : decode cX1_length 0 = .ok (.iload_n 1, 1) := by decide +kernel
theorem dX1_length_1 : decode cX1_length 1 = .ok (.ifCond .lt 9, 3) := by decide +kernel
theorem dX1_length_4 : decode cX1_length 4 = .ok (.iload_n 1, 1) := by decide +kernel
theorem dX1_length_5 : decode cX1_length 5 = .ok (.bipush 9, 2) := by decide +kernel
theorem dX1_length_7 : decode cX1_length 7 = .ok (.if_icmp .le 5, 3) := by decide +kernel
theorem dX1_length_10 : decode cX1_length 10 = .ok (.iconst (-1), 1) := by decide +kernel
theorem dX1_length_11 : decode cX1_length 11 = .ok (.ireturn, 1) := by decide +kernel
theorem dX1_length_12 : decode cX1_length 12 = .ok (.aload_n 0, 1) := by decide +kernel
theorem dX1_length_13 : decode cX1_length 13 = .ok (.invokevirtual 72, 3) := by decide +kernel
theorem dX1_length_16 : decode cX1_length 16 = .ok (.aload_n 0, 1) := by decide +kernel
theorem dX1_length_17 : decode cX1_length 17 = .ok (.getfield 35, 3) := by decide +kernel
theorem dX1_length_20 : decode cX1_length 20 = .ok (.iload_n 1, 1) := by decide +kernel
theorem dX1_length_21 : decode cX1_length 21 = .ok (.baload, 1) := by decide +kernel
theorem dX1_length_22 : decode cX1_length 22 = .ok (.ireturn, 1) := by decide +kernel
theorem dX1_runAll_0 : decode cX1_runAll 0 = .ok (.aload_n 0, 1) := by decide +kernel
theorem dX1_runAll_1 : decode cX1_runAll 1 = .ok (.getfield 68, 3) := by decide +kernel
theorem dX1_runAll_4 : decode cX1_runAll 4 = .ok (.ifCond .eq 4, 3) := by decide +kernel
theorem dX1_runAll_7 : decode cX1_runAll 7 = .ok (.return_, 1) := by decide +kernel
theorem dX1_runAll_8 : decode cX1_runAll 8 = .ok (.aload_n 0, 1) := by decide +kernel
theorem dX1_runAll_9 : decode cX1_runAll 9 = .ok (.iconst 1, 1) := by decide +kernel
theorem dX1_runAll_10 : decode cX1_runAll 10 = .ok (.putfield 68, 3) := by decide +kernel
theorem dX1_runAll_13 : decode cX1_runAll 13 = .ok (.iconst 0, 1) := by decide +kernel
theorem dX1_runAll_14 : decode cX1_runAll 14 = .ok (.istore_n 1, 1) := by decide +kernel
theorem dX1_runAll_15 : decode cX1_runAll 15 = .ok (.iload_n 1, 1) := by decide +kernel
theorem dX1_runAll_16 : decode cX1_runAll 16 = .ok (.bipush 10, 2) := by decide +kernel
theorem dX1_runAll_18 : decode cX1_runAll 18 = .ok (.if_icmp .ge 34, 3) := by decide +kernel
theorem dX1_runAll_21 : decode cX1_runAll 21 = .ok (.aload_n 0, 1) := by decide +kernel
theorem dX1_runAll_22 : decode cX1_runAll 22 = .ok (.getfield 35, 3) := by decide +kernel
theorem dX1_runAll_25 : decode cX1_runAll 25 = .ok (.iload_n 1, 1) := by decide +kernel
theorem dX1_runAll_26 : decode cX1_runAll 26 = .ok (.iconst 0, 1) := by decide +kernel
theorem dX1_runAll_27 : decode cX1_runAll 27 = .ok (.bastore, 1) := by decide +kernel
theorem dX1_runAll_28 : decode cX1_runAll 28 = .ok (.aload_n 0, 1) := by decide +kernel
theorem dX1_runAll_29 : decode cX1_runAll 29 = .ok (.getfield 38, 3) := by decide +kernel
theorem dX1_runAll_32 : decode cX1_runAll 32 = .ok (.iload_n 1, 1) := by decide +kernel
theorem dX1_runAll_33 : decode cX1_runAll 33 = .ok (.iconst 0, 1) := by decide +kernel
theorem dX1_runAll_34 : decode cX1_runAll 34 = .ok (.bastore, 1) := by decide +kernel
theorem dX1_runAll_35 : decode cX1_runAll 35 = .ok (.aload_n 0, 1) := by decide +kernel
theorem dX1_runAll_36 : decode cX1_runAll 36 = .ok (.getfield 41, 3) := by decide +kernel
theorem dX1_runAll_39 : decode cX1_runAll 39 = .ok (.iload_n 1, 1) := by decide +kernel
theorem dX1_runAll_40 : decode cX1_runAll 40 = .ok (.aload_n 0, 1) := by decide +kernel
theorem dX1_runAll_41 : decode cX1_runAll 41 = .ok (.getfield 50, 3) := by decide +kernel
theorem dX1_runAll_44 : decode cX1_runAll 44 = .ok (.i2b, 1) := by decide +kernel
theorem dX1_runAll_45 : decode cX1_runAll 45 = .ok (.bastore, 1) := by decide +kernel
theorem dX1_runAll_46 : decode cX1_runAll 46 = .ok (.iinc 1 1, 3) := by decide +kernel
theorem dX1_runAll_49 : decode cX1_runAll 49 = .ok (.goto (-34), 3) := by decide +kernel
theorem dX1_runAll_52 : decode cX1_runAll 52 = .ok (.iconst 0, 1) := by decide +kernel
theorem dX1_runAll_53 : decode cX1_runAll 53 = .ok (.istore_n 1, 1) := by decide +kernel
theorem dX1_runAll_54 : decode cX1_runAll 54 = .ok (.iload_n 1, 1) := by decide +kernel
theorem dX1_runAll_55 : decode cX1_runAll 55 = .ok (.aload_n 0, 1) := by decide +kernel
theorem dX1_runAll_56 : decode cX1_runAll 56 = .ok (.getfield 54, 3) := by decide +kernel
theorem dX1_runAll_59 : decode cX1_runAll 59 = .ok (.if_icmp .ge 47, 3) := by decide +kernel
theorem dX1_runAll_62 : decode cX1_runAll 62 = .ok (.aload_n 0, 1) := by decide +kernel
theorem dX1_runAll_63 : decode cX1_runAll 63 = .ok (.getfield 44, 3) := by decide +kernel
theorem dX1_runAll_66 : decode cX1_runAll 66 = .ok (.iload_n 1, 1) := by decide +kernel
theorem dX1_runAll_67 : decode cX1_runAll 67 = .ok (.iconst 0, 1) := by decide +kernel
theorem dX1_runAll_68 : decode cX1_runAll 68 = .ok (.iastore, 1) := by decide +kernel
theorem dX1_runAll_69 : decode cX1_runAll 69 = .ok (.aload_n 0, 1) := by decide +kernel
theorem dX1_runAll_70 : decode cX1_runAll 70 = .ok (.getfield 7, 3) := by decide +kernel
theorem dX1_runAll_73 : decode cX1_runAll 73 = .ok (.iload_n 1, 1) := by decide +kernel
theorem dX1_runAll_74 : decode cX1_runAll 74 = .ok (.baload, 1) := by decide +kernel
theorem dX1_runAll_75 : decode cX1_runAll 75 = .ok (.ifCond .eq 13, 3) := by decide +kernel
theorem dX1_runAll_78 : decode cX1_runAll 78 = .ok (.aload_n 0, 1) := by decide +kernel
theorem dX1_runAll_79 : decode cX1_runAll 79 = .ok (.getfield 47, 3) := by decide +kernel
theorem dX1_runAll_82 : decode cX1_runAll 82 = .ok (.iload_n 1, 1) := by decide +kernel
theorem dX1_runAll_83 : decode cX1_runAll 83 = .ok (.iconst 0, 1) := by decide +kernel
theorem dX1_runAll_84 : decode cX1_runAll 84 = .ok (.bastore, 1) := by decide +kernel
theorem dX1_runAll_85 : decode cX1_runAll 85 = .ok (.goto 15, 3) := by decide +kernel
theorem dX1_runAll_88 : decode cX1_runAll 88 = .ok (.aload_n 0, 1) := by decide +kernel
theorem dX1_runAll_89 : decode cX1_runAll 89 = .ok (.getfield 44, 3) := by decide +kernel
theorem dX1_runAll_92 : decode cX1_runAll 92 = .ok (.iload_n 1, 1) := by decide +kernel
theorem dX1_runAll_93 : decode cX1_runAll 93 = .ok (.aload_n 0, 1) := by decide +kernel
theorem dX1_runAll_94 : decode cX1_runAll 94 = .ok (.getfield 47, 3) := by decide +kernel
theorem dX1_runAll_97 : decode cX1_runAll 97 = .ok (.iload_n 1, 1) := by decide +kernel
theorem dX1_runAll_98 : decode cX1_runAll 98 = .ok (.baload, 1) := by decide +kernel
theorem dX1_runAll_99 : decode cX1_runAll 99 = .ok (.iastore, 1) := by decide +kernel
theorem dX1_runAll_100 : decode cX1_runAll 100 = .ok (.iinc 1 1, 3) := by decide +kernel
theorem dX1_runAll_103 : decode cX1_runAll 103 = .ok (.goto (-49), 3) := by decide +kernel
theorem dX1_runAll_106 : decode cX1_runAll 106 = .ok (.iconst 1, 1) := by decide +kernel
theorem dX1_runAll_107 : decode cX1_runAll 107 = .ok (.istore_n 1, 1) := by decide +kernel
theorem dX1_runAll_108 : decode cX1_runAll 108 = .ok (.iload_n 1, 1) := by decide +kernel
theorem dX1_runAll_109 : decode cX1_runAll 109 = .ok (.ifCond .eq 43, 3) := by decide +kernel
theorem dX1_runAll_112 : decode cX1_runAll 112 = .ok (.iconst 0, 1) := by decide +kernel
theorem dX1_runAll_113 : decode cX1_runAll 113 = .ok (.istore_n 1, 1) := by decide +kernel
theorem dX1_runAll_114 : decode cX1_runAll 114 = .ok (.iconst 0, 1) := by decide +kernel
theorem dX1_runAll_115 : decode cX1_runAll 115 = .ok (.istore_n 2, 1) := by decide +kernel
theorem dX1_runAll_116 : decode cX1_runAll 116 = .ok (.iload_n 2, 1) := by decide +kernel
theorem dX1_runAll_117 : decode cX1_runAll 117 = .ok (.aload_n 0, 1) := by decide +kernel
theorem dX1_runAll_118 : decode cX1_runAll 118 = .ok (.getfield 54, 3) := by decide +kernel
theorem dX1_runAll_121 : decode cX1_runAll 121 = .ok (.if_icmp .ge 19, 3) := by decide +kernel
theorem dX1_runAll_124 : decode cX1_runAll 124 = .ok (.aload_n 0, 1) := by decide +kernel
theorem dX1_runAll_125 : decode cX1_runAll 125 = .ok (.iload_n 2, 1) := by decide +kernel
theorem dX1_runAll_126 : decode cX1_runAll 126 = .ok (.invokevirtual 82, 3) := by decide +kernel
theorem dX1_runAll_129 : decode cX1_runAll 129 = .ok (.ifCond .eq 5, 3) := by decide +kernel
theorem dX1_runAll_132 : decode cX1_runAll 132 = .ok (.iconst 1, 1) := by decide +kernel
theorem dX1_runAll_133 : decode cX1_runAll 133 = .ok (.istore_n 1, 1) := by decide +kernel
theorem dX1_runAll_134 : decode cX1_runAll 134 = .ok (.iinc 2 1, 3) := by decide +kernel
theorem dX1_runAll_137 : decode cX1_runAll 137 = .ok (.goto (-21), 3) := by decide +kernel
theorem dX1_runAll_140 : decode cX1_runAll 140 = .ok (.iload_n 1, 1) := by decide +kernel
theorem dX1_runAll_141 : decode cX1_runAll 141 = .ok (.ifCond .ne (-33), 3) := by decide +kernel
theorem dX1_runAll_144 : decode cX1_runAll 144 = .ok (.aload_n 0, 1) := by decide +kernel
theorem dX1_runAll_145 : decode cX1_runAll 145 = .ok (.invokevirtual 85, 3) := by decide +kernel
theorem dX1_runAll_148 : decode cX1_runAll 148 = .ok (.istore_n 1, 1) := by decide +kernel
theorem dX1_runAll_149 : decode cX1_runAll 149 = .ok (.goto (-41), 3) := by decide +kernel
theorem dX1_runAll_152 : decode cX1_runAll 152 = .ok (.return_, 1) := by decide +kernel
theorem dX1_step_0 : decode cX1_step 0 = .ok (.aload_n 0, 1) := by decide +kernel
theorem dX1_step_1 : decode cX1_step 1 = .ok (.iload_n 1, 1) := by decide +kernel
theorem dX1_step_2 : decode cX1_step 2 = .ok (.invokevirtual 89, 3) := by decide +kernel
theorem dX1_step_5 : decode cX1_step 5 = .ok (.ifCond .eq 16, 3) := by decide +kernel
theorem dX1_step_8 : decode cX1_step 8 = .ok (.aload_n 0, 1) := by decide +kernel
theorem dX1_step_9 : decode cX1_step 9 = .ok (.aload_n 0, 1) := by decide +kernel
theorem dX1_step_10 : decode cX1_step 10 = .ok (.getfield 19, 3) := by decide +kernel
theorem dX1_step_13 : decode cX1_step 13 = .ok (.iload_n 1, 1) := by decide +kernel
theorem dX1_step_14 : decode cX1_step 14 = .ok (.baload, 1) := by decide +kernel
theorem dX1_step_15 : decode cX1_step 15 = .ok (.invokevirtual 99, 3) := by decide +kernel
theorem dX1_step_18 : decode cX1_step 18 = .ok (.ifCond .ne 5, 3) := by decide +kernel
theorem dX1_step_21 : decode cX1_step 21 = .ok (.iconst 0, 1) := by decide +kernel
theorem dX1_step_22 : decode cX1_step 22 = .ok (.ireturn, 1) := by decide +kernel
theorem dX1_step_23 : decode cX1_step 23 = .ok (.aload_n 0, 1) := by decide +kernel
theorem dX1_step_24 : decode cX1_step 24 = .ok (.getfield 22, 3) := by decide +kernel
theorem dX1_step_27 : decode cX1_step 27 = .ok (.iload_n 1, 1) := by decide +kernel
theorem dX1_step_28 : decode cX1_step 28 = .ok (.baload, 1) := by decide +kernel
theorem dX1_step_29 : decode cX1_step 29 = .ok (.ifCond .lt 18, 3) := by decide +kernel
theorem dX1_step_32 : decode cX1_step 32 = .ok (.aload_n 0, 1) := by decide +kernel
theorem dX1_step_33 : decode cX1_step 33 = .ok (.aload_n 0, 1) := by decide +kernel
theorem dX1_step_34 : decode cX1_step 34 = .ok (.getfield 22, 3) := by decide +kernel
theorem dX1_step_37 : decode cX1_step 37 = .ok (.iload_n 1, 1) := by decide +kernel
theorem dX1_step_38 : decode cX1_step 38 = .ok (.baload, 1) := by decide +kernel
theorem dX1_step_39 : decode cX1_step 39 = .ok (.invokevirtual 99, 3) := by decide +kernel
theorem dX1_step_42 : decode cX1_step 42 = .ok (.ifCond .ne 5, 3) := by decide +kernel
theorem dX1_step_45 : decode cX1_step 45 = .ok (.iconst 0, 1) := by decide +kernel
theorem dX1_step_46 : decode cX1_step 46 = .ok (.ireturn, 1) := by decide +kernel
theorem dX1_step_47 : decode cX1_step 47 = .ok (.aload_n 0, 1) := by decide +kernel
theorem dX1_step_48 : decode cX1_step 48 = .ok (.getfield 7, 3) := by decide +kernel
theorem dX1_step_51 : decode cX1_step 51 = .ok (.iload_n 1, 1) := by decide +kernel
theorem dX1_step_52 : decode cX1_step 52 = .ok (.baload, 1) := by decide +kernel
theorem dX1_step_53 : decode cX1_step 53 = .ok (.istore_n 2, 1) := by decide +kernel
theorem dX1_step_54 : decode cX1_step 54 = .ok (.aload_n 0, 1) := by decide +kernel
theorem dX1_step_55 : decode cX1_step 55 = .ok (.getfield 19, 3) := by decide +kernel
theorem dX1_step_58 : decode cX1_step 58 = .ok (.iload_n 1, 1) := by decide +kernel
theorem dX1_step_59 : decode cX1_step 59 = .ok (.baload, 1) := by decide +kernel
theorem dX1_step_60 : decode cX1_step 60 = .ok (.istore_n 3, 1) := by decide +kernel
theorem dX1_step_61 : decode cX1_step 61 = .ok (.iload_n 2, 1) := by decide +kernel
theorem dX1_step_62 : decode cX1_step 62 = .ok (.ifCond .ne 52, 3) := by decide +kernel
theorem dX1_step_65 : decode cX1_step 65 = .ok (.aload_n 0, 1) := by decide +kernel
theorem dX1_step_66 : decode cX1_step 66 = .ok (.getfield 47, 3) := by decide +kernel
theorem dX1_step_69 : decode cX1_step 69 = .ok (.iload_n 1, 1) := by decide +kernel
theorem dX1_step_70 : decode cX1_step 70 = .ok (.baload, 1) := by decide +kernel
theorem dX1_step_71 : decode cX1_step 71 = .ok (.aload_n 0, 1) := by decide +kernel
theorem dX1_step_72 : decode cX1_step 72 = .ok (.getfield 44, 3) := by decide +kernel
theorem dX1_step_75 : decode cX1_step 75 = .ok (.iload_n 1, 1) := by decide +kernel
theorem dX1_step_76 : decode cX1_step 76 = .ok (.iaload, 1) := by decide +kernel
theorem dX1_step_77 : decode cX1_step 77 = .ok (.isub, 1) := by decide +kernel
theorem dX1_step_78 : decode cX1_step 78 = .ok (.istore 4, 2) := by decide +kernel
theorem dX1_step_80 : decode cX1_step 80 = .ok (.aload_n 0, 1) := by decide +kernel
theorem dX1_step_81 : decode cX1_step 81 = .ok (.getfield 44, 3) := by decide +kernel
theorem dX1_step_84 : decode cX1_step 84 = .ok (.iload_n 1, 1) := by decide +kernel
theorem dX1_step_85 : decode cX1_step 85 = .ok (.dup2, 1) := by decide +kernel
theorem dX1_step_86 : decode cX1_step 86 = .ok (.iaload, 1) := by decide +kernel
theorem dX1_step_87 : decode cX1_step 87 = .ok (.iconst 1, 1) := by decide +kernel
theorem dX1_step_88 : decode cX1_step 88 = .ok (.isub, 1) := by decide +kernel
theorem dX1_step_89 : decode cX1_step 89 = .ok (.iastore, 1) := by decide +kernel
theorem dX1_step_90 : decode cX1_step 90 = .ok (.aload_n 0, 1) := by decide +kernel
theorem dX1_step_91 : decode cX1_step 91 = .ok (.iload_n 3, 1) := by decide +kernel
theorem dX1_step_92 : decode cX1_step 92 = .ok (.aload_n 0, 1) := by decide +kernel
theorem dX1_step_93 : decode cX1_step 93 = .ok (.getfield 25, 3) := by decide +kernel
theorem dX1_step_96 : decode cX1_step 96 = .ok (.iload_n 1, 1) := by decide +kernel
theorem dX1_step_97 : decode cX1_step 97 = .ok (.iaload, 1) := by decide +kernel
theorem dX1_step_98 : decode cX1_step 98 = .ok (.iload 4, 2) := by decide +kernel
theorem dX1_step_100 : decode cX1_step 100 = .ok (.aload_n 0, 1) := by decide +kernel
theorem dX1_step_101 : decode cX1_step 101 = .ok (.getfield 29, 3) := by decide +kernel
theorem dX1_step_104 : decode cX1_step 104 = .ok (.iload_n 1, 1) := by decide +kernel
theorem dX1_step_105 : decode cX1_step 105 = .ok (.iaload, 1) := by decide +kernel
theorem dX1_step_106 : decode cX1_step 106 = .ok (.imul, 1) := by decide +kernel
theorem dX1_step_107 : decode cX1_step 107 = .ok (.iadd, 1) := by decide +kernel
theorem dX1_step_108 : decode cX1_step 108 = .ok (.invokevirtual 102, 3) := by decide +kernel
theorem dX1_step_111 : decode cX1_step 111 = .ok (.goto 170, 3) := by decide +kernel
theorem dX1_step_114 : decode cX1_step 114 = .ok (.iload_n 2, 1) := by decide +kernel
theorem dX1_step_115 : decode cX1_step 115 = .ok (.iconst 3, 1) := by decide +kernel
theorem dX1_step_116 : decode cX1_step 116 = .ok (.if_icmp .ne 33, 3) := by decide +kernel
theorem dX1_step_119 : decode cX1_step 119 = .ok (.aload_n 0, 1) := by decide +kernel
theorem dX1_step_120 : decode cX1_step 120 = .ok (.getfield 47, 3) := by decide +kernel
theorem dX1_step_123 : decode cX1_step 123 = .ok (.iload_n 1, 1) := by decide +kernel
theorem dX1_step_124 : decode cX1_step 124 = .ok (.baload, 1) := by decide +kernel
theorem dX1_step_125 : decode cX1_step 125 = .ok (.ifCond .ne 24, 3) := by decide +kernel
theorem dX1_step_128 : decode cX1_step 128 = .ok (.aload_n 0, 1) := by decide +kernel
theorem dX1_step_129 : decode cX1_step 129 = .ok (.getfield 47, 3) := by decide +kernel
theorem dX1_step_132 : decode cX1_step 132 = .ok (.iload_n 1, 1) := by decide +kernel
theorem dX1_step_133 : decode cX1_step 133 = .ok (.iconst 1, 1) := by decide +kernel
end
section
set_option maxRecDepth 100000
theorem dX1_step_134 : decode cX1_step 134 = .ok (.bastore, 1) := by decide +kernel
theorem dX1_step_135 : decode cX1_step 135 = .ok (.aload_n 0, 1) := by decide +kernel
theorem dX1_step_136 : decode cX1_step 136 = .ok (.iload_n 3, 1) := by decide +kernel
theorem dX1_step_137 : decode cX1_step 137 = .ok (.aload_n 0, 1) := by decide +kernel
theorem dX1_step_138 : decode cX1_step 138 = .ok (.getfield 25, 3) := by decide +kernel
theorem dX1_step_141 : decode cX1_step 141 = .ok (.iload_n 1, 1) := by decide +kernel
theorem dX1_step_142 : decode cX1_step 142 = .ok (.iaload, 1) := by decide +kernel
theorem dX1_step_143 : decode cX1_step 143 = .ok (.invokevirtual 102, 3) := by decide +kernel
theorem dX1_step_146 : decode cX1_step 146 = .ok (.goto 135, 3) := by decide +kernel
theorem dX1_step_149 : decode cX1_step 149 = .ok (.iload_n 2, 1) := by decide +kernel
theorem dX1_step_150 : decode cX1_step 150 = .ok (.iconst 2, 1) := by decide +kernel
theorem dX1_step_151 : decode cX1_step 151 = .ok (.if_icmp .ne 40, 3) := by decide +kernel
theorem dX1_step_154 : decode cX1_step 154 = .ok (.aload_n 0, 1) := by decide +kernel
theorem dX1_step_155 : decode cX1_step 155 = .ok (.aload_n 0, 1) := by decide +kernel
theorem dX1_step_156 : decode cX1_step 156 = .ok (.getfield 13, 3) := by decide +kernel
theorem dX1_step_159 : decode cX1_step 159 = .ok (.iload_n 1, 1) := by decide +kernel
theorem dX1_step_160 : decode cX1_step 160 = .ok (.baload, 1) := by decide +kernel
theorem dX1_step_161 : decode cX1_step 161 = .ok (.invokevirtual 106, 3) := by decide +kernel
theorem dX1_step_164 : decode cX1_step 164 = .ok (.istore 4, 2) := by decide +kernel
theorem dX1_step_166 : decode cX1_step 166 = .ok (.aload_n 0, 1) := by decide +kernel
theorem dX1_step_167 : decode cX1_step 167 = .ok (.aload_n 0, 1) := by decide +kernel
theorem dX1_step_168 : decode cX1_step 168 = .ok (.getfield 16, 3) := by decide +kernel
theorem dX1_step_171 : decode cX1_step 171 = .ok (.iload_n 1, 1) := by decide +kernel
theorem dX1_step_172 : decode cX1_step 172 = .ok (.baload, 1) := by decide +kernel
theorem dX1_step_173 : decode cX1_step 173 = .ok (.invokevirtual 106, 3) := by decide +kernel
theorem dX1_step_176 : decode cX1_step 176 = .ok (.istore 5, 2) := by decide +kernel
theorem dX1_step_178 : decode cX1_step 178 = .ok (.aload_n 0, 1) := by decide +kernel
theorem dX1_step_179 : decode cX1_step 179 = .ok (.iload_n 3, 1) := by decide +kernel
theorem dX1_step_180 : decode cX1_step 180 = .ok (.iload 4, 2) := by decide +kernel
theorem dX1_step_182 : decode cX1_step 182 = .ok (.iload 5, 2) := by decide +kernel
theorem dX1_step_184 : decode cX1_step 184 = .ok (.iadd, 1) := by decide +kernel
theorem dX1_step_185 : decode cX1_step 185 = .ok (.invokevirtual 102, 3) := by decide +kernel
theorem dX1_step_188 : decode cX1_step 188 = .ok (.goto 93, 3) := by decide +kernel
theorem dX1_step_191 : decode cX1_step 191 = .ok (.iload_n 2, 1) := by decide +kernel
theorem dX1_step_192 : decode cX1_step 192 = .ok (.iconst 5, 1) := by decide +kernel
theorem dX1_step_193 : decode cX1_step 193 = .ok (.if_icmp .ne 69, 3) := by decide +kernel
theorem dX1_step_196 : decode cX1_step 196 = .ok (.aload_n 0, 1) := by decide +kernel
theorem dX1_step_197 : decode cX1_step 197 = .ok (.aload_n 0, 1) := by decide +kernel
theorem dX1_step_198 : decode cX1_step 198 = .ok (.getfield 13, 3) := by decide +kernel
theorem dX1_step_201 : decode cX1_step 201 = .ok (.iload_n 1, 1) := by decide +kernel
theorem dX1_step_202 : decode cX1_step 202 = .ok (.baload, 1) := by decide +kernel
theorem dX1_step_203 : decode cX1_step 203 = .ok (.invokevirtual 79, 3) := by decide +kernel
theorem dX1_step_206 : decode cX1_step 206 = .ok (.aload_n 0, 1) := by decide +kernel
theorem dX1_step_207 : decode cX1_step 207 = .ok (.aload_n 0, 1) := by decide +kernel
theorem dX1_step_208 : decode cX1_step 208 = .ok (.getfield 16, 3) := by decide +kernel
theorem dX1_step_211 : decode cX1_step 211 = .ok (.iload_n 1, 1) := by decide +kernel
theorem dX1_step_212 : decode cX1_step 212 = .ok (.baload, 1) := by decide +kernel
theorem dX1_step_213 : decode cX1_step 213 = .ok (.invokevirtual 79, 3) := by decide +kernel
theorem dX1_step_216 : decode cX1_step 216 = .ok (.if_icmp .gt 7, 3) := by decide +kernel
theorem dX1_step_219 : decode cX1_step 219 = .ok (.iconst 1, 1) := by decide +kernel
theorem dX1_step_220 : decode cX1_step 220 = .ok (.goto 4, 3) := by decide +kernel
theorem dX1_step_223 : decode cX1_step 223 = .ok (.iconst 0, 1) := by decide +kernel
theorem dX1_step_224 : decode cX1_step 224 = .ok (.istore 4, 2) := by decide +kernel
theorem dX1_step_226 : decode cX1_step 226 = .ok (.aload_n 0, 1) := by decide +kernel
theorem dX1_step_227 : decode cX1_step 227 = .ok (.iload 4, 2) := by decide +kernel
theorem dX1_step_229 : decode cX1_step 229 = .ok (.ifCond .eq 12, 3) := by decide +kernel
theorem dX1_step_232 : decode cX1_step 232 = .ok (.aload_n 0, 1) := by decide +kernel
theorem dX1_step_233 : decode cX1_step 233 = .ok (.getfield 13, 3) := by decide +kernel
theorem dX1_step_236 : decode cX1_step 236 = .ok (.iload_n 1, 1) := by decide +kernel
theorem dX1_step_237 : decode cX1_step 237 = .ok (.baload, 1) := by decide +kernel
theorem dX1_step_238 : decode cX1_step 238 = .ok (.goto 9, 3) := by decide +kernel
theorem dX1_step_241 : decode cX1_step 241 = .ok (.aload_n 0, 1) := by decide +kernel
theorem dX1_step_242 : decode cX1_step 242 = .ok (.getfield 16, 3) := by decide +kernel
theorem dX1_step_245 : decode cX1_step 245 = .ok (.iload_n 1, 1) := by decide +kernel
theorem dX1_step_246 : decode cX1_step 246 = .ok (.baload, 1) := by decide +kernel
theorem dX1_step_247 : decode cX1_step 247 = .ok (.invokevirtual 106, 3) := by decide +kernel
theorem dX1_step_250 : decode cX1_step 250 = .ok (.istore 5, 2) := by decide +kernel
theorem dX1_step_252 : decode cX1_step 252 = .ok (.aload_n 0, 1) := by decide +kernel
theorem dX1_step_253 : decode cX1_step 253 = .ok (.iload_n 3, 1) := by decide +kernel
theorem dX1_step_254 : decode cX1_step 254 = .ok (.iload 5, 2) := by decide +kernel
theorem dX1_step_256 : decode cX1_step 256 = .ok (.invokevirtual 102, 3) := by decide +kernel
theorem dX1_step_259 : decode cX1_step 259 = .ok (.goto 22, 3) := by decide +kernel
theorem dX1_step_262 : decode cX1_step 262 = .ok (.aload_n 0, 1) := by decide +kernel
theorem dX1_step_263 : decode cX1_step 263 = .ok (.aload_n 0, 1) := by decide +kernel
theorem dX1_step_264 : decode cX1_step 264 = .ok (.getfield 13, 3) := by decide +kernel
theorem dX1_step_267 : decode cX1_step 267 = .ok (.iload_n 1, 1) := by decide +kernel
theorem dX1_step_268 : decode cX1_step 268 = .ok (.baload, 1) := by decide +kernel
theorem dX1_step_269 : decode cX1_step 269 = .ok (.invokevirtual 106, 3) := by decide +kernel
theorem dX1_step_272 : decode cX1_step 272 = .ok (.istore 4, 2) := by decide +kernel
theorem dX1_step_274 : decode cX1_step 274 = .ok (.aload_n 0, 1) := by decide +kernel
theorem dX1_step_275 : decode cX1_step 275 = .ok (.iload_n 1, 1) := by decide +kernel
theorem dX1_step_276 : decode cX1_step 276 = .ok (.iload 4, 2) := by decide +kernel
theorem dX1_step_278 : decode cX1_step 278 = .ok (.invokevirtual 109, 3) := by decide +kernel
theorem dX1_step_281 : decode cX1_step 281 = .ok (.iconst 1, 1) := by decide +kernel
theorem dX1_step_282 : decode cX1_step 282 = .ok (.ireturn, 1) := by decide +kernel
theorem dX1_isReady_0 : decode cX1_isReady 0 = .ok (.aload_n 0, 1) := by decide +kernel
theorem dX1_isReady_1 : decode cX1_isReady 1 = .ok (.getfield 7, 3) := by decide +kernel
theorem dX1_isReady_4 : decode cX1_isReady 4 = .ok (.iload_n 1, 1) := by decide +kernel
theorem dX1_isReady_5 : decode cX1_isReady 5 = .ok (.baload, 1) := by decide +kernel
theorem dX1_isReady_6 : decode cX1_isReady 6 = .ok (.istore_n 2, 1) := by decide +kernel
theorem dX1_isReady_7 : decode cX1_isReady 7 = .ok (.aload_n 0, 1) := by decide +kernel
theorem dX1_isReady_8 : decode cX1_isReady 8 = .ok (.aload_n 0, 1) := by decide +kernel
theorem dX1_isReady_9 : decode cX1_isReady 9 = .ok (.getfield 19, 3) := by decide +kernel
theorem dX1_isReady_12 : decode cX1_isReady 12 = .ok (.iload_n 1, 1) := by decide +kernel
theorem dX1_isReady_13 : decode cX1_isReady 13 = .ok (.baload, 1) := by decide +kernel
theorem dX1_isReady_14 : decode cX1_isReady 14 = .ok (.invokevirtual 96, 3) := by decide +kernel
theorem dX1_isReady_17 : decode cX1_isReady 17 = .ok (.ifCond .eq 5, 3) := by decide +kernel
theorem dX1_isReady_20 : decode cX1_isReady 20 = .ok (.iconst 0, 1) := by decide +kernel
theorem dX1_isReady_21 : decode cX1_isReady 21 = .ok (.ireturn, 1) := by decide +kernel
theorem dX1_isReady_22 : decode cX1_isReady 22 = .ok (.iload_n 2, 1) := by decide +kernel
theorem dX1_isReady_23 : decode cX1_isReady 23 = .ok (.ifCond .ne 18, 3) := by decide +kernel
theorem dX1_isReady_26 : decode cX1_isReady 26 = .ok (.aload_n 0, 1) := by decide +kernel
theorem dX1_isReady_27 : decode cX1_isReady 27 = .ok (.getfield 44, 3) := by decide +kernel
theorem dX1_isReady_30 : decode cX1_isReady 30 = .ok (.iload_n 1, 1) := by decide +kernel
theorem dX1_isReady_31 : decode cX1_isReady 31 = .ok (.iaload, 1) := by decide +kernel
theorem dX1_isReady_32 : decode cX1_isReady 32 = .ok (.ifCond .le 7, 3) := by decide +kernel
theorem dX1_isReady_35 : decode cX1_isReady 35 = .ok (.iconst 1, 1) := by decide +kernel
theorem dX1_isReady_36 : decode cX1_isReady 36 = .ok (.goto 4, 3) := by decide +kernel
theorem dX1_isReady_39 : decode cX1_isReady 39 = .ok (.iconst 0, 1) := by decide +kernel
theorem dX1_isReady_40 : decode cX1_isReady 40 = .ok (.ireturn, 1) := by decide +kernel
theorem dX1_isReady_41 : decode cX1_isReady 41 = .ok (.iload_n 2, 1) := by decide +kernel
theorem dX1_isReady_42 : decode cX1_isReady 42 = .ok (.iconst 3, 1) := by decide +kernel
theorem dX1_isReady_43 : decode cX1_isReady 43 = .ok (.if_icmp .ne 14, 3) := by decide +kernel
theorem dX1_isReady_46 : decode cX1_isReady 46 = .ok (.aload_n 0, 1) := by decide +kernel
theorem dX1_isReady_47 : decode cX1_isReady 47 = .ok (.getfield 47, 3) := by decide +kernel
theorem dX1_isReady_50 : decode cX1_isReady 50 = .ok (.iload_n 1, 1) := by decide +kernel
theorem dX1_isReady_51 : decode cX1_isReady 51 = .ok (.baload, 1) := by decide +kernel
theorem dX1_isReady_52 : decode cX1_isReady 52 = .ok (.ifCond .ne 5, 3) := by decide +kernel
theorem dX1_isReady_55 : decode cX1_isReady 55 = .ok (.iconst 1, 1) := by decide +kernel
theorem dX1_isReady_56 : decode cX1_isReady 56 = .ok (.ireturn, 1) := by decide +kernel
theorem dX1_isReady_57 : decode cX1_isReady 57 = .ok (.aload_n 0, 1) := by decide +kernel
theorem dX1_isReady_58 : decode cX1_isReady 58 = .ok (.aload_n 0, 1) := by decide +kernel
theorem dX1_isReady_59 : decode cX1_isReady 59 = .ok (.getfield 13, 3) := by decide +kernel
theorem dX1_isReady_62 : decode cX1_isReady 62 = .ok (.iload_n 1, 1) := by decide +kernel
theorem dX1_isReady_63 : decode cX1_isReady 63 = .ok (.baload, 1) := by decide +kernel
theorem dX1_isReady_64 : decode cX1_isReady 64 = .ok (.invokevirtual 75, 3) := by decide +kernel
theorem dX1_isReady_67 : decode cX1_isReady 67 = .ok (.ifCond .ne 5, 3) := by decide +kernel
theorem dX1_isReady_70 : decode cX1_isReady 70 = .ok (.iconst 0, 1) := by decide +kernel
theorem dX1_isReady_71 : decode cX1_isReady 71 = .ok (.ireturn, 1) := by decide +kernel
theorem dX1_isReady_72 : decode cX1_isReady 72 = .ok (.aload_n 0, 1) := by decide +kernel
theorem dX1_isReady_73 : decode cX1_isReady 73 = .ok (.getfield 16, 3) := by decide +kernel
theorem dX1_isReady_76 : decode cX1_isReady 76 = .ok (.iload_n 1, 1) := by decide +kernel
theorem dX1_isReady_77 : decode cX1_isReady 77 = .ok (.baload, 1) := by decide +kernel
theorem dX1_isReady_78 : decode cX1_isReady 78 = .ok (.ifCond .lt 16, 3) := by decide +kernel
theorem dX1_isReady_81 : decode cX1_isReady 81 = .ok (.aload_n 0, 1) := by decide +kernel
theorem dX1_isReady_82 : decode cX1_isReady 82 = .ok (.aload_n 0, 1) := by decide +kernel
theorem dX1_isReady_83 : decode cX1_isReady 83 = .ok (.getfield 16, 3) := by decide +kernel
theorem dX1_isReady_86 : decode cX1_isReady 86 = .ok (.iload_n 1, 1) := by decide +kernel
theorem dX1_isReady_87 : decode cX1_isReady 87 = .ok (.baload, 1) := by decide +kernel
theorem dX1_isReady_88 : decode cX1_isReady 88 = .ok (.invokevirtual 75, 3) := by decide +kernel
theorem dX1_isReady_91 : decode cX1_isReady 91 = .ok (.ifCond .le 7, 3) := by decide +kernel
theorem dX1_isReady_94 : decode cX1_isReady 94 = .ok (.iconst 1, 1) := by decide +kernel
theorem dX1_isReady_95 : decode cX1_isReady 95 = .ok (.goto 4, 3) := by decide +kernel
theorem dX1_isReady_98 : decode cX1_isReady 98 = .ok (.iconst 0, 1) := by decide +kernel
theorem dX1_isReady_99 : decode cX1_isReady 99 = .ok (.ireturn, 1) := by decide +kernel
theorem dX1_isComplete_0 : decode cX1_isComplete 0 = .ok (.iload_n 1, 1) := by decide +kernel
theorem dX1_isComplete_1 : decode cX1_isComplete 1 = .ok (.ifCond .lt 14, 3) := by decide +kernel
theorem dX1_isComplete_4 : decode cX1_isComplete 4 = .ok (.aload_n 0, 1) := by decide +kernel
theorem dX1_isComplete_5 : decode cX1_isComplete 5 = .ok (.getfield 35, 3) := by decide +kernel
theorem dX1_isComplete_8 : decode cX1_isComplete 8 = .ok (.iload_n 1, 1) := by decide +kernel
theorem dX1_isComplete_9 : decode cX1_isComplete 9 = .ok (.baload, 1) := by decide +kernel
theorem dX1_isComplete_10 : decode cX1_isComplete 10 = .ok (.bipush 20, 2) := by decide +kernel
theorem dX1_isComplete_12 : decode cX1_isComplete 12 = .ok (.if_icmp .lt 7, 3) := by decide +kernel
theorem dX1_isComplete_15 : decode cX1_isComplete 15 = .ok (.iconst 1, 1) := by decide +kernel
theorem dX1_isComplete_16 : decode cX1_isComplete 16 = .ok (.goto 4, 3) := by decide +kernel
theorem dX1_isComplete_19 : decode cX1_isComplete 19 = .ok (.iconst 0, 1) := by decide +kernel
theorem dX1_isComplete_20 : decode cX1_isComplete 20 = .ok (.ireturn, 1) := by decide +kernel
theorem dX1_unread_0 : decode cX1_unread 0 = .ok (.aload_n 0, 1) := by decide +kernel
theorem dX1_unread_1 : decode cX1_unread 1 = .ok (.getfield 35, 3) := by decide +kernel
theorem dX1_unread_4 : decode cX1_unread 4 = .ok (.iload_n 1, 1) := by decide +kernel
theorem dX1_unread_5 : decode cX1_unread 5 = .ok (.baload, 1) := by decide +kernel
theorem dX1_unread_6 : decode cX1_unread 6 = .ok (.aload_n 0, 1) := by decide +kernel
theorem dX1_unread_7 : decode cX1_unread 7 = .ok (.getfield 38, 3) := by decide +kernel
theorem dX1_unread_10 : decode cX1_unread 10 = .ok (.iload_n 1, 1) := by decide +kernel
theorem dX1_unread_11 : decode cX1_unread 11 = .ok (.baload, 1) := by decide +kernel
theorem dX1_unread_12 : decode cX1_unread 12 = .ok (.isub, 1) := by decide +kernel
theorem dX1_unread_13 : decode cX1_unread 13 = .ok (.ireturn, 1) := by decide +kernel
theorem dX1_hasRoom_0 : decode cX1_hasRoom 0 = .ok (.aload_n 0, 1) := by decide +kernel
theorem dX1_hasRoom_1 : decode cX1_hasRoom 1 = .ok (.iload_n 1, 1) := by decide +kernel
theorem dX1_hasRoom_2 : decode cX1_hasRoom 2 = .ok (.invokevirtual 65, 3) := by decide +kernel
theorem dX1_hasRoom_5 : decode cX1_hasRoom 5 = .ok (.ifCond .eq 17, 3) := by decide +kernel
theorem dX1_hasRoom_8 : decode cX1_hasRoom 8 = .ok (.aload_n 0, 1) := by decide +kernel
theorem dX1_hasRoom_9 : decode cX1_hasRoom 9 = .ok (.iload_n 1, 1) := by decide +kernel
theorem dX1_hasRoom_10 : decode cX1_hasRoom 10 = .ok (.invokevirtual 75, 3) := by decide +kernel
theorem dX1_hasRoom_13 : decode cX1_hasRoom 13 = .ok (.aload_n 0, 1) := by decide +kernel
theorem dX1_hasRoom_14 : decode cX1_hasRoom 14 = .ok (.getfield 41, 3) := by decide +kernel
theorem dX1_hasRoom_17 : decode cX1_hasRoom 17 = .ok (.iload_n 1, 1) := by decide +kernel
theorem dX1_hasRoom_18 : decode cX1_hasRoom 18 = .ok (.baload, 1) := by decide +kernel
theorem dX1_hasRoom_19 : decode cX1_hasRoom 19 = .ok (.if_icmp .ge 7, 3) := by decide +kernel
theorem dX1_hasRoom_22 : decode cX1_hasRoom 22 = .ok (.iconst 1, 1) := by decide +kernel
theorem dX1_hasRoom_23 : decode cX1_hasRoom 23 = .ok (.goto 4, 3) := by decide +kernel
theorem dX1_hasRoom_26 : decode cX1_hasRoom 26 = .ok (.iconst 0, 1) := by decide +kernel
theorem dX1_hasRoom_27 : decode cX1_hasRoom 27 = .ok (.ireturn, 1) := by decide +kernel
theorem dX1_put_0 : decode cX1_put 0 = .ok (.aload_n 0, 1) := by decide +kernel
theorem dX1_put_1 : decode cX1_put 1 = .ok (.getfield 32, 3) := by decide +kernel
theorem dX1_put_4 : decode cX1_put 4 = .ok (.bipush 20, 2) := by decide +kernel
theorem dX1_put_6 : decode cX1_put 6 = .ok (.iload_n 1, 1) := by decide +kernel
theorem dX1_put_7 : decode cX1_put 7 = .ok (.imul, 1) := by decide +kernel
theorem dX1_put_8 : decode cX1_put 8 = .ok (.aload_n 0, 1) := by decide +kernel
theorem dX1_put_9 : decode cX1_put 9 = .ok (.getfield 35, 3) := by decide +kernel
theorem dX1_put_12 : decode cX1_put 12 = .ok (.iload_n 1, 1) := by decide +kernel
theorem dX1_put_13 : decode cX1_put 13 = .ok (.baload, 1) := by decide +kernel
theorem dX1_put_14 : decode cX1_put 14 = .ok (.iadd, 1) := by decide +kernel
theorem dX1_put_15 : decode cX1_put 15 = .ok (.iload_n 2, 1) := by decide +kernel
theorem dX1_put_16 : decode cX1_put 16 = .ok (.iastore, 1) := by decide +kernel
theorem dX1_put_17 : decode cX1_put 17 = .ok (.aload_n 0, 1) := by decide +kernel
theorem dX1_put_18 : decode cX1_put 18 = .ok (.getfield 35, 3) := by decide +kernel
theorem dX1_put_21 : decode cX1_put 21 = .ok (.iload_n 1, 1) := by decide +kernel
theorem dX1_put_22 : decode cX1_put 22 = .ok (.dup2, 1) := by decide +kernel
theorem dX1_put_23 : decode cX1_put 23 = .ok (.baload, 1) := by decide +kernel
theorem dX1_put_24 : decode cX1_put 24 = .ok (.iconst 1, 1) := by decide +kernel
theorem dX1_put_25 : decode cX1_put 25 = .ok (.iadd, 1) := by decide +kernel
theorem dX1_put_26 : decode cX1_put 26 = .ok (.i2b, 1) := by decide +kernel
theorem dX1_put_27 : decode cX1_put 27 = .ok (.bastore, 1) := by decide +kernel
theorem dX1_put_28 : decode cX1_put 28 = .ok (.return_, 1) := by decide +kernel
theorem dX1_take_0 : decode cX1_take 0 = .ok (.aload_n 0, 1) := by decide +kernel
theorem dX1_take_1 : decode cX1_take 1 = .ok (.iload_n 1, 1) := by decide +kernel
theorem dX1_take_2 : decode cX1_take 2 = .ok (.invokevirtual 79, 3) := by decide +kernel
theorem dX1_take_5 : decode cX1_take 5 = .ok (.istore_n 2, 1) := by decide +kernel
theorem dX1_take_6 : decode cX1_take 6 = .ok (.aload_n 0, 1) := by decide +kernel
theorem dX1_take_7 : decode cX1_take 7 = .ok (.getfield 38, 3) := by decide +kernel
theorem dX1_take_10 : decode cX1_take 10 = .ok (.iload_n 1, 1) := by decide +kernel
theorem dX1_take_11 : decode cX1_take 11 = .ok (.dup2, 1) := by decide +kernel
theorem dX1_take_12 : decode cX1_take 12 = .ok (.baload, 1) := by decide +kernel
theorem dX1_take_13 : decode cX1_take 13 = .ok (.iconst 1, 1) := by decide +kernel
theorem dX1_take_14 : decode cX1_take 14 = .ok (.iadd, 1) := by decide +kernel
theorem dX1_take_15 : decode cX1_take 15 = .ok (.i2b, 1) := by decide +kernel
theorem dX1_take_16 : decode cX1_take 16 = .ok (.bastore, 1) := by decide +kernel
theorem dX1_take_17 : decode cX1_take 17 = .ok (.iload_n 2, 1) := by decide +kernel
theorem dX1_take_18 : decode cX1_take 18 = .ok (.ireturn, 1) := by decide +kernel
theorem dX1_peek_0 : decode cX1_peek 0 = .ok (.aload_n 0, 1) := by decide +kernel
theorem dX1_peek_1 : decode cX1_peek 1 = .ok (.getfield 32, 3) := by decide +kernel
theorem dX1_peek_4 : decode cX1_peek 4 = .ok (.bipush 20, 2) := by decide +kernel
theorem dX1_peek_6 : decode cX1_peek 6 = .ok (.iload_n 1, 1) := by decide +kernel
theorem dX1_peek_7 : decode cX1_peek 7 = .ok (.imul, 1) := by decide +kernel
theorem dX1_peek_8 : decode cX1_peek 8 = .ok (.aload_n 0, 1) := by decide +kernel
theorem dX1_peek_9 : decode cX1_peek 9 = .ok (.getfield 38, 3) := by decide +kernel
theorem dX1_peek_12 : decode cX1_peek 12 = .ok (.iload_n 1, 1) := by decide +kernel
theorem dX1_peek_13 : decode cX1_peek 13 = .ok (.baload, 1) := by decide +kernel
theorem dX1_peek_14 : decode cX1_peek 14 = .ok (.iadd, 1) := by decide +kernel
theorem dX1_peek_15 : decode cX1_peek 15 = .ok (.iaload, 1) := by decide +kernel
theorem dX1_peek_16 : decode cX1_peek 16 = .ok (.ireturn, 1) := by decide +kernel
theorem dX1_stepOne_0 : decode cX1_stepOne 0 = .ok (.aload_n 0, 1) := by decide +kernel
theorem dX1_stepOne_1 : decode cX1_stepOne 1 = .ok (.getfield 7, 3) := by decide +kernel
theorem dX1_stepOne_4 : decode cX1_stepOne 4 = .ok (.iload_n 1, 1) := by decide +kernel
theorem dX1_stepOne_5 : decode cX1_stepOne 5 = .ok (.baload, 1) := by decide +kernel
theorem dX1_stepOne_6 : decode cX1_stepOne 6 = .ok (.istore_n 3, 1) := by decide +kernel
theorem dX1_stepOne_7 : decode cX1_stepOne 7 = .ok (.aload_n 0, 1) := by decide +kernel
theorem dX1_stepOne_8 : decode cX1_stepOne 8 = .ok (.getfield 19, 3) := by decide +kernel
theorem dX1_stepOne_11 : decode cX1_stepOne 11 = .ok (.iload_n 1, 1) := by decide +kernel
theorem dX1_stepOne_12 : decode cX1_stepOne 12 = .ok (.baload, 1) := by decide +kernel
theorem dX1_stepOne_13 : decode cX1_stepOne 13 = .ok (.istore 4, 2) := by decide +kernel
theorem dX1_stepOne_15 : decode cX1_stepOne 15 = .ok (.iload_n 3, 1) := by decide +kernel
theorem dX1_stepOne_16 : decode cX1_stepOne 16 = .ok (.iconst 1, 1) := by decide +kernel
theorem dX1_stepOne_17 : decode cX1_stepOne 17 = .ok (.if_icmp .ne 24, 3) := by decide +kernel
theorem dX1_stepOne_20 : decode cX1_stepOne 20 = .ok (.aload_n 0, 1) := by decide +kernel
theorem dX1_stepOne_21 : decode cX1_stepOne 21 = .ok (.iload 4, 2) := by decide +kernel
theorem dX1_stepOne_23 : decode cX1_stepOne 23 = .ok (.iload_n 2, 1) := by decide +kernel
theorem dX1_stepOne_24 : decode cX1_stepOne 24 = .ok (.invokevirtual 102, 3) := by decide +kernel
theorem dX1_stepOne_27 : decode cX1_stepOne 27 = .ok (.aload_n 0, 1) := by decide +kernel
theorem dX1_stepOne_28 : decode cX1_stepOne 28 = .ok (.aload_n 0, 1) := by decide +kernel
theorem dX1_stepOne_29 : decode cX1_stepOne 29 = .ok (.getfield 22, 3) := by decide +kernel
theorem dX1_stepOne_32 : decode cX1_stepOne 32 = .ok (.iload_n 1, 1) := by decide +kernel
theorem dX1_stepOne_33 : decode cX1_stepOne 33 = .ok (.baload, 1) := by decide +kernel
theorem dX1_stepOne_34 : decode cX1_stepOne 34 = .ok (.iload_n 2, 1) := by decide +kernel
theorem dX1_stepOne_35 : decode cX1_stepOne 35 = .ok (.invokevirtual 102, 3) := by decide +kernel
theorem dX1_stepOne_38 : decode cX1_stepOne 38 = .ok (.goto 122, 3) := by decide +kernel
theorem dX1_stepOne_41 : decode cX1_stepOne 41 = .ok (.iload_n 3, 1) := by decide +kernel
theorem dX1_stepOne_42 : decode cX1_stepOne 42 = .ok (.iconst 3, 1) := by decide +kernel
theorem dX1_stepOne_43 : decode cX1_stepOne 43 = .ok (.if_icmp .ne 13, 3) := by decide +kernel
theorem dX1_stepOne_46 : decode cX1_stepOne 46 = .ok (.aload_n 0, 1) := by decide +kernel
theorem dX1_stepOne_47 : decode cX1_stepOne 47 = .ok (.iload 4, 2) := by decide +kernel
theorem dX1_stepOne_49 : decode cX1_stepOne 49 = .ok (.iload_n 2, 1) := by decide +kernel
theorem dX1_stepOne_50 : decode cX1_stepOne 50 = .ok (.invokevirtual 102, 3) := by decide +kernel
theorem dX1_stepOne_53 : decode cX1_stepOne 53 = .ok (.goto 107, 3) := by decide +kernel
theorem dX1_stepOne_56 : decode cX1_stepOne 56 = .ok (.iload_n 3, 1) := by decide +kernel
theorem dX1_stepOne_57 : decode cX1_stepOne 57 = .ok (.iconst 4, 1) := by decide +kernel
theorem dX1_stepOne_58 : decode cX1_stepOne 58 = .ok (.if_icmp .ne 24, 3) := by decide +kernel
theorem dX1_stepOne_61 : decode cX1_stepOne 61 = .ok (.iload_n 2, 1) := by decide +kernel
theorem dX1_stepOne_62 : decode cX1_stepOne 62 = .ok (.aload_n 0, 1) := by decide +kernel
theorem dX1_stepOne_63 : decode cX1_stepOne 63 = .ok (.getfield 25, 3) := by decide +kernel
theorem dX1_stepOne_66 : decode cX1_stepOne 66 = .ok (.iload_n 1, 1) := by decide +kernel
theorem dX1_stepOne_67 : decode cX1_stepOne 67 = .ok (.iaload, 1) := by decide +kernel
theorem dX1_stepOne_68 : decode cX1_stepOne 68 = .ok (.iand, 1) := by decide +kernel
theorem dX1_stepOne_69 : decode cX1_stepOne 69 = .ok (.ifCond .ne 91, 3) := by decide +kernel
theorem dX1_stepOne_72 : decode cX1_stepOne 72 = .ok (.aload_n 0, 1) := by decide +kernel
theorem dX1_stepOne_73 : decode cX1_stepOne 73 = .ok (.iload 4, 2) := by decide +kernel
theorem dX1_stepOne_75 : decode cX1_stepOne 75 = .ok (.iload_n 2, 1) := by decide +kernel
theorem dX1_stepOne_76 : decode cX1_stepOne 76 = .ok (.invokevirtual 102, 3) := by decide +kernel
theorem dX1_stepOne_79 : decode cX1_stepOne 79 = .ok (.goto 81, 3) := by decide +kernel
theorem dX1_stepOne_82 : decode cX1_stepOne 82 = .ok (.iload_n 3, 1) := by decide +kernel
theorem dX1_stepOne_83 : decode cX1_stepOne 83 = .ok (.bipush 6, 2) := by decide +kernel
theorem dX1_stepOne_85 : decode cX1_stepOne 85 = .ok (.if_icmp .ne 28, 3) := by decide +kernel
theorem dX1_stepOne_88 : decode cX1_stepOne 88 = .ok (.aload_n 0, 1) := by decide +kernel
theorem dX1_stepOne_89 : decode cX1_stepOne 89 = .ok (.getfield 44, 3) := by decide +kernel
theorem dX1_stepOne_92 : decode cX1_stepOne 92 = .ok (.iload_n 1, 1) := by decide +kernel
theorem dX1_stepOne_93 : decode cX1_stepOne 93 = .ok (.dup2, 1) := by decide +kernel
theorem dX1_stepOne_94 : decode cX1_stepOne 94 = .ok (.iaload, 1) := by decide +kernel
theorem dX1_stepOne_95 : decode cX1_stepOne 95 = .ok (.iload_n 2, 1) := by decide +kernel
theorem dX1_stepOne_96 : decode cX1_stepOne 96 = .ok (.iadd, 1) := by decide +kernel
theorem dX1_stepOne_97 : decode cX1_stepOne 97 = .ok (.iastore, 1) := by decide +kernel
theorem dX1_stepOne_98 : decode cX1_stepOne 98 = .ok (.aload_n 0, 1) := by decide +kernel
theorem dX1_stepOne_99 : decode cX1_stepOne 99 = .ok (.iload 4, 2) := by decide +kernel
theorem dX1_stepOne_101 : decode cX1_stepOne 101 = .ok (.aload_n 0, 1) := by decide +kernel
theorem dX1_stepOne_102 : decode cX1_stepOne 102 = .ok (.getfield 44, 3) := by decide +kernel
theorem dX1_stepOne_105 : decode cX1_stepOne 105 = .ok (.iload_n 1, 1) := by decide +kernel
theorem dX1_stepOne_106 : decode cX1_stepOne 106 = .ok (.iaload, 1) := by decide +kernel
theorem dX1_stepOne_107 : decode cX1_stepOne 107 = .ok (.invokevirtual 102, 3) := by decide +kernel
theorem dX1_stepOne_110 : decode cX1_stepOne 110 = .ok (.goto 50, 3) := by decide +kernel
theorem dX1_stepOne_113 : decode cX1_stepOne 113 = .ok (.aload_n 0, 1) := by decide +kernel
theorem dX1_stepOne_114 : decode cX1_stepOne 114 = .ok (.getfield 47, 3) := by decide +kernel
theorem dX1_stepOne_117 : decode cX1_stepOne 117 = .ok (.iload_n 1, 1) := by decide +kernel
theorem dX1_stepOne_118 : decode cX1_stepOne 118 = .ok (.baload, 1) := by decide +kernel
theorem dX1_stepOne_119 : decode cX1_stepOne 119 = .ok (.ifCond .ne 20, 3) := by decide +kernel
theorem dX1_stepOne_122 : decode cX1_stepOne 122 = .ok (.aload_n 0, 1) := by decide +kernel
theorem dX1_stepOne_123 : decode cX1_stepOne 123 = .ok (.getfield 47, 3) := by decide +kernel
theorem dX1_stepOne_126 : decode cX1_stepOne 126 = .ok (.iload_n 1, 1) := by decide +kernel
theorem dX1_stepOne_127 : decode cX1_stepOne 127 = .ok (.iconst 1, 1) := by decide +kernel
theorem dX1_stepOne_128 : decode cX1_stepOne 128 = .ok (.bastore, 1) := by decide +kernel
theorem dX1_stepOne_129 : decode cX1_stepOne 129 = .ok (.aload_n 0, 1) := by decide +kernel
theorem dX1_stepOne_130 : decode cX1_stepOne 130 = .ok (.getfield 44, 3) := by decide +kernel
theorem dX1_stepOne_133 : decode cX1_stepOne 133 = .ok (.iload_n 1, 1) := by decide +kernel
theorem dX1_stepOne_134 : decode cX1_stepOne 134 = .ok (.iload_n 2, 1) := by decide +kernel
theorem dX1_stepOne_135 : decode cX1_stepOne 135 = .ok (.iastore, 1) := by decide +kernel
theorem dX1_stepOne_136 : decode cX1_stepOne 136 = .ok (.goto 24, 3) := by decide +kernel
theorem dX1_stepOne_139 : decode cX1_stepOne 139 = .ok (.aload_n 0, 1) := by decide +kernel
theorem dX1_stepOne_140 : decode cX1_stepOne 140 = .ok (.getfield 47, 3) := by decide +kernel
theorem dX1_stepOne_143 : decode cX1_stepOne 143 = .ok (.iload_n 1, 1) := by decide +kernel
theorem dX1_stepOne_144 : decode cX1_stepOne 144 = .ok (.iconst 0, 1) := by decide +kernel
theorem dX1_stepOne_145 : decode cX1_stepOne 145 = .ok (.bastore, 1) := by decide +kernel
theorem dX1_stepOne_146 : decode cX1_stepOne 146 = .ok (.aload_n 0, 1) := by decide +kernel
theorem dX1_stepOne_147 : decode cX1_stepOne 147 = .ok (.iload 4, 2) := by decide +kernel
theorem dX1_stepOne_149 : decode cX1_stepOne 149 = .ok (.aload_n 0, 1) := by decide +kernel
theorem dX1_stepOne_150 : decode cX1_stepOne 150 = .ok (.getfield 44, 3) := by decide +kernel
theorem dX1_stepOne_153 : decode cX1_stepOne 153 = .ok (.iload_n 1, 1) := by decide +kernel
theorem dX1_stepOne_154 : decode cX1_stepOne 154 = .ok (.iaload, 1) := by decide +kernel
theorem dX1_stepOne_155 : decode cX1_stepOne 155 = .ok (.iload_n 2, 1) := by decide +kernel
theorem dX1_stepOne_156 : decode cX1_stepOne 156 = .ok (.isub, 1) := by decide +kernel
theorem dX1_stepOne_157 : decode cX1_stepOne 157 = .ok (.invokevirtual 102, 3) := by decide +kernel
theorem dX1_stepOne_160 : decode cX1_stepOne 160 = .ok (.return_, 1) := by decide +kernel
theorem dX1_growSmallest_0 : decode cX1_growSmallest 0 = .ok (.iconst (-1), 1) := by decide +kernel
theorem dX1_growSmallest_1 : decode cX1_growSmallest 1 = .ok (.istore_n 1, 1) := by decide +kernel
theorem dX1_growSmallest_2 : decode cX1_growSmallest 2 = .ok (.iconst 0, 1) := by decide +kernel
theorem dX1_growSmallest_3 : decode cX1_growSmallest 3 = .ok (.istore_n 2, 1) := by decide +kernel
theorem dX1_growSmallest_4 : decode cX1_growSmallest 4 = .ok (.iload_n 2, 1) := by decide +kernel
theorem dX1_growSmallest_5 : decode cX1_growSmallest 5 = .ok (.aload_n 0, 1) := by decide +kernel
theorem dX1_growSmallest_6 : decode cX1_growSmallest 6 = .ok (.getfield 54, 3) := by decide +kernel
theorem dX1_growSmallest_9 : decode cX1_growSmallest 9 = .ok (.if_icmp .ge 44, 3) := by decide +kernel
theorem dX1_growSmallest_12 : decode cX1_growSmallest 12 = .ok (.aload_n 0, 1) := by decide +kernel
theorem dX1_growSmallest_13 : decode cX1_growSmallest 13 = .ok (.iload_n 2, 1) := by decide +kernel
theorem dX1_growSmallest_14 : decode cX1_growSmallest 14 = .ok (.invokevirtual 89, 3) := by decide +kernel
theorem dX1_growSmallest_17 : decode cX1_growSmallest 17 = .ok (.ifCond .ne 6, 3) := by decide +kernel
theorem dX1_growSmallest_20 : decode cX1_growSmallest 20 = .ok (.goto 27, 3) := by decide +kernel
theorem dX1_growSmallest_23 : decode cX1_growSmallest 23 = .ok (.aload_n 0, 1) := by decide +kernel
theorem dX1_growSmallest_24 : decode cX1_growSmallest 24 = .ok (.iload_n 1, 1) := by decide +kernel
theorem dX1_growSmallest_25 : decode cX1_growSmallest 25 = .ok (.aload_n 0, 1) := by decide +kernel
theorem dX1_growSmallest_26 : decode cX1_growSmallest 26 = .ok (.getfield 19, 3) := by decide +kernel
theorem dX1_growSmallest_29 : decode cX1_growSmallest 29 = .ok (.iload_n 2, 1) := by decide +kernel
theorem dX1_growSmallest_30 : decode cX1_growSmallest 30 = .ok (.baload, 1) := by decide +kernel
theorem dX1_growSmallest_31 : decode cX1_growSmallest 31 = .ok (.invokevirtual 92, 3) := by decide +kernel
theorem dX1_growSmallest_34 : decode cX1_growSmallest 34 = .ok (.istore_n 1, 1) := by decide +kernel
theorem dX1_growSmallest_35 : decode cX1_growSmallest 35 = .ok (.aload_n 0, 1) := by decide +kernel
theorem dX1_growSmallest_36 : decode cX1_growSmallest 36 = .ok (.iload_n 1, 1) := by decide +kernel
theorem dX1_growSmallest_37 : decode cX1_growSmallest 37 = .ok (.aload_n 0, 1) := by decide +kernel
theorem dX1_growSmallest_38 : decode cX1_growSmallest 38 = .ok (.getfield 22, 3) := by decide +kernel
theorem dX1_growSmallest_41 : decode cX1_growSmallest 41 = .ok (.iload_n 2, 1) := by decide +kernel
theorem dX1_growSmallest_42 : decode cX1_growSmallest 42 = .ok (.baload, 1) := by decide +kernel
theorem dX1_growSmallest_43 : decode cX1_growSmallest 43 = .ok (.invokevirtual 92, 3) := by decide +kernel
theorem dX1_growSmallest_46 : decode cX1_growSmallest 46 = .ok (.istore_n 1, 1) := by decide +kernel
theorem dX1_growSmallest_47 : decode cX1_growSmallest 47 = .ok (.iinc 2 1, 3) := by decide +kernel
theorem dX1_growSmallest_50 : decode cX1_growSmallest 50 = .ok (.goto (-46), 3) := by decide +kernel
theorem dX1_growSmallest_53 : decode cX1_growSmallest 53 = .ok (.iload_n 1, 1) := by decide +kernel
theorem dX1_growSmallest_54 : decode cX1_growSmallest 54 = .ok (.ifCond .ge 5, 3) := by decide +kernel
theorem dX1_growSmallest_57 : decode cX1_growSmallest 57 = .ok (.iconst 0, 1) := by decide +kernel
theorem dX1_growSmallest_58 : decode cX1_growSmallest 58 = .ok (.ireturn, 1) := by decide +kernel
theorem dX1_growSmallest_59 : decode cX1_growSmallest 59 = .ok (.aload_n 0, 1) := by decide +kernel
theorem dX1_growSmallest_60 : decode cX1_growSmallest 60 = .ok (.getfield 41, 3) := by decide +kernel
theorem dX1_growSmallest_63 : decode cX1_growSmallest 63 = .ok (.iload_n 1, 1) := by decide +kernel
theorem dX1_growSmallest_64 : decode cX1_growSmallest 64 = .ok (.dup2, 1) := by decide +kernel
theorem dX1_growSmallest_65 : decode cX1_growSmallest 65 = .ok (.baload, 1) := by decide +kernel
theorem dX1_growSmallest_66 : decode cX1_growSmallest 66 = .ok (.iconst 1, 1) := by decide +kernel
theorem dX1_growSmallest_67 : decode cX1_growSmallest 67 = .ok (.iadd, 1) := by decide +kernel
theorem dX1_growSmallest_68 : decode cX1_growSmallest 68 = .ok (.i2b, 1) := by decide +kernel
theorem dX1_growSmallest_69 : decode cX1_growSmallest 69 = .ok (.bastore, 1) := by decide +kernel
theorem dX1_growSmallest_70 : decode cX1_growSmallest 70 = .ok (.iconst 1, 1) := by decide +kernel
theorem dX1_growSmallest_71 : decode cX1_growSmallest 71 = .ok (.ireturn, 1) := by decide +kernel
theorem dX1_smaller_0 : decode cX1_smaller 0 = .ok (.iload_n 2, 1) := by decide +kernel
theorem dX1_smaller_1 : decode cX1_smaller 1 = .ok (.ifCond .lt 19, 3) := by decide +kernel
theorem dX1_smaller_4 : decode cX1_smaller 4 = .ok (.aload_n 0, 1) := by decide +kernel
theorem dX1_smaller_5 : decode cX1_smaller 5 = .ok (.iload_n 2, 1) := by decide +kernel
theorem dX1_smaller_6 : decode cX1_smaller 6 = .ok (.invokevirtual 96, 3) := by decide +kernel
theorem dX1_smaller_9 : decode cX1_smaller 9 = .ok (.ifCond .ne 11, 3) := by decide +kernel
theorem dX1_smaller_12 : decode cX1_smaller 12 = .ok (.aload_n 0, 1) := by decide +kernel
theorem dX1_smaller_13 : decode cX1_smaller 13 = .ok (.iload_n 2, 1) := by decide +kernel
theorem dX1_smaller_14 : decode cX1_smaller 14 = .ok (.invokevirtual 99, 3) := by decide +kernel
theorem dX1_smaller_17 : decode cX1_smaller 17 = .ok (.ifCond .eq 5, 3) := by decide +kernel
theorem dX1_smaller_20 : decode cX1_smaller 20 = .ok (.iload_n 1, 1) := by decide +kernel
theorem dX1_smaller_21 : decode cX1_smaller 21 = .ok (.ireturn, 1) := by decide +kernel
theorem dX1_smaller_22 : decode cX1_smaller 22 = .ok (.iload_n 1, 1) := by decide +kernel
theorem dX1_smaller_23 : decode cX1_smaller 23 = .ok (.ifCond .lt 18, 3) := by decide +kernel
theorem dX1_smaller_26 : decode cX1_smaller 26 = .ok (.aload_n 0, 1) := by decide +kernel
theorem dX1_smaller_27 : decode cX1_smaller 27 = .ok (.getfield 41, 3) := by decide +kernel
theorem dX1_smaller_30 : decode cX1_smaller 30 = .ok (.iload_n 2, 1) := by decide +kernel
theorem dX1_smaller_31 : decode cX1_smaller 31 = .ok (.baload, 1) := by decide +kernel
theorem dX1_smaller_32 : decode cX1_smaller 32 = .ok (.aload_n 0, 1) := by decide +kernel
theorem dX1_smaller_33 : decode cX1_smaller 33 = .ok (.getfield 41, 3) := by decide +kernel
theorem dX1_smaller_36 : decode cX1_smaller 36 = .ok (.iload_n 1, 1) := by decide +kernel
theorem dX1_smaller_37 : decode cX1_smaller 37 = .ok (.baload, 1) := by decide +kernel
theorem dX1_smaller_38 : decode cX1_smaller 38 = .ok (.if_icmp .ge 7, 3) := by decide +kernel
theorem dX1_smaller_41 : decode cX1_smaller 41 = .ok (.iload_n 2, 1) := by decide +kernel
theorem dX1_smaller_42 : decode cX1_smaller 42 = .ok (.goto 4, 3) := by decide +kernel
theorem dX1_smaller_45 : decode cX1_smaller 45 = .ok (.iload_n 1, 1) := by decide +kernel
theorem dX1_smaller_46 : decode cX1_smaller 46 = .ok (.ireturn, 1) := by decide +kernel
theorem dX1_at_0 : decode cX1_at 0 = .ok (.iload_n 1, 1) := by decide +kernel
theorem dX1_at_1 : decode cX1_at 1 = .ok (.ifCond .lt 9, 3) := by decide +kernel
theorem dX1_at_4 : decode cX1_at 4 = .ok (.iload_n 1, 1) := by decide +kernel
theorem dX1_at_5 : decode cX1_at 5 = .ok (.bipush 9, 2) := by decide +kernel
theorem dX1_at_7 : decode cX1_at 7 = .ok (.if_icmp .le 5, 3) := by decide +kernel
theorem dX1_at_10 : decode cX1_at 10 = .ok (.iconst 0, 1) := by decide +kernel
theorem dX1_at_11 : decode cX1_at 11 = .ok (.ireturn, 1) := by decide +kernel
theorem dX1_at_12 : decode cX1_at 12 = .ok (.aload_n 0, 1) := by decide +kernel
theorem dX1_at_13 : decode cX1_at 13 = .ok (.invokevirtual 72, 3) := by decide +kernel
theorem dX1_at_16 : decode cX1_at 16 = .ok (.iload_n 2, 1) := by decide +kernel
theorem dX1_at_17 : decode cX1_at 17 = .ok (.ifCond .lt 13, 3) := by decide +kernel
theorem dX1_at_20 : decode cX1_at 20 = .ok (.iload_n 2, 1) := by decide +kernel
theorem dX1_at_21 : decode cX1_at 21 = .ok (.aload_n 0, 1) := by decide +kernel
theorem dX1_at_22 : decode cX1_at 22 = .ok (.getfield 35, 3) := by decide +kernel
theorem dX1_at_25 : decode cX1_at 25 = .ok (.iload_n 1, 1) := by decide +kernel
theorem dX1_at_26 : decode cX1_at 26 = .ok (.baload, 1) := by decide +kernel
theorem dX1_at_27 : decode cX1_at 27 = .ok (.if_icmp .lt 7, 3) := by decide +kernel
theorem dX1_at_30 : decode cX1_at 30 = .ok (.iconst 0, 1) := by decide +kernel
theorem dX1_at_31 : decode cX1_at 31 = .ok (.goto 14, 3) := by decide +kernel
theorem dX1_at_34 : decode cX1_at 34 = .ok (.aload_n 0, 1) := by decide +kernel
theorem dX1_at_35 : decode cX1_at 35 = .ok (.getfield 32, 3) := by decide +kernel
theorem dX1_at_38 : decode cX1_at 38 = .ok (.bipush 20, 2) := by decide +kernel
theorem dX1_at_40 : decode cX1_at 40 = .ok (.iload_n 1, 1) := by decide +kernel
theorem dX1_at_41 : decode cX1_at 41 = .ok (.imul, 1) := by decide +kernel
theorem dX1_at_42 : decode cX1_at 42 = .ok (.iload_n 2, 1) := by decide +kernel
theorem dX1_at_43 : decode cX1_at 43 = .ok (.iadd, 1) := by decide +kernel
theorem dX1_at_44 : decode cX1_at 44 = .ok (.iaload, 1) := by decide +kernel
theorem dX1_at_45 : decode cX1_at 45 = .ok (.ireturn, 1) := by decide +kernel
theorem dX1_processes_0 : decode cX1_processes 0 = .ok (.aload_n 0, 1) := by decide +kernel
theorem dX1_processes_1 : decode cX1_processes 1 = .ok (.getfield 54, 3) := by decide +kernel
theorem dX1_processes_4 : decode cX1_processes 4 = .ok (.ireturn, 1) := by decide +kernel
theorem dX1_total_0 : decode cX1_total 0 = .ok (.aload_n 0, 1) := by decide +kernel
theorem dX1_total_1 : decode cX1_total 1 = .ok (.invokevirtual 72, 3) := by decide +kernel
theorem dX1_total_4 : decode cX1_total 4 = .ok (.iconst 0, 1) := by decide +kernel
theorem dX1_total_5 : decode cX1_total 5 = .ok (.istore_n 1, 1) := by decide +kernel
theorem dX1_total_6 : decode cX1_total 6 = .ok (.iconst 0, 1) := by decide +kernel
theorem dX1_total_7 : decode cX1_total 7 = .ok (.istore_n 2, 1) := by decide +kernel
theorem dX1_total_8 : decode cX1_total 8 = .ok (.iload_n 2, 1) := by decide +kernel
theorem dX1_total_9 : decode cX1_total 9 = .ok (.bipush 10, 2) := by decide +kernel
theorem dX1_total_11 : decode cX1_total 11 = .ok (.if_icmp .ge 18, 3) := by decide +kernel
theorem dX1_total_14 : decode cX1_total 14 = .ok (.iload_n 1, 1) := by decide +kernel
theorem dX1_total_15 : decode cX1_total 15 = .ok (.aload_n 0, 1) := by decide +kernel
theorem dX1_total_16 : decode cX1_total 16 = .ok (.getfield 35, 3) := by decide +kernel
theorem dX1_total_19 : decode cX1_total 19 = .ok (.iload_n 2, 1) := by decide +kernel
theorem dX1_total_20 : decode cX1_total 20 = .ok (.baload, 1) := by decide +kernel
theorem dX1_total_21 : decode cX1_total 21 = .ok (.iadd, 1) := by decide +kernel
theorem dX1_total_22 : decode cX1_total 22 = .ok (.istore_n 1, 1) := by decide +kernel
theorem dX1_total_23 : decode cX1_total 23 = .ok (.iinc 2 1, 3) := by decide +kernel
theorem dX1_total_26 : decode cX1_total 26 = .ok (.goto (-18), 3) := by decide +kernel
theorem dX1_total_29 : decode cX1_total 29 = .ok (.iload_n 1, 1) := by decide +kernel
theorem dX1_total_30 : decode cX1_total 30 = .ok (.ireturn, 1) := by decide +kernel
theorem dX1_firstDifference_0 : decode cX1_firstDifference 0 = .ok (.iload_n 1, 1) := by decide +kernel
theorem dX1_firstDifference_1 : decode cX1_firstDifference 1 = .ok (.ifCond .lt 19, 3) := by decide +kernel
theorem dX1_firstDifference_4 : decode cX1_firstDifference 4 = .ok (.iload_n 1, 1) := by decide +kernel
theorem dX1_firstDifference_5 : decode cX1_firstDifference 5 = .ok (.bipush 9, 2) := by decide +kernel
theorem dX1_firstDifference_7 : decode cX1_firstDifference 7 = .ok (.if_icmp .gt 13, 3) := by decide +kernel
theorem dX1_firstDifference_10 : decode cX1_firstDifference 10 = .ok (.iload_n 2, 1) := by decide +kernel
theorem dX1_firstDifference_11 : decode cX1_firstDifference 11 = .ok (.ifCond .lt 9, 3) := by decide +kernel
theorem dX1_firstDifference_14 : decode cX1_firstDifference 14 = .ok (.iload_n 2, 1) := by decide +kernel
theorem dX1_firstDifference_15 : decode cX1_firstDifference 15 = .ok (.bipush 9, 2) := by decide +kernel
theorem dX1_firstDifference_17 : decode cX1_firstDifference 17 = .ok (.if_icmp .le 6, 3) := by decide +kernel
theorem dX1_firstDifference_20 : decode cX1_firstDifference 20 = .ok (.bipush (-2), 2) := by decide +kernel
theorem dX1_firstDifference_22 : decode cX1_firstDifference 22 = .ok (.ireturn, 1) := by decide +kernel
theorem dX1_firstDifference_23 : decode cX1_firstDifference 23 = .ok (.aload_n 0, 1) := by decide +kernel
theorem dX1_firstDifference_24 : decode cX1_firstDifference 24 = .ok (.invokevirtual 72, 3) := by decide +kernel
theorem dX1_firstDifference_27 : decode cX1_firstDifference 27 = .ok (.iconst 0, 1) := by decide +kernel
theorem dX1_firstDifference_28 : decode cX1_firstDifference 28 = .ok (.istore_n 3, 1) := by decide +kernel
theorem dX1_firstDifference_29 : decode cX1_firstDifference 29 = .ok (.iload_n 3, 1) := by decide +kernel
theorem dX1_firstDifference_30 : decode cX1_firstDifference 30 = .ok (.aload_n 0, 1) := by decide +kernel
theorem dX1_firstDifference_31 : decode cX1_firstDifference 31 = .ok (.getfield 35, 3) := by decide +kernel
theorem dX1_firstDifference_34 : decode cX1_firstDifference 34 = .ok (.iload_n 1, 1) := by decide +kernel
theorem dX1_firstDifference_35 : decode cX1_firstDifference 35 = .ok (.baload, 1) := by decide +kernel
theorem dX1_firstDifference_36 : decode cX1_firstDifference 36 = .ok (.if_icmp .ge 44, 3) := by decide +kernel
theorem dX1_firstDifference_39 : decode cX1_firstDifference 39 = .ok (.iload_n 3, 1) := by decide +kernel
theorem dX1_firstDifference_40 : decode cX1_firstDifference 40 = .ok (.aload_n 0, 1) := by decide +kernel
theorem dX1_firstDifference_41 : decode cX1_firstDifference 41 = .ok (.getfield 35, 3) := by decide +kernel
theorem dX1_firstDifference_44 : decode cX1_firstDifference 44 = .ok (.iload_n 2, 1) := by decide +kernel
theorem dX1_firstDifference_45 : decode cX1_firstDifference 45 = .ok (.baload, 1) := by decide +kernel
theorem dX1_firstDifference_46 : decode cX1_firstDifference 46 = .ok (.if_icmp .ge 34, 3) := by decide +kernel
theorem dX1_firstDifference_49 : decode cX1_firstDifference 49 = .ok (.aload_n 0, 1) := by decide +kernel
theorem dX1_firstDifference_50 : decode cX1_firstDifference 50 = .ok (.getfield 32, 3) := by decide +kernel
theorem dX1_firstDifference_53 : decode cX1_firstDifference 53 = .ok (.bipush 20, 2) := by decide +kernel
theorem dX1_firstDifference_55 : decode cX1_firstDifference 55 = .ok (.iload_n 1, 1) := by decide +kernel
theorem dX1_firstDifference_56 : decode cX1_firstDifference 56 = .ok (.imul, 1) := by decide +kernel
theorem dX1_firstDifference_57 : decode cX1_firstDifference 57 = .ok (.iload_n 3, 1) := by decide +kernel
theorem dX1_firstDifference_58 : decode cX1_firstDifference 58 = .ok (.iadd, 1) := by decide +kernel
theorem dX1_firstDifference_59 : decode cX1_firstDifference 59 = .ok (.iaload, 1) := by decide +kernel
theorem dX1_firstDifference_60 : decode cX1_firstDifference 60 = .ok (.aload_n 0, 1) := by decide +kernel
theorem dX1_firstDifference_61 : decode cX1_firstDifference 61 = .ok (.getfield 32, 3) := by decide +kernel
theorem dX1_firstDifference_64 : decode cX1_firstDifference 64 = .ok (.bipush 20, 2) := by decide +kernel
theorem dX1_firstDifference_66 : decode cX1_firstDifference 66 = .ok (.iload_n 2, 1) := by decide +kernel
theorem dX1_firstDifference_67 : decode cX1_firstDifference 67 = .ok (.imul, 1) := by decide +kernel
theorem dX1_firstDifference_68 : decode cX1_firstDifference 68 = .ok (.iload_n 3, 1) := by decide +kernel
theorem dX1_firstDifference_69 : decode cX1_firstDifference 69 = .ok (.iadd, 1) := by decide +kernel
theorem dX1_firstDifference_70 : decode cX1_firstDifference 70 = .ok (.iaload, 1) := by decide +kernel
theorem dX1_firstDifference_71 : decode cX1_firstDifference 71 = .ok (.if_icmp .ne 9, 3) := by decide +kernel
theorem dX1_firstDifference_74 : decode cX1_firstDifference 74 = .ok (.iinc 3 1, 3) := by decide +kernel
theorem dX1_firstDifference_77 : decode cX1_firstDifference 77 = .ok (.goto (-48), 3) := by decide +kernel
theorem dX1_firstDifference_80 : decode cX1_firstDifference 80 = .ok (.iload_n 3, 1) := by decide +kernel
theorem dX1_firstDifference_81 : decode cX1_firstDifference 81 = .ok (.aload_n 0, 1) := by decide +kernel
theorem dX1_firstDifference_82 : decode cX1_firstDifference 82 = .ok (.getfield 35, 3) := by decide +kernel
theorem dX1_firstDifference_85 : decode cX1_firstDifference 85 = .ok (.iload_n 1, 1) := by decide +kernel
theorem dX1_firstDifference_86 : decode cX1_firstDifference 86 = .ok (.baload, 1) := by decide +kernel
theorem dX1_firstDifference_87 : decode cX1_firstDifference 87 = .ok (.if_icmp .ne 17, 3) := by decide +kernel
theorem dX1_firstDifference_90 : decode cX1_firstDifference 90 = .ok (.iload_n 3, 1) := by decide +kernel
theorem dX1_firstDifference_91 : decode cX1_firstDifference 91 = .ok (.aload_n 0, 1) := by decide +kernel
theorem dX1_firstDifference_92 : decode cX1_firstDifference 92 = .ok (.getfield 35, 3) := by decide +kernel
theorem dX1_firstDifference_95 : decode cX1_firstDifference 95 = .ok (.iload_n 2, 1) := by decide +kernel
theorem dX1_firstDifference_96 : decode cX1_firstDifference 96 = .ok (.baload, 1) := by decide +kernel
theorem dX1_firstDifference_97 : decode cX1_firstDifference 97 = .ok (.if_icmp .ne 7, 3) := by decide +kernel
theorem dX1_firstDifference_100 : decode cX1_firstDifference 100 = .ok (.iconst (-1), 1) := by decide +kernel
theorem dX1_firstDifference_101 : decode cX1_firstDifference 101 = .ok (.goto 4, 3) := by decide +kernel
theorem dX1_firstDifference_104 : decode cX1_firstDifference 104 = .ok (.iload_n 3, 1) := by decide +kernel
theorem dX1_firstDifference_105 : decode cX1_firstDifference 105 = .ok (.ireturn, 1) := by decide +kernel
end
section
set_option maxRecDepth 100000
theorem dX2_init_0 : decode cX2_init 0 = .ok (.aload_n 0, 1) := by decide +kernel
theorem dX2_init_1 : decode cX2_init 1 = .ok (.invokespecial 1, 3) := by decide +kernel
theorem dX2_init_4 : decode cX2_init 4 = .ok (.aload_n 0, 1) := by decide +kernel
theorem dX2_init_5 : decode cX2_init 5 = .ok (.iconst 0, 1) := by decide +kernel
theorem dX2_init_6 : decode cX2_init 6 = .ok (.putfield 7, 3) := by decide +kernel
theorem dX2_init_9 : decode cX2_init 9 = .ok (.aload_n 0, 1) := by decide +kernel
theorem dX2_init_10 : decode cX2_init 10 = .ok (.bipush 8, 2) := by decide +kernel
theorem dX2_init_12 : decode cX2_init 12 = .ok (.newarray .int, 2) := by decide +kernel
theorem dX2_init_14 : decode cX2_init 14 = .ok (.putfield 13, 3) := by decide +kernel
theorem dX2_init_17 : decode cX2_init 17 = .ok (.aload_n 0, 1) := by decide +kernel
theorem dX2_init_18 : decode cX2_init 18 = .ok (.bipush 8, 2) := by decide +kernel
theorem dX2_init_20 : decode cX2_init 20 = .ok (.newarray .int, 2) := by decide +kernel
theorem dX2_init_22 : decode cX2_init 22 = .ok (.putfield 17, 3) := by decide +kernel
theorem dX2_init_25 : decode cX2_init 25 = .ok (.aload_n 0, 1) := by decide +kernel
theorem dX2_init_26 : decode cX2_init 26 = .ok (.bipush 8, 2) := by decide +kernel
theorem dX2_init_28 : decode cX2_init 28 = .ok (.newarray .int, 2) := by decide +kernel
theorem dX2_init_30 : decode cX2_init 30 = .ok (.putfield 20, 3) := by decide +kernel
theorem dX2_init_33 : decode cX2_init 33 = .ok (.aload_n 0, 1) := by decide +kernel
theorem dX2_init_34 : decode cX2_init 34 = .ok (.bipush 8, 2) := by decide +kernel
theorem dX2_init_36 : decode cX2_init 36 = .ok (.newarray .int, 2) := by decide +kernel
theorem dX2_init_38 : decode cX2_init 38 = .ok (.putfield 23, 3) := by decide +kernel
theorem dX2_init_41 : decode cX2_init 41 = .ok (.aload_n 0, 1) := by decide +kernel
theorem dX2_init_42 : decode cX2_init 42 = .ok (.bipush 8, 2) := by decide +kernel
theorem dX2_init_44 : decode cX2_init 44 = .ok (.newarray .int, 2) := by decide +kernel
theorem dX2_init_46 : decode cX2_init 46 = .ok (.putfield 26, 3) := by decide +kernel
theorem dX2_init_49 : decode cX2_init 49 = .ok (.aload_n 0, 1) := by decide +kernel
theorem dX2_init_50 : decode cX2_init 50 = .ok (.bipush 8, 2) := by decide +kernel
theorem dX2_init_52 : decode cX2_init 52 = .ok (.newarray .int, 2) := by decide +kernel
theorem dX2_init_54 : decode cX2_init 54 = .ok (.putfield 29, 3) := by decide +kernel
theorem dX2_init_57 : decode cX2_init 57 = .ok (.aload_n 0, 1) := by decide +kernel
theorem dX2_init_58 : decode cX2_init 58 = .ok (.bipush 8, 2) := by decide +kernel
theorem dX2_init_60 : decode cX2_init 60 = .ok (.newarray .int, 2) := by decide +kernel
theorem dX2_init_62 : decode cX2_init 62 = .ok (.putfield 32, 3) := by decide +kernel
theorem dX2_init_65 : decode cX2_init 65 = .ok (.aload_n 0, 1) := by decide +kernel
theorem dX2_init_66 : decode cX2_init 66 = .ok (.bipush 10, 2) := by decide +kernel
theorem dX2_init_68 : decode cX2_init 68 = .ok (.newarray .boolean, 2) := by decide +kernel
theorem dX2_init_70 : decode cX2_init 70 = .ok (.putfield 35, 3) := by decide +kernel
theorem dX2_init_73 : decode cX2_init 73 = .ok (.aload_n 0, 1) := by decide +kernel
theorem dX2_init_74 : decode cX2_init 74 = .ok (.bipush 10, 2) := by decide +kernel
theorem dX2_init_76 : decode cX2_init 76 = .ok (.newarray .boolean, 2) := by decide +kernel
theorem dX2_init_78 : decode cX2_init 78 = .ok (.putfield 39, 3) := by decide +kernel
theorem dX2_init_81 : decode cX2_init 81 = .ok (.aload_n 0, 1) := by decide +kernel
theorem dX2_init_82 : decode cX2_init 82 = .ok (.bipush 10, 2) := by decide +kernel
theorem dX2_init_84 : decode cX2_init 84 = .ok (.newarray .int, 2) := by decide +kernel
theorem dX2_init_86 : decode cX2_init 86 = .ok (.putfield 42, 3) := by decide +kernel
theorem dX2_init_89 : decode cX2_init 89 = .ok (.aload_n 0, 1) := by decide +kernel
theorem dX2_init_90 : decode cX2_init 90 = .ok (.sipush 200, 3) := by decide +kernel
theorem dX2_init_93 : decode cX2_init 93 = .ok (.newarray .int, 2) := by decide +kernel
theorem dX2_init_95 : decode cX2_init 95 = .ok (.putfield 45, 3) := by decide +kernel
theorem dX2_init_98 : decode cX2_init 98 = .ok (.aload_n 0, 1) := by decide +kernel
theorem dX2_init_99 : decode cX2_init 99 = .ok (.bipush 20, 2) := by decide +kernel
theorem dX2_init_101 : decode cX2_init 101 = .ok (.newarray .int, 2) := by decide +kernel
theorem dX2_init_103 : decode cX2_init 103 = .ok (.putfield 48, 3) := by decide +kernel
theorem dX2_init_106 : decode cX2_init 106 = .ok (.return_, 1) := by decide +kernel
theorem dX2_source_0 : decode cX2_source 0 = .ok (.aload_n 0, 1) := by decide +kernel
theorem dX2_source_1 : decode cX2_source 1 = .ok (.getfield 7, 3) := by decide +kernel
theorem dX2_source_4 : decode cX2_source 4 = .ok (.bipush 8, 2) := by decide +kernel
theorem dX2_source_6 : decode cX2_source 6 = .ok (.if_icmp .ne 6, 3) := by decide +kernel
theorem dX2_source_9 : decode cX2_source 9 = .ok (.bipush (-2), 2) := by decide +kernel
theorem dX2_source_11 : decode cX2_source 11 = .ok (.ireturn, 1) := by decide +kernel
theorem dX2_source_12 : decode cX2_source 12 = .ok (.iload_n 1, 1) := by decide +kernel
theorem dX2_source_13 : decode cX2_source 13 = .ok (.ifCond .lt 21, 3) := by decide +kernel
theorem dX2_source_16 : decode cX2_source 16 = .ok (.iload_n 1, 1) := by decide +kernel
theorem dX2_source_17 : decode cX2_source 17 = .ok (.bipush 16, 2) := by decide +kernel
theorem dX2_source_19 : decode cX2_source 19 = .ok (.idiv, 1) := by decide +kernel
theorem dX2_source_20 : decode cX2_source 20 = .ok (.bipush 9, 2) := by decide +kernel
theorem dX2_source_22 : decode cX2_source 22 = .ok (.if_icmp .gt 12, 3) := by decide +kernel
theorem dX2_source_25 : decode cX2_source 25 = .ok (.iload_n 1, 1) := by decide +kernel
theorem dX2_source_26 : decode cX2_source 26 = .ok (.bipush 16, 2) := by decide +kernel
theorem dX2_source_28 : decode cX2_source 28 = .ok (.irem, 1) := by decide +kernel
theorem dX2_source_29 : decode cX2_source 29 = .ok (.bipush 12, 2) := by decide +kernel
theorem dX2_source_31 : decode cX2_source 31 = .ok (.if_icmp .le 5, 3) := by decide +kernel
theorem dX2_source_34 : decode cX2_source 34 = .ok (.iconst (-1), 1) := by decide +kernel
theorem dX2_source_35 : decode cX2_source 35 = .ok (.ireturn, 1) := by decide +kernel
theorem dX2_source_36 : decode cX2_source 36 = .ok (.aload_n 0, 1) := by decide +kernel
theorem dX2_source_37 : decode cX2_source 37 = .ok (.getfield 39, 3) := by decide +kernel
theorem dX2_source_40 : decode cX2_source 40 = .ok (.iload_n 1, 1) := by decide +kernel
theorem dX2_source_41 : decode cX2_source 41 = .ok (.bipush 16, 2) := by decide +kernel
theorem dX2_source_43 : decode cX2_source 43 = .ok (.idiv, 1) := by decide +kernel
theorem dX2_source_44 : decode cX2_source 44 = .ok (.baload, 1) := by decide +kernel
theorem dX2_source_45 : decode cX2_source 45 = .ok (.ifCond .eq 6, 3) := by decide +kernel
theorem dX2_source_48 : decode cX2_source 48 = .ok (.bipush (-3), 2) := by decide +kernel
theorem dX2_source_50 : decode cX2_source 50 = .ok (.ireturn, 1) := by decide +kernel
theorem dX2_source_51 : decode cX2_source 51 = .ok (.aload_n 0, 1) := by decide +kernel
theorem dX2_source_52 : decode cX2_source 52 = .ok (.getfield 39, 3) := by decide +kernel
theorem dX2_source_55 : decode cX2_source 55 = .ok (.iload_n 1, 1) := by decide +kernel
theorem dX2_source_56 : decode cX2_source 56 = .ok (.bipush 16, 2) := by decide +kernel
theorem dX2_source_58 : decode cX2_source 58 = .ok (.idiv, 1) := by decide +kernel
theorem dX2_source_59 : decode cX2_source 59 = .ok (.iconst 1, 1) := by decide +kernel
theorem dX2_source_60 : decode cX2_source 60 = .ok (.bastore, 1) := by decide +kernel
theorem dX2_source_61 : decode cX2_source 61 = .ok (.aload_n 0, 1) := by decide +kernel
theorem dX2_source_62 : decode cX2_source 62 = .ok (.getfield 29, 3) := by decide +kernel
theorem dX2_source_65 : decode cX2_source 65 = .ok (.aload_n 0, 1) := by decide +kernel
theorem dX2_source_66 : decode cX2_source 66 = .ok (.getfield 7, 3) := by decide +kernel
theorem dX2_source_69 : decode cX2_source 69 = .ok (.iload_n 2, 1) := by decide +kernel
theorem dX2_source_70 : decode cX2_source 70 = .ok (.iastore, 1) := by decide +kernel
theorem dX2_source_71 : decode cX2_source 71 = .ok (.aload_n 0, 1) := by decide +kernel
theorem dX2_source_72 : decode cX2_source 72 = .ok (.getfield 32, 3) := by decide +kernel
theorem dX2_source_75 : decode cX2_source 75 = .ok (.aload_n 0, 1) := by decide +kernel
theorem dX2_source_76 : decode cX2_source 76 = .ok (.getfield 7, 3) := by decide +kernel
theorem dX2_source_79 : decode cX2_source 79 = .ok (.iload_n 3, 1) := by decide +kernel
theorem dX2_source_80 : decode cX2_source 80 = .ok (.iastore, 1) := by decide +kernel
theorem dX2_source_81 : decode cX2_source 81 = .ok (.aload_n 0, 1) := by decide +kernel
theorem dX2_source_82 : decode cX2_source 82 = .ok (.iconst 0, 1) := by decide +kernel
theorem dX2_source_83 : decode cX2_source 83 = .ok (.iconst 0, 1) := by decide +kernel
theorem dX2_source_84 : decode cX2_source 84 = .ok (.iload_n 1, 1) := by decide +kernel
theorem dX2_source_85 : decode cX2_source 85 = .ok (.bipush 16, 2) := by decide +kernel
theorem dX2_source_87 : decode cX2_source 87 = .ok (.irem, 1) := by decide +kernel
theorem dX2_source_88 : decode cX2_source 88 = .ok (.iload_n 1, 1) := by decide +kernel
theorem dX2_source_89 : decode cX2_source 89 = .ok (.bipush 16, 2) := by decide +kernel
theorem dX2_source_91 : decode cX2_source 91 = .ok (.idiv, 1) := by decide +kernel
theorem dX2_source_92 : decode cX2_source 92 = .ok (.iconst 0, 1) := by decide +kernel
theorem dX2_source_93 : decode cX2_source 93 = .ok (.invokevirtual 51, 3) := by decide +kernel
theorem dX2_source_96 : decode cX2_source 96 = .ok (.ireturn, 1) := by decide +kernel
theorem dX2_addProcess_0 : decode cX2_addProcess 0 = .ok (.aload_n 0, 1) := by decide +kernel
theorem dX2_addProcess_1 : decode cX2_addProcess 1 = .ok (.getfield 13, 3) := by decide +kernel
theorem dX2_addProcess_4 : decode cX2_addProcess 4 = .ok (.aload_n 0, 1) := by decide +kernel
theorem dX2_addProcess_5 : decode cX2_addProcess 5 = .ok (.getfield 7, 3) := by decide +kernel
theorem dX2_addProcess_8 : decode cX2_addProcess 8 = .ok (.iload_n 1, 1) := by decide +kernel
theorem dX2_addProcess_9 : decode cX2_addProcess 9 = .ok (.iastore, 1) := by decide +kernel
theorem dX2_addProcess_10 : decode cX2_addProcess 10 = .ok (.aload_n 0, 1) := by decide +kernel
theorem dX2_addProcess_11 : decode cX2_addProcess 11 = .ok (.getfield 17, 3) := by decide +kernel
theorem dX2_addProcess_14 : decode cX2_addProcess 14 = .ok (.aload_n 0, 1) := by decide +kernel
theorem dX2_addProcess_15 : decode cX2_addProcess 15 = .ok (.getfield 7, 3) := by decide +kernel
theorem dX2_addProcess_18 : decode cX2_addProcess 18 = .ok (.iload_n 2, 1) := by decide +kernel
theorem dX2_addProcess_19 : decode cX2_addProcess 19 = .ok (.iastore, 1) := by decide +kernel
theorem dX2_addProcess_20 : decode cX2_addProcess 20 = .ok (.aload_n 0, 1) := by decide +kernel
theorem dX2_addProcess_21 : decode cX2_addProcess 21 = .ok (.getfield 20, 3) := by decide +kernel
theorem dX2_addProcess_24 : decode cX2_addProcess 24 = .ok (.aload_n 0, 1) := by decide +kernel
theorem dX2_addProcess_25 : decode cX2_addProcess 25 = .ok (.getfield 7, 3) := by decide +kernel
theorem dX2_addProcess_28 : decode cX2_addProcess 28 = .ok (.iload_n 3, 1) := by decide +kernel
theorem dX2_addProcess_29 : decode cX2_addProcess 29 = .ok (.iastore, 1) := by decide +kernel
theorem dX2_addProcess_30 : decode cX2_addProcess 30 = .ok (.aload_n 0, 1) := by decide +kernel
theorem dX2_addProcess_31 : decode cX2_addProcess 31 = .ok (.getfield 23, 3) := by decide +kernel
theorem dX2_addProcess_34 : decode cX2_addProcess 34 = .ok (.aload_n 0, 1) := by decide +kernel
theorem dX2_addProcess_35 : decode cX2_addProcess 35 = .ok (.getfield 7, 3) := by decide +kernel
theorem dX2_addProcess_38 : decode cX2_addProcess 38 = .ok (.iload 4, 2) := by decide +kernel
theorem dX2_addProcess_40 : decode cX2_addProcess 40 = .ok (.iastore, 1) := by decide +kernel
theorem dX2_addProcess_41 : decode cX2_addProcess 41 = .ok (.aload_n 0, 1) := by decide +kernel
theorem dX2_addProcess_42 : decode cX2_addProcess 42 = .ok (.getfield 26, 3) := by decide +kernel
theorem dX2_addProcess_45 : decode cX2_addProcess 45 = .ok (.aload_n 0, 1) := by decide +kernel
theorem dX2_addProcess_46 : decode cX2_addProcess 46 = .ok (.getfield 7, 3) := by decide +kernel
theorem dX2_addProcess_49 : decode cX2_addProcess 49 = .ok (.iload 5, 2) := by decide +kernel
theorem dX2_addProcess_51 : decode cX2_addProcess 51 = .ok (.iastore, 1) := by decide +kernel
theorem dX2_addProcess_52 : decode cX2_addProcess 52 = .ok (.aload_n 0, 1) := by decide +kernel
theorem dX2_addProcess_53 : decode cX2_addProcess 53 = .ok (.dup, 1) := by decide +kernel
theorem dX2_addProcess_54 : decode cX2_addProcess 54 = .ok (.getfield 7, 3) := by decide +kernel
theorem dX2_addProcess_57 : decode cX2_addProcess 57 = .ok (.iconst 1, 1) := by decide +kernel
theorem dX2_addProcess_58 : decode cX2_addProcess 58 = .ok (.iadd, 1) := by decide +kernel
theorem dX2_addProcess_59 : decode cX2_addProcess 59 = .ok (.putfield 7, 3) := by decide +kernel
theorem dX2_addProcess_62 : decode cX2_addProcess 62 = .ok (.aload_n 0, 1) := by decide +kernel
theorem dX2_addProcess_63 : decode cX2_addProcess 63 = .ok (.getfield 7, 3) := by decide +kernel
theorem dX2_addProcess_66 : decode cX2_addProcess 66 = .ok (.iconst 1, 1) := by decide +kernel
theorem dX2_addProcess_67 : decode cX2_addProcess 67 = .ok (.isub, 1) := by decide +kernel
theorem dX2_addProcess_68 : decode cX2_addProcess 68 = .ok (.ireturn, 1) := by decide +kernel
theorem dX2_process_0 : decode cX2_process 0 = .ok (.aload_n 0, 1) := by decide +kernel
theorem dX2_process_1 : decode cX2_process 1 = .ok (.getfield 7, 3) := by decide +kernel
theorem dX2_process_4 : decode cX2_process 4 = .ok (.bipush 8, 2) := by decide +kernel
theorem dX2_process_6 : decode cX2_process 6 = .ok (.if_icmp .ne 6, 3) := by decide +kernel
theorem dX2_process_9 : decode cX2_process 9 = .ok (.bipush (-2), 2) := by decide +kernel
theorem dX2_process_11 : decode cX2_process 11 = .ok (.ireturn, 1) := by decide +kernel
theorem dX2_process_12 : decode cX2_process 12 = .ok (.iload_n 1, 1) := by decide +kernel
theorem dX2_process_13 : decode cX2_process 13 = .ok (.iconst 1, 1) := by decide +kernel
theorem dX2_process_14 : decode cX2_process 14 = .ok (.if_icmp .lt 20, 3) := by decide +kernel
theorem dX2_process_17 : decode cX2_process 17 = .ok (.iload_n 1, 1) := by decide +kernel
theorem dX2_process_18 : decode cX2_process 18 = .ok (.bipush 7, 2) := by decide +kernel
theorem dX2_process_20 : decode cX2_process 20 = .ok (.if_icmp .gt 14, 3) := by decide +kernel
theorem dX2_process_23 : decode cX2_process 23 = .ok (.iload_n 2, 1) := by decide +kernel
theorem dX2_process_24 : decode cX2_process 24 = .ok (.ifCond .lt 10, 3) := by decide +kernel
theorem dX2_process_27 : decode cX2_process 27 = .ok (.iload_n 2, 1) := by decide +kernel
theorem dX2_process_28 : decode cX2_process 28 = .ok (.sipush 9999, 3) := by decide +kernel
theorem dX2_process_31 : decode cX2_process 31 = .ok (.if_icmp .le 5, 3) := by decide +kernel
theorem dX2_process_34 : decode cX2_process 34 = .ok (.iconst (-1), 1) := by decide +kernel
theorem dX2_process_35 : decode cX2_process 35 = .ok (.ireturn, 1) := by decide +kernel
theorem dX2_process_36 : decode cX2_process 36 = .ok (.iload_n 2, 1) := by decide +kernel
theorem dX2_process_37 : decode cX2_process 37 = .ok (.sipush 1000, 3) := by decide +kernel
theorem dX2_process_40 : decode cX2_process 40 = .ok (.idiv, 1) := by decide +kernel
theorem dX2_process_41 : decode cX2_process 41 = .ok (.istore 4, 2) := by decide +kernel
theorem dX2_process_43 : decode cX2_process 43 = .ok (.iload_n 2, 1) := by decide +kernel
theorem dX2_process_44 : decode cX2_process 44 = .ok (.bipush 100, 2) := by decide +kernel
theorem dX2_process_46 : decode cX2_process 46 = .ok (.idiv, 1) := by decide +kernel
theorem dX2_process_47 : decode cX2_process 47 = .ok (.bipush 10, 2) := by decide +kernel
theorem dX2_process_49 : decode cX2_process 49 = .ok (.irem, 1) := by decide +kernel
theorem dX2_process_50 : decode cX2_process 50 = .ok (.istore 5, 2) := by decide +kernel
theorem dX2_process_52 : decode cX2_process 52 = .ok (.iload_n 2, 1) := by decide +kernel
theorem dX2_process_53 : decode cX2_process 53 = .ok (.bipush 10, 2) := by decide +kernel
theorem dX2_process_55 : decode cX2_process 55 = .ok (.idiv, 1) := by decide +kernel
theorem dX2_process_56 : decode cX2_process 56 = .ok (.bipush 10, 2) := by decide +kernel
theorem dX2_process_58 : decode cX2_process 58 = .ok (.irem, 1) := by decide +kernel
theorem dX2_process_59 : decode cX2_process 59 = .ok (.istore 6, 2) := by decide +kernel
theorem dX2_process_61 : decode cX2_process 61 = .ok (.iload_n 2, 1) := by decide +kernel
theorem dX2_process_62 : decode cX2_process 62 = .ok (.bipush 10, 2) := by decide +kernel
theorem dX2_process_64 : decode cX2_process 64 = .ok (.irem, 1) := by decide +kernel
theorem dX2_process_65 : decode cX2_process 65 = .ok (.istore 7, 2) := by decide +kernel
theorem dX2_process_67 : decode cX2_process 67 = .ok (.aload_n 0, 1) := by decide +kernel
theorem dX2_process_68 : decode cX2_process 68 = .ok (.iload_n 1, 1) := by decide +kernel
theorem dX2_process_69 : decode cX2_process 69 = .ok (.iload 4, 2) := by decide +kernel
theorem dX2_process_71 : decode cX2_process 71 = .ok (.iload 5, 2) := by decide +kernel
theorem dX2_process_73 : decode cX2_process 73 = .ok (.iload 6, 2) := by decide +kernel
theorem dX2_process_75 : decode cX2_process 75 = .ok (.iload 7, 2) := by decide +kernel
theorem dX2_process_77 : decode cX2_process 77 = .ok (.invokevirtual 55, 3) := by decide +kernel
theorem dX2_process_80 : decode cX2_process 80 = .ok (.ifCond .eq 6, 3) := by decide +kernel
theorem dX2_process_83 : decode cX2_process 83 = .ok (.bipush (-3), 2) := by decide +kernel
theorem dX2_process_85 : decode cX2_process 85 = .ok (.ireturn, 1) := by decide +kernel
theorem dX2_process_86 : decode cX2_process 86 = .ok (.aload_n 0, 1) := by decide +kernel
theorem dX2_process_87 : decode cX2_process 87 = .ok (.getfield 35, 3) := by decide +kernel
theorem dX2_process_90 : decode cX2_process 90 = .ok (.iload 4, 2) := by decide +kernel
theorem dX2_process_92 : decode cX2_process 92 = .ok (.iconst 1, 1) := by decide +kernel
theorem dX2_process_93 : decode cX2_process 93 = .ok (.bastore, 1) := by decide +kernel
theorem dX2_process_94 : decode cX2_process 94 = .ok (.aload_n 0, 1) := by decide +kernel
theorem dX2_process_95 : decode cX2_process 95 = .ok (.getfield 39, 3) := by decide +kernel
theorem dX2_process_98 : decode cX2_process 98 = .ok (.iload 6, 2) := by decide +kernel
theorem dX2_process_100 : decode cX2_process 100 = .ok (.iconst 1, 1) := by decide +kernel
theorem dX2_process_101 : decode cX2_process 101 = .ok (.bastore, 1) := by decide +kernel
theorem dX2_process_102 : decode cX2_process 102 = .ok (.iload_n 1, 1) := by decide +kernel
theorem dX2_process_103 : decode cX2_process 103 = .ok (.iconst 2, 1) := by decide +kernel
theorem dX2_process_104 : decode cX2_process 104 = .ok (.if_icmp .eq 8, 3) := by decide +kernel
theorem dX2_process_107 : decode cX2_process 107 = .ok (.iload_n 1, 1) := by decide +kernel
theorem dX2_process_108 : decode cX2_process 108 = .ok (.iconst 5, 1) := by decide +kernel
theorem dX2_process_109 : decode cX2_process 109 = .ok (.if_icmp .ne 11, 3) := by decide +kernel
theorem dX2_process_112 : decode cX2_process 112 = .ok (.aload_n 0, 1) := by decide +kernel
theorem dX2_process_113 : decode cX2_process 113 = .ok (.getfield 35, 3) := by decide +kernel
theorem dX2_process_116 : decode cX2_process 116 = .ok (.iload 5, 2) := by decide +kernel
theorem dX2_process_118 : decode cX2_process 118 = .ok (.iconst 1, 1) := by decide +kernel
theorem dX2_process_119 : decode cX2_process 119 = .ok (.bastore, 1) := by decide +kernel
theorem dX2_process_120 : decode cX2_process 120 = .ok (.iload_n 1, 1) := by decide +kernel
theorem dX2_process_121 : decode cX2_process 121 = .ok (.iconst 1, 1) := by decide +kernel
theorem dX2_process_122 : decode cX2_process 122 = .ok (.if_icmp .ne 11, 3) := by decide +kernel
theorem dX2_process_125 : decode cX2_process 125 = .ok (.aload_n 0, 1) := by decide +kernel
theorem dX2_process_126 : decode cX2_process 126 = .ok (.getfield 39, 3) := by decide +kernel
theorem dX2_process_129 : decode cX2_process 129 = .ok (.iload 7, 2) := by decide +kernel
theorem dX2_process_131 : decode cX2_process 131 = .ok (.iconst 1, 1) := by decide +kernel
theorem dX2_process_132 : decode cX2_process 132 = .ok (.bastore, 1) := by decide +kernel
theorem dX2_process_133 : decode cX2_process 133 = .ok (.aload_n 0, 1) := by decide +kernel
theorem dX2_process_134 : decode cX2_process 134 = .ok (.getfield 29, 3) := by decide +kernel
theorem dX2_process_137 : decode cX2_process 137 = .ok (.aload_n 0, 1) := by decide +kernel
theorem dX2_process_138 : decode cX2_process 138 = .ok (.getfield 7, 3) := by decide +kernel
theorem dX2_process_141 : decode cX2_process 141 = .ok (.iload_n 3, 1) := by decide +kernel
theorem dX2_process_142 : decode cX2_process 142 = .ok (.iastore, 1) := by decide +kernel
theorem dX2_process_143 : decode cX2_process 143 = .ok (.aload_n 0, 1) := by decide +kernel
theorem dX2_process_144 : decode cX2_process 144 = .ok (.iload_n 1, 1) := by decide +kernel
theorem dX2_process_145 : decode cX2_process 145 = .ok (.iload 4, 2) := by decide +kernel
theorem dX2_process_147 : decode cX2_process 147 = .ok (.iload 5, 2) := by decide +kernel
theorem dX2_process_149 : decode cX2_process 149 = .ok (.iload 6, 2) := by decide +kernel
theorem dX2_process_151 : decode cX2_process 151 = .ok (.iload 7, 2) := by decide +kernel
theorem dX2_process_153 : decode cX2_process 153 = .ok (.invokevirtual 51, 3) := by decide +kernel
theorem dX2_process_156 : decode cX2_process 156 = .ok (.ireturn, 1) := by decide +kernel
theorem dX2_isTaken_0 : decode cX2_isTaken 0 = .ok (.iload_n 1, 1) := by decide +kernel
theorem dX2_isTaken_1 : decode cX2_isTaken 1 = .ok (.iconst 2, 1) := by decide +kernel
theorem dX2_isTaken_2 : decode cX2_isTaken 2 = .ok (.if_icmp .eq 8, 3) := by decide +kernel
theorem dX2_isTaken_5 : decode cX2_isTaken 5 = .ok (.iload_n 1, 1) := by decide +kernel
theorem dX2_isTaken_6 : decode cX2_isTaken 6 = .ok (.iconst 5, 1) := by decide +kernel
theorem dX2_isTaken_7 : decode cX2_isTaken 7 = .ok (.if_icmp .ne 7, 3) := by decide +kernel
theorem dX2_isTaken_10 : decode cX2_isTaken 10 = .ok (.iconst 1, 1) := by decide +kernel
theorem dX2_isTaken_11 : decode cX2_isTaken 11 = .ok (.goto 4, 3) := by decide +kernel
theorem dX2_isTaken_14 : decode cX2_isTaken 14 = .ok (.iconst 0, 1) := by decide +kernel
theorem dX2_isTaken_15 : decode cX2_isTaken 15 = .ok (.istore 6, 2) := by decide +kernel
theorem dX2_isTaken_17 : decode cX2_isTaken 17 = .ok (.iload_n 1, 1) := by decide +kernel
theorem dX2_isTaken_18 : decode cX2_isTaken 18 = .ok (.iconst 1, 1) := by decide +kernel
theorem dX2_isTaken_19 : decode cX2_isTaken 19 = .ok (.if_icmp .ne 7, 3) := by decide +kernel
theorem dX2_isTaken_22 : decode cX2_isTaken 22 = .ok (.iconst 1, 1) := by decide +kernel
theorem dX2_isTaken_23 : decode cX2_isTaken 23 = .ok (.goto 4, 3) := by decide +kernel
theorem dX2_isTaken_26 : decode cX2_isTaken 26 = .ok (.iconst 0, 1) := by decide +kernel
theorem dX2_isTaken_27 : decode cX2_isTaken 27 = .ok (.istore 7, 2) := by decide +kernel
theorem dX2_isTaken_29 : decode cX2_isTaken 29 = .ok (.aload_n 0, 1) := by decide +kernel
theorem dX2_isTaken_30 : decode cX2_isTaken 30 = .ok (.getfield 35, 3) := by decide +kernel
theorem dX2_isTaken_33 : decode cX2_isTaken 33 = .ok (.iload_n 2, 1) := by decide +kernel
theorem dX2_isTaken_34 : decode cX2_isTaken 34 = .ok (.baload, 1) := by decide +kernel
theorem dX2_isTaken_35 : decode cX2_isTaken 35 = .ok (.ifCond .ne 42, 3) := by decide +kernel
theorem dX2_isTaken_38 : decode cX2_isTaken 38 = .ok (.iload 6, 2) := by decide +kernel
theorem dX2_isTaken_40 : decode cX2_isTaken 40 = .ok (.ifCond .eq 12, 3) := by decide +kernel
theorem dX2_isTaken_43 : decode cX2_isTaken 43 = .ok (.aload_n 0, 1) := by decide +kernel
theorem dX2_isTaken_44 : decode cX2_isTaken 44 = .ok (.getfield 35, 3) := by decide +kernel
theorem dX2_isTaken_47 : decode cX2_isTaken 47 = .ok (.iload_n 3, 1) := by decide +kernel
theorem dX2_isTaken_48 : decode cX2_isTaken 48 = .ok (.baload, 1) := by decide +kernel
theorem dX2_isTaken_49 : decode cX2_isTaken 49 = .ok (.ifCond .ne 28, 3) := by decide +kernel
theorem dX2_isTaken_52 : decode cX2_isTaken 52 = .ok (.aload_n 0, 1) := by decide +kernel
theorem dX2_isTaken_53 : decode cX2_isTaken 53 = .ok (.getfield 39, 3) := by decide +kernel
theorem dX2_isTaken_56 : decode cX2_isTaken 56 = .ok (.iload 4, 2) := by decide +kernel
theorem dX2_isTaken_58 : decode cX2_isTaken 58 = .ok (.baload, 1) := by decide +kernel
theorem dX2_isTaken_59 : decode cX2_isTaken 59 = .ok (.ifCond .ne 18, 3) := by decide +kernel
theorem dX2_isTaken_62 : decode cX2_isTaken 62 = .ok (.iload 7, 2) := by decide +kernel
theorem dX2_isTaken_64 : decode cX2_isTaken 64 = .ok (.ifCond .eq 15, 3) := by decide +kernel
theorem dX2_isTaken_67 : decode cX2_isTaken 67 = .ok (.aload_n 0, 1) := by decide +kernel
theorem dX2_isTaken_68 : decode cX2_isTaken 68 = .ok (.getfield 39, 3) := by decide +kernel
theorem dX2_isTaken_71 : decode cX2_isTaken 71 = .ok (.iload 5, 2) := by decide +kernel
theorem dX2_isTaken_73 : decode cX2_isTaken 73 = .ok (.baload, 1) := by decide +kernel
theorem dX2_isTaken_74 : decode cX2_isTaken 74 = .ok (.ifCond .eq 5, 3) := by decide +kernel
theorem dX2_isTaken_77 : decode cX2_isTaken 77 = .ok (.iconst 1, 1) := by decide +kernel
theorem dX2_isTaken_78 : decode cX2_isTaken 78 = .ok (.ireturn, 1) := by decide +kernel
theorem dX2_isTaken_79 : decode cX2_isTaken 79 = .ok (.iload 6, 2) := by decide +kernel
theorem dX2_isTaken_81 : decode cX2_isTaken 81 = .ok (.ifCond .eq 8, 3) := by decide +kernel
theorem dX2_isTaken_84 : decode cX2_isTaken 84 = .ok (.iload_n 2, 1) := by decide +kernel
theorem dX2_isTaken_85 : decode cX2_isTaken 85 = .ok (.iload_n 3, 1) := by decide +kernel
theorem dX2_isTaken_86 : decode cX2_isTaken 86 = .ok (.if_icmp .eq 15, 3) := by decide +kernel
theorem dX2_isTaken_89 : decode cX2_isTaken 89 = .ok (.iload 7, 2) := by decide +kernel
theorem dX2_isTaken_91 : decode cX2_isTaken 91 = .ok (.ifCond .eq 14, 3) := by decide +kernel
theorem dX2_isTaken_94 : decode cX2_isTaken 94 = .ok (.iload 4, 2) := by decide +kernel
theorem dX2_isTaken_96 : decode cX2_isTaken 96 = .ok (.iload 5, 2) := by decide +kernel
theorem dX2_isTaken_98 : decode cX2_isTaken 98 = .ok (.if_icmp .ne 7, 3) := by decide +kernel
theorem dX2_isTaken_101 : decode cX2_isTaken 101 = .ok (.iconst 1, 1) := by decide +kernel
theorem dX2_isTaken_102 : decode cX2_isTaken 102 = .ok (.goto 4, 3) := by decide +kernel
theorem dX2_isTaken_105 : decode cX2_isTaken 105 = .ok (.iconst 0, 1) := by decide +kernel
theorem dX2_isTaken_106 : decode cX2_isTaken 106 = .ok (.ireturn, 1) := by decide +kernel
theorem dX2_clear_0 : decode cX2_clear 0 = .ok (.aload_n 0, 1) := by decide +kernel
theorem dX2_clear_1 : decode cX2_clear 1 = .ok (.getfield 7, 3) := by decide +kernel
theorem dX2_clear_4 : decode cX2_clear 4 = .ok (.istore_n 1, 1) := by decide +kernel
theorem dX2_clear_5 : decode cX2_clear 5 = .ok (.aload_n 0, 1) := by decide +kernel
theorem dX2_clear_6 : decode cX2_clear 6 = .ok (.iconst 0, 1) := by decide +kernel
theorem dX2_clear_7 : decode cX2_clear 7 = .ok (.putfield 7, 3) := by decide +kernel
theorem dX2_clear_10 : decode cX2_clear 10 = .ok (.iconst 0, 1) := by decide +kernel
theorem dX2_clear_11 : decode cX2_clear 11 = .ok (.istore_n 2, 1) := by decide +kernel
theorem dX2_clear_12 : decode cX2_clear 12 = .ok (.iload_n 2, 1) := by decide +kernel
theorem dX2_clear_13 : decode cX2_clear 13 = .ok (.bipush 10, 2) := by decide +kernel
theorem dX2_clear_15 : decode cX2_clear 15 = .ok (.if_icmp .ge 23, 3) := by decide +kernel
theorem dX2_clear_18 : decode cX2_clear 18 = .ok (.aload_n 0, 1) := by decide +kernel
theorem dX2_clear_19 : decode cX2_clear 19 = .ok (.getfield 35, 3) := by decide +kernel
theorem dX2_clear_22 : decode cX2_clear 22 = .ok (.iload_n 2, 1) := by decide +kernel
theorem dX2_clear_23 : decode cX2_clear 23 = .ok (.iconst 0, 1) := by decide +kernel
theorem dX2_clear_24 : decode cX2_clear 24 = .ok (.bastore, 1) := by decide +kernel
theorem dX2_clear_25 : decode cX2_clear 25 = .ok (.aload_n 0, 1) := by decide +kernel
theorem dX2_clear_26 : decode cX2_clear 26 = .ok (.getfield 39, 3) := by decide +kernel
theorem dX2_clear_29 : decode cX2_clear 29 = .ok (.iload_n 2, 1) := by decide +kernel
theorem dX2_clear_30 : decode cX2_clear 30 = .ok (.iconst 0, 1) := by decide +kernel
theorem dX2_clear_31 : decode cX2_clear 31 = .ok (.bastore, 1) := by decide +kernel
theorem dX2_clear_32 : decode cX2_clear 32 = .ok (.iinc 2 1, 3) := by decide +kernel
theorem dX2_clear_35 : decode cX2_clear 35 = .ok (.goto (-23), 3) := by decide +kernel
theorem dX2_clear_38 : decode cX2_clear 38 = .ok (.iload_n 1, 1) := by decide +kernel
theorem dX2_clear_39 : decode cX2_clear 39 = .ok (.ireturn, 1) := by decide +kernel
theorem dX2_length_0 : decode cX2_length 0 = .ok (.aload_n 0, 1) := by decide +kernel
theorem dX2_length_1 : decode cX2_length 1 = .ok (.iload_n 1, 1) := by decide +kernel
theorem dX2_length_2 : decode cX2_length 2 = .ok (.invokevirtual 81, 3) := by decide +kernel
theorem dX2_length_5 : decode cX2_length 5 = .ok (.ifCond .ne 5, 3) := by decide +kernel
theorem dX2_length_8 : decode cX2_length 8 = .ok (.iconst (-1), 1) := by decide +kernel
theorem dX2_length_9 : decode cX2_length 9 = .ok (.ireturn, 1) := by decide +kernel
theorem dX2_length_10 : decode cX2_length 10 = .ok (.aload_n 0, 1) := by decide +kernel
theorem dX2_length_11 : decode cX2_length 11 = .ok (.invokevirtual 84, 3) := by decide +kernel
theorem dX2_length_14 : decode cX2_length 14 = .ok (.aload_n 0, 1) := by decide +kernel
theorem dX2_length_15 : decode cX2_length 15 = .ok (.getfield 42, 3) := by decide +kernel
theorem dX2_length_18 : decode cX2_length 18 = .ok (.iload_n 1, 1) := by decide +kernel
theorem dX2_length_19 : decode cX2_length 19 = .ok (.iaload, 1) := by decide +kernel
theorem dX2_length_20 : decode cX2_length 20 = .ok (.ireturn, 1) := by decide +kernel
theorem dX2_isChannel_0 : decode cX2_isChannel 0 = .ok (.iload_n 1, 1) := by decide +kernel
theorem dX2_isChannel_1 : decode cX2_isChannel 1 = .ok (.ifCond .lt 13, 3) := by decide +kernel
theorem dX2_isChannel_4 : decode cX2_isChannel 4 = .ok (.iload_n 1, 1) := by decide +kernel
theorem dX2_isChannel_5 : decode cX2_isChannel 5 = .ok (.bipush 9, 2) := by decide +kernel
theorem dX2_isChannel_7 : decode cX2_isChannel 7 = .ok (.if_icmp .gt 7, 3) := by decide +kernel
theorem dX2_isChannel_10 : decode cX2_isChannel 10 = .ok (.iconst 1, 1) := by decide +kernel
theorem dX2_isChannel_11 : decode cX2_isChannel 11 = .ok (.goto 4, 3) := by decide +kernel
theorem dX2_isChannel_14 : decode cX2_isChannel 14 = .ok (.iconst 0, 1) := by decide +kernel
theorem dX2_isChannel_15 : decode cX2_isChannel 15 = .ok (.ireturn, 1) := by decide +kernel
theorem dX2_settle_0 : decode cX2_settle 0 = .ok (.iconst 0, 1) := by decide +kernel
theorem dX2_settle_1 : decode cX2_settle 1 = .ok (.istore_n 1, 1) := by decide +kernel
theorem dX2_settle_2 : decode cX2_settle 2 = .ok (.iload_n 1, 1) := by decide +kernel
theorem dX2_settle_3 : decode cX2_settle 3 = .ok (.bipush 10, 2) := by decide +kernel
theorem dX2_settle_5 : decode cX2_settle 5 = .ok (.if_icmp .ge 16, 3) := by decide +kernel
theorem dX2_settle_8 : decode cX2_settle 8 = .ok (.aload_n 0, 1) := by decide +kernel
theorem dX2_settle_9 : decode cX2_settle 9 = .ok (.getfield 42, 3) := by decide +kernel
theorem dX2_settle_12 : decode cX2_settle 12 = .ok (.iload_n 1, 1) := by decide +kernel
theorem dX2_settle_13 : decode cX2_settle 13 = .ok (.iconst 0, 1) := by decide +kernel
theorem dX2_settle_14 : decode cX2_settle 14 = .ok (.iastore, 1) := by decide +kernel
theorem dX2_settle_15 : decode cX2_settle 15 = .ok (.iinc 1 1, 3) := by decide +kernel
theorem dX2_settle_18 : decode cX2_settle 18 = .ok (.goto (-16), 3) := by decide +kernel
theorem dX2_settle_21 : decode cX2_settle 21 = .ok (.iconst 1, 1) := by decide +kernel
theorem dX2_settle_22 : decode cX2_settle 22 = .ok (.istore_n 1, 1) := by decide +kernel
theorem dX2_settle_23 : decode cX2_settle 23 = .ok (.iconst 0, 1) := by decide +kernel
theorem dX2_settle_24 : decode cX2_settle 24 = .ok (.istore_n 2, 1) := by decide +kernel
theorem dX2_settle_25 : decode cX2_settle 25 = .ok (.iload_n 2, 1) := by decide +kernel
theorem dX2_settle_26 : decode cX2_settle 26 = .ok (.sipush 201, 3) := by decide +kernel
theorem dX2_settle_29 : decode cX2_settle 29 = .ok (.if_icmp .ge 76, 3) := by decide +kernel
theorem dX2_settle_32 : decode cX2_settle 32 = .ok (.iload_n 1, 1) := by decide +kernel
theorem dX2_settle_33 : decode cX2_settle 33 = .ok (.ifCond .eq 72, 3) := by decide +kernel
theorem dX2_settle_36 : decode cX2_settle 36 = .ok (.iconst 0, 1) := by decide +kernel
theorem dX2_settle_37 : decode cX2_settle 37 = .ok (.istore_n 1, 1) := by decide +kernel
theorem dX2_settle_38 : decode cX2_settle 38 = .ok (.iconst 0, 1) := by decide +kernel
theorem dX2_settle_39 : decode cX2_settle 39 = .ok (.istore_n 3, 1) := by decide +kernel
theorem dX2_settle_40 : decode cX2_settle 40 = .ok (.iload_n 3, 1) := by decide +kernel
theorem dX2_settle_41 : decode cX2_settle 41 = .ok (.aload_n 0, 1) := by decide +kernel
theorem dX2_settle_42 : decode cX2_settle 42 = .ok (.getfield 7, 3) := by decide +kernel
theorem dX2_settle_45 : decode cX2_settle 45 = .ok (.if_icmp .ge 54, 3) := by decide +kernel
theorem dX2_settle_48 : decode cX2_settle 48 = .ok (.aload_n 0, 1) := by decide +kernel
theorem dX2_settle_49 : decode cX2_settle 49 = .ok (.iload_n 3, 1) := by decide +kernel
theorem dX2_settle_50 : decode cX2_settle 50 = .ok (.invokevirtual 74, 3) := by decide +kernel
theorem dX2_settle_53 : decode cX2_settle 53 = .ok (.aload_n 0, 1) := by decide +kernel
theorem dX2_settle_54 : decode cX2_settle 54 = .ok (.aload_n 0, 1) := by decide +kernel
theorem dX2_settle_55 : decode cX2_settle 55 = .ok (.getfield 23, 3) := by decide +kernel
theorem dX2_settle_58 : decode cX2_settle 58 = .ok (.iload_n 3, 1) := by decide +kernel
theorem dX2_settle_59 : decode cX2_settle 59 = .ok (.iaload, 1) := by decide +kernel
theorem dX2_settle_60 : decode cX2_settle 60 = .ok (.invokevirtual 77, 3) := by decide +kernel
theorem dX2_settle_63 : decode cX2_settle 63 = .ok (.ifCond .eq 5, 3) := by decide +kernel
theorem dX2_settle_66 : decode cX2_settle 66 = .ok (.iconst 1, 1) := by decide +kernel
theorem dX2_settle_67 : decode cX2_settle 67 = .ok (.istore_n 1, 1) := by decide +kernel
theorem dX2_settle_68 : decode cX2_settle 68 = .ok (.aload_n 0, 1) := by decide +kernel
theorem dX2_settle_69 : decode cX2_settle 69 = .ok (.getfield 13, 3) := by decide +kernel
theorem dX2_settle_72 : decode cX2_settle 72 = .ok (.iload_n 3, 1) := by decide +kernel
theorem dX2_settle_73 : decode cX2_settle 73 = .ok (.iaload, 1) := by decide +kernel
theorem dX2_settle_74 : decode cX2_settle 74 = .ok (.iconst 1, 1) := by decide +kernel
theorem dX2_settle_75 : decode cX2_settle 75 = .ok (.if_icmp .ne 18, 3) := by decide +kernel
theorem dX2_settle_78 : decode cX2_settle 78 = .ok (.aload_n 0, 1) := by decide +kernel
theorem dX2_settle_79 : decode cX2_settle 79 = .ok (.aload_n 0, 1) := by decide +kernel
theorem dX2_settle_80 : decode cX2_settle 80 = .ok (.getfield 26, 3) := by decide +kernel
theorem dX2_settle_83 : decode cX2_settle 83 = .ok (.iload_n 3, 1) := by decide +kernel
theorem dX2_settle_84 : decode cX2_settle 84 = .ok (.iaload, 1) := by decide +kernel
theorem dX2_settle_85 : decode cX2_settle 85 = .ok (.invokevirtual 77, 3) := by decide +kernel
theorem dX2_settle_88 : decode cX2_settle 88 = .ok (.ifCond .eq 5, 3) := by decide +kernel
theorem dX2_settle_91 : decode cX2_settle 91 = .ok (.iconst 1, 1) := by decide +kernel
theorem dX2_settle_92 : decode cX2_settle 92 = .ok (.istore_n 1, 1) := by decide +kernel
theorem dX2_settle_93 : decode cX2_settle 93 = .ok (.iinc 3 1, 3) := by decide +kernel
theorem dX2_settle_96 : decode cX2_settle 96 = .ok (.goto (-56), 3) := by decide +kernel
theorem dX2_settle_99 : decode cX2_settle 99 = .ok (.iinc 2 1, 3) := by decide +kernel
theorem dX2_settle_102 : decode cX2_settle 102 = .ok (.goto (-77), 3) := by decide +kernel
theorem dX2_settle_105 : decode cX2_settle 105 = .ok (.return_, 1) := by decide +kernel
theorem dX2_work_0 : decode cX2_work 0 = .ok (.aload_n 0, 1) := by decide +kernel
theorem dX2_work_1 : decode cX2_work 1 = .ok (.getfield 17, 3) := by decide +kernel
theorem dX2_work_4 : decode cX2_work 4 = .ok (.iload_n 1, 1) := by decide +kernel
theorem dX2_work_5 : decode cX2_work 5 = .ok (.iaload, 1) := by decide +kernel
theorem dX2_work_6 : decode cX2_work 6 = .ok (.istore_n 2, 1) := by decide +kernel
theorem dX2_work_7 : decode cX2_work 7 = .ok (.iconst 0, 1) := by decide +kernel
theorem dX2_work_8 : decode cX2_work 8 = .ok (.istore_n 3, 1) := by decide +kernel
theorem dX2_work_9 : decode cX2_work 9 = .ok (.aload_n 0, 1) := by decide +kernel
theorem dX2_work_10 : decode cX2_work 10 = .ok (.iconst 0, 1) := by decide +kernel
theorem dX2_work_11 : decode cX2_work 11 = .ok (.putfield 59, 3) := by decide +kernel
theorem dX2_work_14 : decode cX2_work 14 = .ok (.aload_n 0, 1) := by decide +kernel
theorem dX2_work_15 : decode cX2_work 15 = .ok (.getfield 13, 3) := by decide +kernel
theorem dX2_work_18 : decode cX2_work 18 = .ok (.iload_n 1, 1) := by decide +kernel
theorem dX2_work_19 : decode cX2_work 19 = .ok (.iaload, 1) := by decide +kernel
theorem dX2_work_20 : decode cX2_work 20 = .ok (.ifCond .ne 43, 3) := by decide +kernel
theorem dX2_work_23 : decode cX2_work 23 = .ok (.iconst 0, 1) := by decide +kernel
theorem dX2_work_24 : decode cX2_work 24 = .ok (.istore 4, 2) := by decide +kernel
theorem dX2_work_26 : decode cX2_work 26 = .ok (.iload 4, 2) := by decide +kernel
theorem dX2_work_28 : decode cX2_work 28 = .ok (.aload_n 0, 1) := by decide +kernel
theorem dX2_work_29 : decode cX2_work 29 = .ok (.getfield 20, 3) := by decide +kernel
theorem dX2_work_32 : decode cX2_work 32 = .ok (.iload_n 1, 1) := by decide +kernel
theorem dX2_work_33 : decode cX2_work 33 = .ok (.iaload, 1) := by decide +kernel
theorem dX2_work_34 : decode cX2_work 34 = .ok (.if_icmp .ge 29, 3) := by decide +kernel
theorem dX2_work_37 : decode cX2_work 37 = .ok (.aload_n 0, 1) := by decide +kernel
theorem dX2_work_38 : decode cX2_work 38 = .ok (.aload_n 0, 1) := by decide +kernel
theorem dX2_work_39 : decode cX2_work 39 = .ok (.getfield 29, 3) := by decide +kernel
theorem dX2_work_42 : decode cX2_work 42 = .ok (.iload_n 1, 1) := by decide +kernel
theorem dX2_work_43 : decode cX2_work 43 = .ok (.iaload, 1) := by decide +kernel
theorem dX2_work_44 : decode cX2_work 44 = .ok (.iload 4, 2) := by decide +kernel
theorem dX2_work_46 : decode cX2_work 46 = .ok (.aload_n 0, 1) := by decide +kernel
theorem dX2_work_47 : decode cX2_work 47 = .ok (.getfield 32, 3) := by decide +kernel
theorem dX2_work_50 : decode cX2_work 50 = .ok (.iload_n 1, 1) := by decide +kernel
theorem dX2_work_51 : decode cX2_work 51 = .ok (.iaload, 1) := by decide +kernel
theorem dX2_work_52 : decode cX2_work 52 = .ok (.imul, 1) := by decide +kernel
theorem dX2_work_53 : decode cX2_work 53 = .ok (.iadd, 1) := by decide +kernel
theorem dX2_work_54 : decode cX2_work 54 = .ok (.invokevirtual 66, 3) := by decide +kernel
theorem dX2_work_57 : decode cX2_work 57 = .ok (.iinc 4 1, 3) := by decide +kernel
theorem dX2_work_60 : decode cX2_work 60 = .ok (.goto (-34), 3) := by decide +kernel
end
section
set_option maxRecDepth 100000
theorem dX2_work_63 : decode cX2_work 63 = .ok (.aload_n 0, 1) := by decide +kernel
theorem dX2_work_64 : decode cX2_work 64 = .ok (.getfield 13, 3) := by decide +kernel
theorem dX2_work_67 : decode cX2_work 67 = .ok (.iload_n 1, 1) := by decide +kernel
theorem dX2_work_68 : decode cX2_work 68 = .ok (.iaload, 1) := by decide +kernel
theorem dX2_work_69 : decode cX2_work 69 = .ok (.iconst 3, 1) := by decide +kernel
theorem dX2_work_70 : decode cX2_work 70 = .ok (.if_icmp .ne 13, 3) := by decide +kernel
theorem dX2_work_73 : decode cX2_work 73 = .ok (.aload_n 0, 1) := by decide +kernel
theorem dX2_work_74 : decode cX2_work 74 = .ok (.aload_n 0, 1) := by decide +kernel
theorem dX2_work_75 : decode cX2_work 75 = .ok (.getfield 29, 3) := by decide +kernel
theorem dX2_work_78 : decode cX2_work 78 = .ok (.iload_n 1, 1) := by decide +kernel
theorem dX2_work_79 : decode cX2_work 79 = .ok (.iaload, 1) := by decide +kernel
theorem dX2_work_80 : decode cX2_work 80 = .ok (.invokevirtual 66, 3) := by decide +kernel
theorem dX2_work_83 : decode cX2_work 83 = .ok (.aload_n 0, 1) := by decide +kernel
theorem dX2_work_84 : decode cX2_work 84 = .ok (.getfield 13, 3) := by decide +kernel
theorem dX2_work_87 : decode cX2_work 87 = .ok (.iload_n 1, 1) := by decide +kernel
theorem dX2_work_88 : decode cX2_work 88 = .ok (.iaload, 1) := by decide +kernel
theorem dX2_work_89 : decode cX2_work 89 = .ok (.iconst 5, 1) := by decide +kernel
theorem dX2_work_90 : decode cX2_work 90 = .ok (.if_icmp .ne 14, 3) := by decide +kernel
theorem dX2_work_93 : decode cX2_work 93 = .ok (.aload_n 0, 1) := by decide +kernel
theorem dX2_work_94 : decode cX2_work 94 = .ok (.iload_n 2, 1) := by decide +kernel
theorem dX2_work_95 : decode cX2_work 95 = .ok (.aload_n 0, 1) := by decide +kernel
theorem dX2_work_96 : decode cX2_work 96 = .ok (.getfield 20, 3) := by decide +kernel
theorem dX2_work_99 : decode cX2_work 99 = .ok (.iload_n 1, 1) := by decide +kernel
theorem dX2_work_100 : decode cX2_work 100 = .ok (.iaload, 1) := by decide +kernel
theorem dX2_work_101 : decode cX2_work 101 = .ok (.invokevirtual 70, 3) := by decide +kernel
theorem dX2_work_104 : decode cX2_work 104 = .ok (.iconst 0, 1) := by decide +kernel
theorem dX2_work_105 : decode cX2_work 105 = .ok (.istore 4, 2) := by decide +kernel
theorem dX2_work_107 : decode cX2_work 107 = .ok (.aload_n 0, 1) := by decide +kernel
theorem dX2_work_108 : decode cX2_work 108 = .ok (.getfield 13, 3) := by decide +kernel
theorem dX2_work_111 : decode cX2_work 111 = .ok (.iload_n 1, 1) := by decide +kernel
theorem dX2_work_112 : decode cX2_work 112 = .ok (.iaload, 1) := by decide +kernel
theorem dX2_work_113 : decode cX2_work 113 = .ok (.ifCond .eq 205, 3) := by decide +kernel
theorem dX2_work_116 : decode cX2_work 116 = .ok (.aload_n 0, 1) := by decide +kernel
theorem dX2_work_117 : decode cX2_work 117 = .ok (.getfield 13, 3) := by decide +kernel
theorem dX2_work_120 : decode cX2_work 120 = .ok (.iload_n 1, 1) := by decide +kernel
theorem dX2_work_121 : decode cX2_work 121 = .ok (.iaload, 1) := by decide +kernel
theorem dX2_work_122 : decode cX2_work 122 = .ok (.iconst 5, 1) := by decide +kernel
theorem dX2_work_123 : decode cX2_work 123 = .ok (.if_icmp .eq 195, 3) := by decide +kernel
theorem dX2_work_126 : decode cX2_work 126 = .ok (.iload 4, 2) := by decide +kernel
theorem dX2_work_128 : decode cX2_work 128 = .ok (.aload_n 0, 1) := by decide +kernel
theorem dX2_work_129 : decode cX2_work 129 = .ok (.getfield 42, 3) := by decide +kernel
theorem dX2_work_132 : decode cX2_work 132 = .ok (.iload_n 2, 1) := by decide +kernel
theorem dX2_work_133 : decode cX2_work 133 = .ok (.iaload, 1) := by decide +kernel
theorem dX2_work_134 : decode cX2_work 134 = .ok (.if_icmp .ge 184, 3) := by decide +kernel
theorem dX2_work_137 : decode cX2_work 137 = .ok (.aload_n 0, 1) := by decide +kernel
theorem dX2_work_138 : decode cX2_work 138 = .ok (.iload_n 2, 1) := by decide +kernel
theorem dX2_work_139 : decode cX2_work 139 = .ok (.iload 4, 2) := by decide +kernel
theorem dX2_work_141 : decode cX2_work 141 = .ok (.invokevirtual 62, 3) := by decide +kernel
theorem dX2_work_144 : decode cX2_work 144 = .ok (.istore 5, 2) := by decide +kernel
theorem dX2_work_146 : decode cX2_work 146 = .ok (.aload_n 0, 1) := by decide +kernel
theorem dX2_work_147 : decode cX2_work 147 = .ok (.aload_n 0, 1) := by decide +kernel
theorem dX2_work_148 : decode cX2_work 148 = .ok (.getfield 20, 3) := by decide +kernel
theorem dX2_work_151 : decode cX2_work 151 = .ok (.iload_n 1, 1) := by decide +kernel
theorem dX2_work_152 : decode cX2_work 152 = .ok (.iaload, 1) := by decide +kernel
theorem dX2_work_153 : decode cX2_work 153 = .ok (.iload 4, 2) := by decide +kernel
theorem dX2_work_155 : decode cX2_work 155 = .ok (.invokevirtual 62, 3) := by decide +kernel
theorem dX2_work_158 : decode cX2_work 158 = .ok (.istore 6, 2) := by decide +kernel
theorem dX2_work_160 : decode cX2_work 160 = .ok (.iload 4, 2) := by decide +kernel
theorem dX2_work_162 : decode cX2_work 162 = .ok (.ifCond .le 15, 3) := by decide +kernel
theorem dX2_work_165 : decode cX2_work 165 = .ok (.aload_n 0, 1) := by decide +kernel
theorem dX2_work_166 : decode cX2_work 166 = .ok (.iload_n 2, 1) := by decide +kernel
theorem dX2_work_167 : decode cX2_work 167 = .ok (.iload 4, 2) := by decide +kernel
theorem dX2_work_169 : decode cX2_work 169 = .ok (.iconst 1, 1) := by decide +kernel
theorem dX2_work_170 : decode cX2_work 170 = .ok (.isub, 1) := by decide +kernel
theorem dX2_work_171 : decode cX2_work 171 = .ok (.invokevirtual 62, 3) := by decide +kernel
theorem dX2_work_174 : decode cX2_work 174 = .ok (.goto 4, 3) := by decide +kernel
theorem dX2_work_177 : decode cX2_work 177 = .ok (.iconst 0, 1) := by decide +kernel
theorem dX2_work_178 : decode cX2_work 178 = .ok (.istore 7, 2) := by decide +kernel
theorem dX2_work_180 : decode cX2_work 180 = .ok (.iload_n 3, 1) := by decide +kernel
theorem dX2_work_181 : decode cX2_work 181 = .ok (.iload 5, 2) := by decide +kernel
theorem dX2_work_183 : decode cX2_work 183 = .ok (.iadd, 1) := by decide +kernel
theorem dX2_work_184 : decode cX2_work 184 = .ok (.istore_n 3, 1) := by decide +kernel
theorem dX2_work_185 : decode cX2_work 185 = .ok (.aload_n 0, 1) := by decide +kernel
theorem dX2_work_186 : decode cX2_work 186 = .ok (.getfield 13, 3) := by decide +kernel
theorem dX2_work_189 : decode cX2_work 189 = .ok (.iload_n 1, 1) := by decide +kernel
theorem dX2_work_190 : decode cX2_work 190 = .ok (.iaload, 1) := by decide +kernel
theorem dX2_work_191 : decode cX2_work 191 = .ok (.iconst 1, 1) := by decide +kernel
theorem dX2_work_192 : decode cX2_work 192 = .ok (.if_icmp .eq 35, 3) := by decide +kernel
theorem dX2_work_195 : decode cX2_work 195 = .ok (.aload_n 0, 1) := by decide +kernel
theorem dX2_work_196 : decode cX2_work 196 = .ok (.getfield 13, 3) := by decide +kernel
theorem dX2_work_199 : decode cX2_work 199 = .ok (.iload_n 1, 1) := by decide +kernel
theorem dX2_work_200 : decode cX2_work 200 = .ok (.iaload, 1) := by decide +kernel
theorem dX2_work_201 : decode cX2_work 201 = .ok (.iconst 3, 1) := by decide +kernel
theorem dX2_work_202 : decode cX2_work 202 = .ok (.if_icmp .eq 25, 3) := by decide +kernel
theorem dX2_work_205 : decode cX2_work 205 = .ok (.aload_n 0, 1) := by decide +kernel
theorem dX2_work_206 : decode cX2_work 206 = .ok (.getfield 13, 3) := by decide +kernel
theorem dX2_work_209 : decode cX2_work 209 = .ok (.iload_n 1, 1) := by decide +kernel
theorem dX2_work_210 : decode cX2_work 210 = .ok (.iaload, 1) := by decide +kernel
theorem dX2_work_211 : decode cX2_work 211 = .ok (.iconst 4, 1) := by decide +kernel
theorem dX2_work_212 : decode cX2_work 212 = .ok (.if_icmp .ne 21, 3) := by decide +kernel
theorem dX2_work_215 : decode cX2_work 215 = .ok (.iload 5, 2) := by decide +kernel
theorem dX2_work_217 : decode cX2_work 217 = .ok (.aload_n 0, 1) := by decide +kernel
theorem dX2_work_218 : decode cX2_work 218 = .ok (.getfield 29, 3) := by decide +kernel
theorem dX2_work_221 : decode cX2_work 221 = .ok (.iload_n 1, 1) := by decide +kernel
theorem dX2_work_222 : decode cX2_work 222 = .ok (.iaload, 1) := by decide +kernel
theorem dX2_work_223 : decode cX2_work 223 = .ok (.iand, 1) := by decide +kernel
theorem dX2_work_224 : decode cX2_work 224 = .ok (.ifCond .ne 9, 3) := by decide +kernel
theorem dX2_work_227 : decode cX2_work 227 = .ok (.aload_n 0, 1) := by decide +kernel
theorem dX2_work_228 : decode cX2_work 228 = .ok (.iload 5, 2) := by decide +kernel
theorem dX2_work_230 : decode cX2_work 230 = .ok (.invokevirtual 66, 3) := by decide +kernel
theorem dX2_work_233 : decode cX2_work 233 = .ok (.aload_n 0, 1) := by decide +kernel
theorem dX2_work_234 : decode cX2_work 234 = .ok (.getfield 13, 3) := by decide +kernel
theorem dX2_work_237 : decode cX2_work 237 = .ok (.iload_n 1, 1) := by decide +kernel
theorem dX2_work_238 : decode cX2_work 238 = .ok (.iaload, 1) := by decide +kernel
theorem dX2_work_239 : decode cX2_work 239 = .ok (.bipush 6, 2) := by decide +kernel
theorem dX2_work_241 : decode cX2_work 241 = .ok (.if_icmp .ne 8, 3) := by decide +kernel
theorem dX2_work_244 : decode cX2_work 244 = .ok (.aload_n 0, 1) := by decide +kernel
theorem dX2_work_245 : decode cX2_work 245 = .ok (.iload_n 3, 1) := by decide +kernel
theorem dX2_work_246 : decode cX2_work 246 = .ok (.invokevirtual 66, 3) := by decide +kernel
theorem dX2_work_249 : decode cX2_work 249 = .ok (.aload_n 0, 1) := by decide +kernel
theorem dX2_work_250 : decode cX2_work 250 = .ok (.getfield 13, 3) := by decide +kernel
theorem dX2_work_253 : decode cX2_work 253 = .ok (.iload_n 1, 1) := by decide +kernel
theorem dX2_work_254 : decode cX2_work 254 = .ok (.iaload, 1) := by decide +kernel
theorem dX2_work_255 : decode cX2_work 255 = .ok (.iconst 2, 1) := by decide +kernel
theorem dX2_work_256 : decode cX2_work 256 = .ok (.if_icmp .ne 28, 3) := by decide +kernel
theorem dX2_work_259 : decode cX2_work 259 = .ok (.iload 4, 2) := by decide +kernel
theorem dX2_work_261 : decode cX2_work 261 = .ok (.aload_n 0, 1) := by decide +kernel
theorem dX2_work_262 : decode cX2_work 262 = .ok (.getfield 42, 3) := by decide +kernel
theorem dX2_work_265 : decode cX2_work 265 = .ok (.aload_n 0, 1) := by decide +kernel
theorem dX2_work_266 : decode cX2_work 266 = .ok (.getfield 20, 3) := by decide +kernel
theorem dX2_work_269 : decode cX2_work 269 = .ok (.iload_n 1, 1) := by decide +kernel
theorem dX2_work_270 : decode cX2_work 270 = .ok (.iaload, 1) := by decide +kernel
theorem dX2_work_271 : decode cX2_work 271 = .ok (.iaload, 1) := by decide +kernel
theorem dX2_work_272 : decode cX2_work 272 = .ok (.if_icmp .ge 12, 3) := by decide +kernel
theorem dX2_work_275 : decode cX2_work 275 = .ok (.aload_n 0, 1) := by decide +kernel
theorem dX2_work_276 : decode cX2_work 276 = .ok (.iload 5, 2) := by decide +kernel
theorem dX2_work_278 : decode cX2_work 278 = .ok (.iload 6, 2) := by decide +kernel
theorem dX2_work_280 : decode cX2_work 280 = .ok (.iadd, 1) := by decide +kernel
theorem dX2_work_281 : decode cX2_work 281 = .ok (.invokevirtual 66, 3) := by decide +kernel
theorem dX2_work_284 : decode cX2_work 284 = .ok (.aload_n 0, 1) := by decide +kernel
theorem dX2_work_285 : decode cX2_work 285 = .ok (.getfield 13, 3) := by decide +kernel
theorem dX2_work_288 : decode cX2_work 288 = .ok (.iload_n 1, 1) := by decide +kernel
theorem dX2_work_289 : decode cX2_work 289 = .ok (.iaload, 1) := by decide +kernel
theorem dX2_work_290 : decode cX2_work 290 = .ok (.bipush 7, 2) := by decide +kernel
theorem dX2_work_292 : decode cX2_work 292 = .ok (.if_icmp .ne 20, 3) := by decide +kernel
theorem dX2_work_295 : decode cX2_work 295 = .ok (.iload 4, 2) := by decide +kernel
theorem dX2_work_297 : decode cX2_work 297 = .ok (.iconst 2, 1) := by decide +kernel
theorem dX2_work_298 : decode cX2_work 298 = .ok (.irem, 1) := by decide +kernel
theorem dX2_work_299 : decode cX2_work 299 = .ok (.iconst 1, 1) := by decide +kernel
theorem dX2_work_300 : decode cX2_work 300 = .ok (.if_icmp .ne 12, 3) := by decide +kernel
theorem dX2_work_303 : decode cX2_work 303 = .ok (.aload_n 0, 1) := by decide +kernel
theorem dX2_work_304 : decode cX2_work 304 = .ok (.iload 7, 2) := by decide +kernel
theorem dX2_work_306 : decode cX2_work 306 = .ok (.iload 5, 2) := by decide +kernel
theorem dX2_work_308 : decode cX2_work 308 = .ok (.isub, 1) := by decide +kernel
theorem dX2_work_309 : decode cX2_work 309 = .ok (.invokevirtual 66, 3) := by decide +kernel
theorem dX2_work_312 : decode cX2_work 312 = .ok (.iinc 4 1, 3) := by decide +kernel
theorem dX2_work_315 : decode cX2_work 315 = .ok (.goto (-208), 3) := by decide +kernel
theorem dX2_work_318 : decode cX2_work 318 = .ok (.return_, 1) := by decide +kernel
theorem dX2_write_0 : decode cX2_write 0 = .ok (.aload_n 0, 1) := by decide +kernel
theorem dX2_write_1 : decode cX2_write 1 = .ok (.getfield 59, 3) := by decide +kernel
theorem dX2_write_4 : decode cX2_write 4 = .ok (.bipush 20, 2) := by decide +kernel
theorem dX2_write_6 : decode cX2_write 6 = .ok (.if_icmp .ge 23, 3) := by decide +kernel
theorem dX2_write_9 : decode cX2_write 9 = .ok (.aload_n 0, 1) := by decide +kernel
theorem dX2_write_10 : decode cX2_write 10 = .ok (.getfield 48, 3) := by decide +kernel
theorem dX2_write_13 : decode cX2_write 13 = .ok (.aload_n 0, 1) := by decide +kernel
theorem dX2_write_14 : decode cX2_write 14 = .ok (.getfield 59, 3) := by decide +kernel
theorem dX2_write_17 : decode cX2_write 17 = .ok (.iload_n 1, 1) := by decide +kernel
theorem dX2_write_18 : decode cX2_write 18 = .ok (.iastore, 1) := by decide +kernel
theorem dX2_write_19 : decode cX2_write 19 = .ok (.aload_n 0, 1) := by decide +kernel
theorem dX2_write_20 : decode cX2_write 20 = .ok (.dup, 1) := by decide +kernel
theorem dX2_write_21 : decode cX2_write 21 = .ok (.getfield 59, 3) := by decide +kernel
theorem dX2_write_24 : decode cX2_write 24 = .ok (.iconst 1, 1) := by decide +kernel
theorem dX2_write_25 : decode cX2_write 25 = .ok (.iadd, 1) := by decide +kernel
theorem dX2_write_26 : decode cX2_write 26 = .ok (.putfield 59, 3) := by decide +kernel
theorem dX2_write_29 : decode cX2_write 29 = .ok (.return_, 1) := by decide +kernel
theorem dX2_join_0 : decode cX2_join 0 = .ok (.iconst 0, 1) := by decide +kernel
theorem dX2_join_1 : decode cX2_join 1 = .ok (.istore_n 3, 1) := by decide +kernel
theorem dX2_join_2 : decode cX2_join 2 = .ok (.iconst 0, 1) := by decide +kernel
theorem dX2_join_3 : decode cX2_join 3 = .ok (.istore 4, 2) := by decide +kernel
theorem dX2_join_5 : decode cX2_join 5 = .ok (.iconst 0, 1) := by decide +kernel
theorem dX2_join_6 : decode cX2_join 6 = .ok (.istore 5, 2) := by decide +kernel
theorem dX2_join_8 : decode cX2_join 8 = .ok (.iload 5, 2) := by decide +kernel
theorem dX2_join_10 : decode cX2_join 10 = .ok (.bipush 20, 2) := by decide +kernel
theorem dX2_join_12 : decode cX2_join 12 = .ok (.if_icmp .ge 81, 3) := by decide +kernel
theorem dX2_join_15 : decode cX2_join 15 = .ok (.iload_n 3, 1) := by decide +kernel
theorem dX2_join_16 : decode cX2_join 16 = .ok (.aload_n 0, 1) := by decide +kernel
theorem dX2_join_17 : decode cX2_join 17 = .ok (.getfield 42, 3) := by decide +kernel
theorem dX2_join_20 : decode cX2_join 20 = .ok (.iload_n 1, 1) := by decide +kernel
theorem dX2_join_21 : decode cX2_join 21 = .ok (.iaload, 1) := by decide +kernel
theorem dX2_join_22 : decode cX2_join 22 = .ok (.if_icmp .ge 71, 3) := by decide +kernel
theorem dX2_join_25 : decode cX2_join 25 = .ok (.iload 4, 2) := by decide +kernel
theorem dX2_join_27 : decode cX2_join 27 = .ok (.aload_n 0, 1) := by decide +kernel
theorem dX2_join_28 : decode cX2_join 28 = .ok (.getfield 42, 3) := by decide +kernel
theorem dX2_join_31 : decode cX2_join 31 = .ok (.iload_n 2, 1) := by decide +kernel
theorem dX2_join_32 : decode cX2_join 32 = .ok (.iaload, 1) := by decide +kernel
theorem dX2_join_33 : decode cX2_join 33 = .ok (.if_icmp .ge 60, 3) := by decide +kernel
theorem dX2_join_36 : decode cX2_join 36 = .ok (.aload_n 0, 1) := by decide +kernel
theorem dX2_join_37 : decode cX2_join 37 = .ok (.iload_n 1, 1) := by decide +kernel
theorem dX2_join_38 : decode cX2_join 38 = .ok (.iload_n 3, 1) := by decide +kernel
theorem dX2_join_39 : decode cX2_join 39 = .ok (.invokevirtual 62, 3) := by decide +kernel
theorem dX2_join_42 : decode cX2_join 42 = .ok (.istore 6, 2) := by decide +kernel
theorem dX2_join_44 : decode cX2_join 44 = .ok (.aload_n 0, 1) := by decide +kernel
theorem dX2_join_45 : decode cX2_join 45 = .ok (.iload_n 2, 1) := by decide +kernel
theorem dX2_join_46 : decode cX2_join 46 = .ok (.iload 4, 2) := by decide +kernel
theorem dX2_join_48 : decode cX2_join 48 = .ok (.invokevirtual 62, 3) := by decide +kernel
theorem dX2_join_51 : decode cX2_join 51 = .ok (.istore 7, 2) := by decide +kernel
theorem dX2_join_53 : decode cX2_join 53 = .ok (.aload_n 0, 1) := by decide +kernel
theorem dX2_join_54 : decode cX2_join 54 = .ok (.iload 6, 2) := by decide +kernel
theorem dX2_join_56 : decode cX2_join 56 = .ok (.iload 7, 2) := by decide +kernel
theorem dX2_join_58 : decode cX2_join 58 = .ok (.if_icmp .gt 8, 3) := by decide +kernel
theorem dX2_join_61 : decode cX2_join 61 = .ok (.iload 6, 2) := by decide +kernel
theorem dX2_join_63 : decode cX2_join 63 = .ok (.goto 5, 3) := by decide +kernel
theorem dX2_join_66 : decode cX2_join 66 = .ok (.iload 7, 2) := by decide +kernel
theorem dX2_join_68 : decode cX2_join 68 = .ok (.invokevirtual 66, 3) := by decide +kernel
theorem dX2_join_71 : decode cX2_join 71 = .ok (.iload 6, 2) := by decide +kernel
theorem dX2_join_73 : decode cX2_join 73 = .ok (.iload 7, 2) := by decide +kernel
theorem dX2_join_75 : decode cX2_join 75 = .ok (.if_icmp .gt 9, 3) := by decide +kernel
theorem dX2_join_78 : decode cX2_join 78 = .ok (.iinc 3 1, 3) := by decide +kernel
theorem dX2_join_81 : decode cX2_join 81 = .ok (.goto 6, 3) := by decide +kernel
theorem dX2_join_84 : decode cX2_join 84 = .ok (.iinc 4 1, 3) := by decide +kernel
theorem dX2_join_87 : decode cX2_join 87 = .ok (.iinc 5 1, 3) := by decide +kernel
theorem dX2_join_90 : decode cX2_join 90 = .ok (.goto (-82), 3) := by decide +kernel
theorem dX2_join_93 : decode cX2_join 93 = .ok (.return_, 1) := by decide +kernel
theorem dX2_get_0 : decode cX2_get 0 = .ok (.aload_n 0, 1) := by decide +kernel
theorem dX2_get_1 : decode cX2_get 1 = .ok (.getfield 45, 3) := by decide +kernel
theorem dX2_get_4 : decode cX2_get 4 = .ok (.bipush 20, 2) := by decide +kernel
theorem dX2_get_6 : decode cX2_get 6 = .ok (.iload_n 1, 1) := by decide +kernel
theorem dX2_get_7 : decode cX2_get 7 = .ok (.imul, 1) := by decide +kernel
theorem dX2_get_8 : decode cX2_get 8 = .ok (.iload_n 2, 1) := by decide +kernel
theorem dX2_get_9 : decode cX2_get 9 = .ok (.iadd, 1) := by decide +kernel
theorem dX2_get_10 : decode cX2_get 10 = .ok (.iaload, 1) := by decide +kernel
theorem dX2_get_11 : decode cX2_get 11 = .ok (.ireturn, 1) := by decide +kernel
theorem dX2_store_0 : decode cX2_store 0 = .ok (.aload_n 0, 1) := by decide +kernel
theorem dX2_store_1 : decode cX2_store 1 = .ok (.getfield 59, 3) := by decide +kernel
theorem dX2_store_4 : decode cX2_store 4 = .ok (.aload_n 0, 1) := by decide +kernel
theorem dX2_store_5 : decode cX2_store 5 = .ok (.getfield 42, 3) := by decide +kernel
theorem dX2_store_8 : decode cX2_store 8 = .ok (.iload_n 1, 1) := by decide +kernel
theorem dX2_store_9 : decode cX2_store 9 = .ok (.iaload, 1) := by decide +kernel
theorem dX2_store_10 : decode cX2_store 10 = .ok (.if_icmp .le 7, 3) := by decide +kernel
theorem dX2_store_13 : decode cX2_store 13 = .ok (.iconst 1, 1) := by decide +kernel
theorem dX2_store_14 : decode cX2_store 14 = .ok (.goto 4, 3) := by decide +kernel
theorem dX2_store_17 : decode cX2_store 17 = .ok (.iconst 0, 1) := by decide +kernel
theorem dX2_store_18 : decode cX2_store 18 = .ok (.istore_n 2, 1) := by decide +kernel
theorem dX2_store_19 : decode cX2_store 19 = .ok (.iconst 0, 1) := by decide +kernel
theorem dX2_store_20 : decode cX2_store 20 = .ok (.istore_n 3, 1) := by decide +kernel
theorem dX2_store_21 : decode cX2_store 21 = .ok (.iload_n 3, 1) := by decide +kernel
theorem dX2_store_22 : decode cX2_store 22 = .ok (.aload_n 0, 1) := by decide +kernel
theorem dX2_store_23 : decode cX2_store 23 = .ok (.getfield 59, 3) := by decide +kernel
theorem dX2_store_26 : decode cX2_store 26 = .ok (.if_icmp .ge 26, 3) := by decide +kernel
theorem dX2_store_29 : decode cX2_store 29 = .ok (.aload_n 0, 1) := by decide +kernel
theorem dX2_store_30 : decode cX2_store 30 = .ok (.getfield 45, 3) := by decide +kernel
theorem dX2_store_33 : decode cX2_store 33 = .ok (.bipush 20, 2) := by decide +kernel
theorem dX2_store_35 : decode cX2_store 35 = .ok (.iload_n 1, 1) := by decide +kernel
theorem dX2_store_36 : decode cX2_store 36 = .ok (.imul, 1) := by decide +kernel
theorem dX2_store_37 : decode cX2_store 37 = .ok (.iload_n 3, 1) := by decide +kernel
theorem dX2_store_38 : decode cX2_store 38 = .ok (.iadd, 1) := by decide +kernel
theorem dX2_store_39 : decode cX2_store 39 = .ok (.aload_n 0, 1) := by decide +kernel
theorem dX2_store_40 : decode cX2_store 40 = .ok (.getfield 48, 3) := by decide +kernel
theorem dX2_store_43 : decode cX2_store 43 = .ok (.iload_n 3, 1) := by decide +kernel
theorem dX2_store_44 : decode cX2_store 44 = .ok (.iaload, 1) := by decide +kernel
theorem dX2_store_45 : decode cX2_store 45 = .ok (.iastore, 1) := by decide +kernel
theorem dX2_store_46 : decode cX2_store 46 = .ok (.iinc 3 1, 3) := by decide +kernel
theorem dX2_store_49 : decode cX2_store 49 = .ok (.goto (-28), 3) := by decide +kernel
theorem dX2_store_52 : decode cX2_store 52 = .ok (.aload_n 0, 1) := by decide +kernel
theorem dX2_store_53 : decode cX2_store 53 = .ok (.getfield 42, 3) := by decide +kernel
theorem dX2_store_56 : decode cX2_store 56 = .ok (.iload_n 1, 1) := by decide +kernel
theorem dX2_store_57 : decode cX2_store 57 = .ok (.aload_n 0, 1) := by decide +kernel
theorem dX2_store_58 : decode cX2_store 58 = .ok (.getfield 59, 3) := by decide +kernel
theorem dX2_store_61 : decode cX2_store 61 = .ok (.iastore, 1) := by decide +kernel
theorem dX2_store_62 : decode cX2_store 62 = .ok (.iload_n 2, 1) := by decide +kernel
theorem dX2_store_63 : decode cX2_store 63 = .ok (.ireturn, 1) := by decide +kernel
theorem dX2_at_0 : decode cX2_at 0 = .ok (.aload_n 0, 1) := by decide +kernel
theorem dX2_at_1 : decode cX2_at 1 = .ok (.iload_n 1, 1) := by decide +kernel
theorem dX2_at_2 : decode cX2_at 2 = .ok (.invokevirtual 81, 3) := by decide +kernel
theorem dX2_at_5 : decode cX2_at 5 = .ok (.ifCond .ne 5, 3) := by decide +kernel
theorem dX2_at_8 : decode cX2_at 8 = .ok (.iconst 0, 1) := by decide +kernel
theorem dX2_at_9 : decode cX2_at 9 = .ok (.ireturn, 1) := by decide +kernel
theorem dX2_at_10 : decode cX2_at 10 = .ok (.aload_n 0, 1) := by decide +kernel
theorem dX2_at_11 : decode cX2_at 11 = .ok (.invokevirtual 84, 3) := by decide +kernel
theorem dX2_at_14 : decode cX2_at 14 = .ok (.iload_n 2, 1) := by decide +kernel
theorem dX2_at_15 : decode cX2_at 15 = .ok (.ifCond .lt 22, 3) := by decide +kernel
theorem dX2_at_18 : decode cX2_at 18 = .ok (.iload_n 2, 1) := by decide +kernel
theorem dX2_at_19 : decode cX2_at 19 = .ok (.aload_n 0, 1) := by decide +kernel
theorem dX2_at_20 : decode cX2_at 20 = .ok (.getfield 42, 3) := by decide +kernel
theorem dX2_at_23 : decode cX2_at 23 = .ok (.iload_n 1, 1) := by decide +kernel
theorem dX2_at_24 : decode cX2_at 24 = .ok (.iaload, 1) := by decide +kernel
theorem dX2_at_25 : decode cX2_at 25 = .ok (.if_icmp .ge 12, 3) := by decide +kernel
theorem dX2_at_28 : decode cX2_at 28 = .ok (.aload_n 0, 1) := by decide +kernel
theorem dX2_at_29 : decode cX2_at 29 = .ok (.iload_n 1, 1) := by decide +kernel
theorem dX2_at_30 : decode cX2_at 30 = .ok (.iload_n 2, 1) := by decide +kernel
theorem dX2_at_31 : decode cX2_at 31 = .ok (.invokevirtual 62, 3) := by decide +kernel
theorem dX2_at_34 : decode cX2_at 34 = .ok (.goto 4, 3) := by decide +kernel
theorem dX2_at_37 : decode cX2_at 37 = .ok (.iconst 0, 1) := by decide +kernel
theorem dX2_at_38 : decode cX2_at 38 = .ok (.ireturn, 1) := by decide +kernel
theorem dX2_processes_0 : decode cX2_processes 0 = .ok (.aload_n 0, 1) := by decide +kernel
theorem dX2_processes_1 : decode cX2_processes 1 = .ok (.getfield 7, 3) := by decide +kernel
theorem dX2_processes_4 : decode cX2_processes 4 = .ok (.ireturn, 1) := by decide +kernel
theorem dX2_total_0 : decode cX2_total 0 = .ok (.aload_n 0, 1) := by decide +kernel
theorem dX2_total_1 : decode cX2_total 1 = .ok (.invokevirtual 84, 3) := by decide +kernel
theorem dX2_total_4 : decode cX2_total 4 = .ok (.iconst 0, 1) := by decide +kernel
theorem dX2_total_5 : decode cX2_total 5 = .ok (.istore_n 1, 1) := by decide +kernel
theorem dX2_total_6 : decode cX2_total 6 = .ok (.iconst 0, 1) := by decide +kernel
theorem dX2_total_7 : decode cX2_total 7 = .ok (.istore_n 2, 1) := by decide +kernel
theorem dX2_total_8 : decode cX2_total 8 = .ok (.iload_n 2, 1) := by decide +kernel
theorem dX2_total_9 : decode cX2_total 9 = .ok (.bipush 10, 2) := by decide +kernel
theorem dX2_total_11 : decode cX2_total 11 = .ok (.if_icmp .ge 18, 3) := by decide +kernel
theorem dX2_total_14 : decode cX2_total 14 = .ok (.iload_n 1, 1) := by decide +kernel
theorem dX2_total_15 : decode cX2_total 15 = .ok (.aload_n 0, 1) := by decide +kernel
theorem dX2_total_16 : decode cX2_total 16 = .ok (.getfield 42, 3) := by decide +kernel
theorem dX2_total_19 : decode cX2_total 19 = .ok (.iload_n 2, 1) := by decide +kernel
theorem dX2_total_20 : decode cX2_total 20 = .ok (.iaload, 1) := by decide +kernel
theorem dX2_total_21 : decode cX2_total 21 = .ok (.iadd, 1) := by decide +kernel
theorem dX2_total_22 : decode cX2_total 22 = .ok (.istore_n 1, 1) := by decide +kernel
theorem dX2_total_23 : decode cX2_total 23 = .ok (.iinc 2 1, 3) := by decide +kernel
theorem dX2_total_26 : decode cX2_total 26 = .ok (.goto (-18), 3) := by decide +kernel
theorem dX2_total_29 : decode cX2_total 29 = .ok (.iload_n 1, 1) := by decide +kernel
theorem dX2_total_30 : decode cX2_total 30 = .ok (.ireturn, 1) := by decide +kernel
theorem dX2_firstDifference_0 : decode cX2_firstDifference 0 = .ok (.aload_n 0, 1) := by decide +kernel
theorem dX2_firstDifference_1 : decode cX2_firstDifference 1 = .ok (.iload_n 1, 1) := by decide +kernel
theorem dX2_firstDifference_2 : decode cX2_firstDifference 2 = .ok (.invokevirtual 81, 3) := by decide +kernel
theorem dX2_firstDifference_5 : decode cX2_firstDifference 5 = .ok (.ifCond .eq 11, 3) := by decide +kernel
theorem dX2_firstDifference_8 : decode cX2_firstDifference 8 = .ok (.aload_n 0, 1) := by decide +kernel
theorem dX2_firstDifference_9 : decode cX2_firstDifference 9 = .ok (.iload_n 2, 1) := by decide +kernel
theorem dX2_firstDifference_10 : decode cX2_firstDifference 10 = .ok (.invokevirtual 81, 3) := by decide +kernel
theorem dX2_firstDifference_13 : decode cX2_firstDifference 13 = .ok (.ifCond .ne 6, 3) := by decide +kernel
theorem dX2_firstDifference_16 : decode cX2_firstDifference 16 = .ok (.bipush (-2), 2) := by decide +kernel
theorem dX2_firstDifference_18 : decode cX2_firstDifference 18 = .ok (.ireturn, 1) := by decide +kernel
theorem dX2_firstDifference_19 : decode cX2_firstDifference 19 = .ok (.aload_n 0, 1) := by decide +kernel
theorem dX2_firstDifference_20 : decode cX2_firstDifference 20 = .ok (.invokevirtual 84, 3) := by decide +kernel
theorem dX2_firstDifference_23 : decode cX2_firstDifference 23 = .ok (.iconst 0, 1) := by decide +kernel
theorem dX2_firstDifference_24 : decode cX2_firstDifference 24 = .ok (.istore_n 3, 1) := by decide +kernel
theorem dX2_firstDifference_25 : decode cX2_firstDifference 25 = .ok (.iload_n 3, 1) := by decide +kernel
theorem dX2_firstDifference_26 : decode cX2_firstDifference 26 = .ok (.bipush 20, 2) := by decide +kernel
theorem dX2_firstDifference_28 : decode cX2_firstDifference 28 = .ok (.if_icmp .ge 68, 3) := by decide +kernel
theorem dX2_firstDifference_31 : decode cX2_firstDifference 31 = .ok (.iload_n 3, 1) := by decide +kernel
theorem dX2_firstDifference_32 : decode cX2_firstDifference 32 = .ok (.aload_n 0, 1) := by decide +kernel
theorem dX2_firstDifference_33 : decode cX2_firstDifference 33 = .ok (.getfield 42, 3) := by decide +kernel
theorem dX2_firstDifference_36 : decode cX2_firstDifference 36 = .ok (.iload_n 1, 1) := by decide +kernel
theorem dX2_firstDifference_37 : decode cX2_firstDifference 37 = .ok (.iaload, 1) := by decide +kernel
theorem dX2_firstDifference_38 : decode cX2_firstDifference 38 = .ok (.if_icmp .lt 15, 3) := by decide +kernel
theorem dX2_firstDifference_41 : decode cX2_firstDifference 41 = .ok (.iload_n 3, 1) := by decide +kernel
theorem dX2_firstDifference_42 : decode cX2_firstDifference 42 = .ok (.aload_n 0, 1) := by decide +kernel
theorem dX2_firstDifference_43 : decode cX2_firstDifference 43 = .ok (.getfield 42, 3) := by decide +kernel
theorem dX2_firstDifference_46 : decode cX2_firstDifference 46 = .ok (.iload_n 2, 1) := by decide +kernel
theorem dX2_firstDifference_47 : decode cX2_firstDifference 47 = .ok (.iaload, 1) := by decide +kernel
theorem dX2_firstDifference_48 : decode cX2_firstDifference 48 = .ok (.if_icmp .lt 5, 3) := by decide +kernel
theorem dX2_firstDifference_51 : decode cX2_firstDifference 51 = .ok (.iconst (-1), 1) := by decide +kernel
theorem dX2_firstDifference_52 : decode cX2_firstDifference 52 = .ok (.ireturn, 1) := by decide +kernel
theorem dX2_firstDifference_53 : decode cX2_firstDifference 53 = .ok (.iload_n 3, 1) := by decide +kernel
theorem dX2_firstDifference_54 : decode cX2_firstDifference 54 = .ok (.aload_n 0, 1) := by decide +kernel
theorem dX2_firstDifference_55 : decode cX2_firstDifference 55 = .ok (.getfield 42, 3) := by decide +kernel
theorem dX2_firstDifference_58 : decode cX2_firstDifference 58 = .ok (.iload_n 1, 1) := by decide +kernel
theorem dX2_firstDifference_59 : decode cX2_firstDifference 59 = .ok (.iaload, 1) := by decide +kernel
theorem dX2_firstDifference_60 : decode cX2_firstDifference 60 = .ok (.if_icmp .ge 28, 3) := by decide +kernel
theorem dX2_firstDifference_63 : decode cX2_firstDifference 63 = .ok (.iload_n 3, 1) := by decide +kernel
theorem dX2_firstDifference_64 : decode cX2_firstDifference 64 = .ok (.aload_n 0, 1) := by decide +kernel
theorem dX2_firstDifference_65 : decode cX2_firstDifference 65 = .ok (.getfield 42, 3) := by decide +kernel
theorem dX2_firstDifference_68 : decode cX2_firstDifference 68 = .ok (.iload_n 2, 1) := by decide +kernel
theorem dX2_firstDifference_69 : decode cX2_firstDifference 69 = .ok (.iaload, 1) := by decide +kernel
theorem dX2_firstDifference_70 : decode cX2_firstDifference 70 = .ok (.if_icmp .ge 18, 3) := by decide +kernel
theorem dX2_firstDifference_73 : decode cX2_firstDifference 73 = .ok (.aload_n 0, 1) := by decide +kernel
theorem dX2_firstDifference_74 : decode cX2_firstDifference 74 = .ok (.iload_n 1, 1) := by decide +kernel
theorem dX2_firstDifference_75 : decode cX2_firstDifference 75 = .ok (.iload_n 3, 1) := by decide +kernel
theorem dX2_firstDifference_76 : decode cX2_firstDifference 76 = .ok (.invokevirtual 62, 3) := by decide +kernel
theorem dX2_firstDifference_79 : decode cX2_firstDifference 79 = .ok (.aload_n 0, 1) := by decide +kernel
theorem dX2_firstDifference_80 : decode cX2_firstDifference 80 = .ok (.iload_n 2, 1) := by decide +kernel
theorem dX2_firstDifference_81 : decode cX2_firstDifference 81 = .ok (.iload_n 3, 1) := by decide +kernel
theorem dX2_firstDifference_82 : decode cX2_firstDifference 82 = .ok (.invokevirtual 62, 3) := by decide +kernel
theorem dX2_firstDifference_85 : decode cX2_firstDifference 85 = .ok (.if_icmp .eq 5, 3) := by decide +kernel
theorem dX2_firstDifference_88 : decode cX2_firstDifference 88 = .ok (.iload_n 3, 1) := by decide +kernel
theorem dX2_firstDifference_89 : decode cX2_firstDifference 89 = .ok (.ireturn, 1) := by decide +kernel
theorem dX2_firstDifference_90 : decode cX2_firstDifference 90 = .ok (.iinc 3 1, 3) := by decide +kernel
theorem dX2_firstDifference_93 : decode cX2_firstDifference 93 = .ok (.goto (-68), 3) := by decide +kernel
theorem dX2_firstDifference_96 : decode cX2_firstDifference 96 = .ok (.iconst (-1), 1) := by decide +kernel
theorem dX2_firstDifference_97 : decode cX2_firstDifference 97 = .ok (.ireturn, 1) := by decide +kernel
end
section
set_option maxRecDepth 100000
theorem dX0_cell_0 : decode cX0_cell 0 = .ok (.iload_n 1, 1) := by decide +kernel
theorem dX0_cell_1 : decode cX0_cell 1 = .ok (.aload_n 0, 1) := by decide +kernel
theorem dX0_cell_2 : decode cX0_cell 2 = .ok (.arraylength, 1) := by decide +kernel
theorem dX0_cell_3 : decode cX0_cell 3 = .ok (.if_icmp .ge 9, 3) := by decide +kernel
theorem dX0_cell_6 : decode cX0_cell 6 = .ok (.aload_n 0, 1) := by decide +kernel
theorem dX0_cell_7 : decode cX0_cell 7 = .ok (.iload_n 1, 1) := by decide +kernel
theorem dX0_cell_8 : decode cX0_cell 8 = .ok (.iaload, 1) := by decide +kernel
theorem dX0_cell_9 : decode cX0_cell 9 = .ok (.goto 4, 3) := by decide +kernel
theorem dX0_cell_12 : decode cX0_cell 12 = .ok (.iconst 0, 1) := by decide +kernel
theorem dX0_cell_13 : decode cX0_cell 13 = .ok (.ireturn, 1) := by decide +kernel
theorem dJ0_init_0 : decode cJ0_init 0 = .ok (.return_, 1) := by decide +kernel
theorem dL_law_0 : decode cL_law 0 = .ok (.new 7, 3) := by decide +kernel
theorem dL_law_3 : decode cL_law 3 = .ok (.dup, 1) := by decide +kernel
theorem dL_law_4 : decode cL_law 4 = .ok (.aload_n 0, 1) := by decide +kernel
theorem dL_law_5 : decode cL_law 5 = .ok (.iconst 0, 1) := by decide +kernel
theorem dL_law_6 : decode cL_law 6 = .ok (.invokestatic 9, 3) := by decide +kernel
theorem dL_law_9 : decode cL_law 9 = .ok (.invokespecial 15, 3) := by decide +kernel
theorem dL_law_12 : decode cL_law 12 = .ok (.astore_n 1, 1) := by decide +kernel
theorem dL_law_13 : decode cL_law 13 = .ok (.new 18, 3) := by decide +kernel
theorem dL_law_16 : decode cL_law 16 = .ok (.dup, 1) := by decide +kernel
theorem dL_law_17 : decode cL_law 17 = .ok (.aload_n 0, 1) := by decide +kernel
theorem dL_law_18 : decode cL_law 18 = .ok (.iconst 0, 1) := by decide +kernel
theorem dL_law_19 : decode cL_law 19 = .ok (.invokestatic 9, 3) := by decide +kernel
theorem dL_law_22 : decode cL_law 22 = .ok (.invokespecial 20, 3) := by decide +kernel
theorem dL_law_25 : decode cL_law 25 = .ok (.astore_n 2, 1) := by decide +kernel
theorem dL_law_26 : decode cL_law 26 = .ok (.iconst 1, 1) := by decide +kernel
theorem dL_law_27 : decode cL_law 27 = .ok (.istore_n 3, 1) := by decide +kernel
theorem dL_law_28 : decode cL_law 28 = .ok (.iload_n 3, 1) := by decide +kernel
theorem dL_law_29 : decode cL_law 29 = .ok (.aload_n 0, 1) := by decide +kernel
theorem dL_law_30 : decode cL_law 30 = .ok (.arraylength, 1) := by decide +kernel
theorem dL_law_31 : decode cL_law 31 = .ok (.iconst 4, 1) := by decide +kernel
theorem dL_law_32 : decode cL_law 32 = .ok (.isub, 1) := by decide +kernel
theorem dL_law_33 : decode cL_law 33 = .ok (.if_icmp .gt 275, 3) := by decide +kernel
theorem dL_law_36 : decode cL_law 36 = .ok (.aload_n 0, 1) := by decide +kernel
theorem dL_law_37 : decode cL_law 37 = .ok (.iload_n 3, 1) := by decide +kernel
theorem dL_law_38 : decode cL_law 38 = .ok (.iaload, 1) := by decide +kernel
theorem dL_law_39 : decode cL_law 39 = .ok (.bipush 7, 2) := by decide +kernel
theorem dL_law_41 : decode cL_law 41 = .ok (.iand, 1) := by decide +kernel
theorem dL_law_42 : decode cL_law 42 = .ok (.tableswitch 260 0 7 #[46, 89, 132, 145, 168, 201, 214, 227], 46) := by decide +kernel
theorem dL_law_88 : decode cL_law 88 = .ok (.aload_n 1, 1) := by decide +kernel
theorem dL_law_89 : decode cL_law 89 = .ok (.aload_n 0, 1) := by decide +kernel
theorem dL_law_90 : decode cL_law 90 = .ok (.iload_n 3, 1) := by decide +kernel
theorem dL_law_91 : decode cL_law 91 = .ok (.iconst 1, 1) := by decide +kernel
theorem dL_law_92 : decode cL_law 92 = .ok (.iadd, 1) := by decide +kernel
theorem dL_law_93 : decode cL_law 93 = .ok (.iaload, 1) := by decide +kernel
theorem dL_law_94 : decode cL_law 94 = .ok (.aload_n 0, 1) := by decide +kernel
theorem dL_law_95 : decode cL_law 95 = .ok (.iload_n 3, 1) := by decide +kernel
theorem dL_law_96 : decode cL_law 96 = .ok (.iconst 2, 1) := by decide +kernel
theorem dL_law_97 : decode cL_law 97 = .ok (.iadd, 1) := by decide +kernel
theorem dL_law_98 : decode cL_law 98 = .ok (.iaload, 1) := by decide +kernel
theorem dL_law_99 : decode cL_law 99 = .ok (.aload_n 0, 1) := by decide +kernel
theorem dL_law_100 : decode cL_law 100 = .ok (.iload_n 3, 1) := by decide +kernel
theorem dL_law_101 : decode cL_law 101 = .ok (.iconst 3, 1) := by decide +kernel
theorem dL_law_102 : decode cL_law 102 = .ok (.iadd, 1) := by decide +kernel
theorem dL_law_103 : decode cL_law 103 = .ok (.iaload, 1) := by decide +kernel
theorem dL_law_104 : decode cL_law 104 = .ok (.invokevirtual 21, 3) := by decide +kernel
theorem dL_law_107 : decode cL_law 107 = .ok (.aload_n 2, 1) := by decide +kernel
theorem dL_law_108 : decode cL_law 108 = .ok (.aload_n 0, 1) := by decide +kernel
theorem dL_law_109 : decode cL_law 109 = .ok (.iload_n 3, 1) := by decide +kernel
theorem dL_law_110 : decode cL_law 110 = .ok (.iconst 1, 1) := by decide +kernel
theorem dL_law_111 : decode cL_law 111 = .ok (.iadd, 1) := by decide +kernel
theorem dL_law_112 : decode cL_law 112 = .ok (.iaload, 1) := by decide +kernel
theorem dL_law_113 : decode cL_law 113 = .ok (.aload_n 0, 1) := by decide +kernel
theorem dL_law_114 : decode cL_law 114 = .ok (.iload_n 3, 1) := by decide +kernel
theorem dL_law_115 : decode cL_law 115 = .ok (.iconst 2, 1) := by decide +kernel
theorem dL_law_116 : decode cL_law 116 = .ok (.iadd, 1) := by decide +kernel
theorem dL_law_117 : decode cL_law 117 = .ok (.iaload, 1) := by decide +kernel
theorem dL_law_118 : decode cL_law 118 = .ok (.aload_n 0, 1) := by decide +kernel
theorem dL_law_119 : decode cL_law 119 = .ok (.iload_n 3, 1) := by decide +kernel
theorem dL_law_120 : decode cL_law 120 = .ok (.iconst 3, 1) := by decide +kernel
theorem dL_law_121 : decode cL_law 121 = .ok (.iadd, 1) := by decide +kernel
theorem dL_law_122 : decode cL_law 122 = .ok (.iaload, 1) := by decide +kernel
theorem dL_law_123 : decode cL_law 123 = .ok (.invokevirtual 25, 3) := by decide +kernel
theorem dL_law_126 : decode cL_law 126 = .ok (.if_icmp .eq 176, 3) := by decide +kernel
theorem dL_law_129 : decode cL_law 129 = .ok (.iconst 0, 1) := by decide +kernel
theorem dL_law_130 : decode cL_law 130 = .ok (.ireturn, 1) := by decide +kernel
theorem dL_law_131 : decode cL_law 131 = .ok (.aload_n 1, 1) := by decide +kernel
theorem dL_law_132 : decode cL_law 132 = .ok (.aload_n 0, 1) := by decide +kernel
theorem dL_law_133 : decode cL_law 133 = .ok (.iload_n 3, 1) := by decide +kernel
theorem dL_law_134 : decode cL_law 134 = .ok (.iconst 1, 1) := by decide +kernel
theorem dL_law_135 : decode cL_law 135 = .ok (.iadd, 1) := by decide +kernel
theorem dL_law_136 : decode cL_law 136 = .ok (.iaload, 1) := by decide +kernel
theorem dL_law_137 : decode cL_law 137 = .ok (.aload_n 0, 1) := by decide +kernel
theorem dL_law_138 : decode cL_law 138 = .ok (.iload_n 3, 1) := by decide +kernel
theorem dL_law_139 : decode cL_law 139 = .ok (.iconst 2, 1) := by decide +kernel
theorem dL_law_140 : decode cL_law 140 = .ok (.iadd, 1) := by decide +kernel
theorem dL_law_141 : decode cL_law 141 = .ok (.iaload, 1) := by decide +kernel
theorem dL_law_142 : decode cL_law 142 = .ok (.aload_n 0, 1) := by decide +kernel
theorem dL_law_143 : decode cL_law 143 = .ok (.iload_n 3, 1) := by decide +kernel
theorem dL_law_144 : decode cL_law 144 = .ok (.iconst 3, 1) := by decide +kernel
theorem dL_law_145 : decode cL_law 145 = .ok (.iadd, 1) := by decide +kernel
theorem dL_law_146 : decode cL_law 146 = .ok (.iaload, 1) := by decide +kernel
theorem dL_law_147 : decode cL_law 147 = .ok (.invokevirtual 26, 3) := by decide +kernel
theorem dL_law_150 : decode cL_law 150 = .ok (.aload_n 2, 1) := by decide +kernel
theorem dL_law_151 : decode cL_law 151 = .ok (.aload_n 0, 1) := by decide +kernel
theorem dL_law_152 : decode cL_law 152 = .ok (.iload_n 3, 1) := by decide +kernel
theorem dL_law_153 : decode cL_law 153 = .ok (.iconst 1, 1) := by decide +kernel
theorem dL_law_154 : decode cL_law 154 = .ok (.iadd, 1) := by decide +kernel
theorem dL_law_155 : decode cL_law 155 = .ok (.iaload, 1) := by decide +kernel
theorem dL_law_156 : decode cL_law 156 = .ok (.aload_n 0, 1) := by decide +kernel
theorem dL_law_157 : decode cL_law 157 = .ok (.iload_n 3, 1) := by decide +kernel
theorem dL_law_158 : decode cL_law 158 = .ok (.iconst 2, 1) := by decide +kernel
theorem dL_law_159 : decode cL_law 159 = .ok (.iadd, 1) := by decide +kernel
theorem dL_law_160 : decode cL_law 160 = .ok (.iaload, 1) := by decide +kernel
theorem dL_law_161 : decode cL_law 161 = .ok (.aload_n 0, 1) := by decide +kernel
theorem dL_law_162 : decode cL_law 162 = .ok (.iload_n 3, 1) := by decide +kernel
theorem dL_law_163 : decode cL_law 163 = .ok (.iconst 3, 1) := by decide +kernel
theorem dL_law_164 : decode cL_law 164 = .ok (.iadd, 1) := by decide +kernel
theorem dL_law_165 : decode cL_law 165 = .ok (.iaload, 1) := by decide +kernel
theorem dL_law_166 : decode cL_law 166 = .ok (.invokevirtual 29, 3) := by decide +kernel
theorem dL_law_169 : decode cL_law 169 = .ok (.if_icmp .eq 133, 3) := by decide +kernel
theorem dL_law_172 : decode cL_law 172 = .ok (.iconst 0, 1) := by decide +kernel
theorem dL_law_173 : decode cL_law 173 = .ok (.ireturn, 1) := by decide +kernel
theorem dL_law_174 : decode cL_law 174 = .ok (.aload_n 1, 1) := by decide +kernel
theorem dL_law_175 : decode cL_law 175 = .ok (.invokevirtual 30, 3) := by decide +kernel
theorem dL_law_178 : decode cL_law 178 = .ok (.aload_n 2, 1) := by decide +kernel
theorem dL_law_179 : decode cL_law 179 = .ok (.invokevirtual 34, 3) := by decide +kernel
theorem dL_law_182 : decode cL_law 182 = .ok (.if_icmp .eq 120, 3) := by decide +kernel
theorem dL_law_185 : decode cL_law 185 = .ok (.iconst 0, 1) := by decide +kernel
theorem dL_law_186 : decode cL_law 186 = .ok (.ireturn, 1) := by decide +kernel
theorem dL_law_187 : decode cL_law 187 = .ok (.aload_n 1, 1) := by decide +kernel
theorem dL_law_188 : decode cL_law 188 = .ok (.aload_n 0, 1) := by decide +kernel
theorem dL_law_189 : decode cL_law 189 = .ok (.iload_n 3, 1) := by decide +kernel
theorem dL_law_190 : decode cL_law 190 = .ok (.iconst 1, 1) := by decide +kernel
theorem dL_law_191 : decode cL_law 191 = .ok (.iadd, 1) := by decide +kernel
theorem dL_law_192 : decode cL_law 192 = .ok (.iaload, 1) := by decide +kernel
theorem dL_law_193 : decode cL_law 193 = .ok (.invokevirtual 35, 3) := by decide +kernel
theorem dL_law_196 : decode cL_law 196 = .ok (.aload_n 2, 1) := by decide +kernel
theorem dL_law_197 : decode cL_law 197 = .ok (.aload_n 0, 1) := by decide +kernel
theorem dL_law_198 : decode cL_law 198 = .ok (.iload_n 3, 1) := by decide +kernel
theorem dL_law_199 : decode cL_law 199 = .ok (.iconst 1, 1) := by decide +kernel
theorem dL_law_200 : decode cL_law 200 = .ok (.iadd, 1) := by decide +kernel
theorem dL_law_201 : decode cL_law 201 = .ok (.iaload, 1) := by decide +kernel
theorem dL_law_202 : decode cL_law 202 = .ok (.invokevirtual 39, 3) := by decide +kernel
theorem dL_law_205 : decode cL_law 205 = .ok (.if_icmp .eq 97, 3) := by decide +kernel
theorem dL_law_208 : decode cL_law 208 = .ok (.iconst 0, 1) := by decide +kernel
theorem dL_law_209 : decode cL_law 209 = .ok (.ireturn, 1) := by decide +kernel
theorem dL_law_210 : decode cL_law 210 = .ok (.aload_n 1, 1) := by decide +kernel
theorem dL_law_211 : decode cL_law 211 = .ok (.aload_n 0, 1) := by decide +kernel
theorem dL_law_212 : decode cL_law 212 = .ok (.iload_n 3, 1) := by decide +kernel
theorem dL_law_213 : decode cL_law 213 = .ok (.iconst 1, 1) := by decide +kernel
theorem dL_law_214 : decode cL_law 214 = .ok (.iadd, 1) := by decide +kernel
theorem dL_law_215 : decode cL_law 215 = .ok (.iaload, 1) := by decide +kernel
theorem dL_law_216 : decode cL_law 216 = .ok (.aload_n 0, 1) := by decide +kernel
theorem dL_law_217 : decode cL_law 217 = .ok (.iload_n 3, 1) := by decide +kernel
theorem dL_law_218 : decode cL_law 218 = .ok (.iconst 2, 1) := by decide +kernel
theorem dL_law_219 : decode cL_law 219 = .ok (.iadd, 1) := by decide +kernel
theorem dL_law_220 : decode cL_law 220 = .ok (.iaload, 1) := by decide +kernel
theorem dL_law_221 : decode cL_law 221 = .ok (.invokevirtual 40, 3) := by decide +kernel
theorem dL_law_224 : decode cL_law 224 = .ok (.aload_n 2, 1) := by decide +kernel
theorem dL_law_225 : decode cL_law 225 = .ok (.aload_n 0, 1) := by decide +kernel
theorem dL_law_226 : decode cL_law 226 = .ok (.iload_n 3, 1) := by decide +kernel
theorem dL_law_227 : decode cL_law 227 = .ok (.iconst 1, 1) := by decide +kernel
theorem dL_law_228 : decode cL_law 228 = .ok (.iadd, 1) := by decide +kernel
theorem dL_law_229 : decode cL_law 229 = .ok (.iaload, 1) := by decide +kernel
theorem dL_law_230 : decode cL_law 230 = .ok (.aload_n 0, 1) := by decide +kernel
theorem dL_law_231 : decode cL_law 231 = .ok (.iload_n 3, 1) := by decide +kernel
theorem dL_law_232 : decode cL_law 232 = .ok (.iconst 2, 1) := by decide +kernel
theorem dL_law_233 : decode cL_law 233 = .ok (.iadd, 1) := by decide +kernel
theorem dL_law_234 : decode cL_law 234 = .ok (.iaload, 1) := by decide +kernel
theorem dL_law_235 : decode cL_law 235 = .ok (.invokevirtual 44, 3) := by decide +kernel
theorem dL_law_238 : decode cL_law 238 = .ok (.if_icmp .eq 64, 3) := by decide +kernel
theorem dL_law_241 : decode cL_law 241 = .ok (.iconst 0, 1) := by decide +kernel
theorem dL_law_242 : decode cL_law 242 = .ok (.ireturn, 1) := by decide +kernel
theorem dL_law_243 : decode cL_law 243 = .ok (.aload_n 1, 1) := by decide +kernel
theorem dL_law_244 : decode cL_law 244 = .ok (.invokevirtual 45, 3) := by decide +kernel
theorem dL_law_247 : decode cL_law 247 = .ok (.aload_n 2, 1) := by decide +kernel
theorem dL_law_248 : decode cL_law 248 = .ok (.invokevirtual 48, 3) := by decide +kernel
theorem dL_law_251 : decode cL_law 251 = .ok (.if_icmp .eq 51, 3) := by decide +kernel
theorem dL_law_254 : decode cL_law 254 = .ok (.iconst 0, 1) := by decide +kernel
theorem dL_law_255 : decode cL_law 255 = .ok (.ireturn, 1) := by decide +kernel
theorem dL_law_256 : decode cL_law 256 = .ok (.aload_n 1, 1) := by decide +kernel
theorem dL_law_257 : decode cL_law 257 = .ok (.invokevirtual 49, 3) := by decide +kernel
theorem dL_law_260 : decode cL_law 260 = .ok (.aload_n 2, 1) := by decide +kernel
theorem dL_law_261 : decode cL_law 261 = .ok (.invokevirtual 52, 3) := by decide +kernel
theorem dL_law_264 : decode cL_law 264 = .ok (.if_icmp .eq 38, 3) := by decide +kernel
theorem dL_law_267 : decode cL_law 267 = .ok (.iconst 0, 1) := by decide +kernel
theorem dL_law_268 : decode cL_law 268 = .ok (.ireturn, 1) := by decide +kernel
theorem dL_law_269 : decode cL_law 269 = .ok (.aload_n 1, 1) := by decide +kernel
theorem dL_law_270 : decode cL_law 270 = .ok (.aload_n 0, 1) := by decide +kernel
theorem dL_law_271 : decode cL_law 271 = .ok (.iload_n 3, 1) := by decide +kernel
theorem dL_law_272 : decode cL_law 272 = .ok (.iconst 1, 1) := by decide +kernel
theorem dL_law_273 : decode cL_law 273 = .ok (.iadd, 1) := by decide +kernel
theorem dL_law_274 : decode cL_law 274 = .ok (.iaload, 1) := by decide +kernel
theorem dL_law_275 : decode cL_law 275 = .ok (.aload_n 0, 1) := by decide +kernel
theorem dL_law_276 : decode cL_law 276 = .ok (.iload_n 3, 1) := by decide +kernel
theorem dL_law_277 : decode cL_law 277 = .ok (.iconst 2, 1) := by decide +kernel
theorem dL_law_278 : decode cL_law 278 = .ok (.iadd, 1) := by decide +kernel
theorem dL_law_279 : decode cL_law 279 = .ok (.iaload, 1) := by decide +kernel
theorem dL_law_280 : decode cL_law 280 = .ok (.invokevirtual 53, 3) := by decide +kernel
theorem dL_law_283 : decode cL_law 283 = .ok (.aload_n 2, 1) := by decide +kernel
theorem dL_law_284 : decode cL_law 284 = .ok (.aload_n 0, 1) := by decide +kernel
theorem dL_law_285 : decode cL_law 285 = .ok (.iload_n 3, 1) := by decide +kernel
theorem dL_law_286 : decode cL_law 286 = .ok (.iconst 1, 1) := by decide +kernel
theorem dL_law_287 : decode cL_law 287 = .ok (.iadd, 1) := by decide +kernel
theorem dL_law_288 : decode cL_law 288 = .ok (.iaload, 1) := by decide +kernel
theorem dL_law_289 : decode cL_law 289 = .ok (.aload_n 0, 1) := by decide +kernel
theorem dL_law_290 : decode cL_law 290 = .ok (.iload_n 3, 1) := by decide +kernel
theorem dL_law_291 : decode cL_law 291 = .ok (.iconst 2, 1) := by decide +kernel
theorem dL_law_292 : decode cL_law 292 = .ok (.iadd, 1) := by decide +kernel
theorem dL_law_293 : decode cL_law 293 = .ok (.iaload, 1) := by decide +kernel
theorem dL_law_294 : decode cL_law 294 = .ok (.invokevirtual 56, 3) := by decide +kernel
theorem dL_law_297 : decode cL_law 297 = .ok (.if_icmp .eq 5, 3) := by decide +kernel
theorem dL_law_300 : decode cL_law 300 = .ok (.iconst 0, 1) := by decide +kernel
theorem dL_law_301 : decode cL_law 301 = .ok (.ireturn, 1) := by decide +kernel
theorem dL_law_302 : decode cL_law 302 = .ok (.iinc 3 4, 3) := by decide +kernel
theorem dL_law_305 : decode cL_law 305 = .ok (.goto (-277), 3) := by decide +kernel
theorem dL_law_308 : decode cL_law 308 = .ok (.iconst 1, 1) := by decide +kernel
theorem dL_law_309 : decode cL_law 309 = .ok (.ireturn, 1) := by decide +kernel
end
section
/-! THE PLAIN LAW: networks, streams, least fixed points; no program in sight -/
/-- a network: how many processes; their numbers (0 kind, 1 a, 2 b, 3 c, 4 d); P; Q -/
abbrev Net : Type := Nat × (Nat → Nat → Nat) × (Nat → Int32) × (Nat → Int32)
abbrev Str : Type := Nat → List Int32
def nk (N : Net) (i : Nat) : Nat := N.2.1 0 i
def na (N : Net) (i : Nat) : Nat := N.2.1 1 i
def nb (N : Net) (i : Nat) : Nat := N.2.1 2 i
def nc (N : Net) (i : Nat) : Nat := N.2.1 3 i
def nd (N : Net) (i : Nat) : Nat := N.2.1 4 i
def nP (N : Net) (i : Nat) : Int32 := N.2.2.1 i
def nQ (N : Net) (i : Nat) : Int32 := N.2.2.2 i
abbrev nTwo (N : Net) (i : Nat) : Prop := nk N i = 2 ∨ nk N i = 5
def nRd (N : Net) (i x : Nat) : Prop := nk N i ≠ 0 ∧ (na N i = x ∨ (nTwo N i ∧ nb N i = x))
def nWr (N : Net) (i x : Nat) : Prop := nc N i = x ∨ (nk N i = 1 ∧ nd N i = x)
def nOk (N : Net) : Prop := N.1 ≤ 8 ∧ (∀ i, i < N.1 → nk N i ≤ 7 ∧ na N i < 10 ∧ nc N i < 10 ∧ nd N i < 10 ∧ nb N i ≤ 12 ∧ (nk N i ≠ 0 → nb N i < 10) ∧ (nTwo N i → na N i ≠ nb N i) ∧ (nk N i = 1 → nc N i ≠ nd N i)) ∧ (∀ i j x, i < N.1 → j < N.1 → nRd N i x → nRd N j x → i = j) ∧ (∀ i j x, i < N.1 → j < N.1 → nWr N i x → nWr N j x → i = j)
/-- what a process writes -/
def pl_src (P Q : Int32) : Nat → Nat → List Int32
  | _, 0 => []
  | j, m + 1 => (P + nI j * Q) :: pl_src P Q (j + 1) m
def pl_sums : Int32 → List Int32 → List Int32
  | _, [] => []
  | m, x :: xs => (m + x) :: pl_sums (m + x) xs
def pl_prs : Nat → Int32 → List Int32 → List Int32
  | _, _, [] => []
  | 0, _, x :: t => pl_prs 1 x t
  | _ + 1, m, x :: t => (m - x) :: pl_prs 0 m t
def pl_jn : List Int32 → List Int32 → List Int32
  | x :: xs, y :: ys => if x ≤ y then x :: pl_jn xs (y :: ys) else y :: pl_jn (x :: xs) ys
  | [], _ => []
  | _ :: _, [] => []
termination_by xs ys => xs.length + ys.length
def pl_rho (k b : Nat) (P Q mem : Int32) (ph : Nat) (xs ys : List Int32) : List Int32 :=
  match k with
  | 0 => pl_src P Q (b - mem.toNatClampNeg) mem.toNatClampNeg
  | 1 => xs
  | 2 => List.zipWith (fun x y => x + y) xs ys
  | 3 => if ph = 0 then P :: xs else xs
  | 4 => xs.filter (fun x => decide (x &&& P = 0))
  | 5 => pl_jn xs ys
  | 6 => pl_sums mem xs
  | _ => pl_prs ph mem xs
def pl_xs (N : Net) (i : Nat) (X : Str) (t : Nat → Nat) : List Int32 := if nk N i = 0 then [] else (X (na N i)).drop (t (na N i))
def pl_ys (N : Net) (i : Nat) (X : Str) (t : Nat → Nat) : List Int32 := if nTwo N i then (X (nb N i)).drop (t (nb N i)) else []
def pl_m0 (N : Net) (i : Nat) : Int32 := if nk N i = 0 then nI (nb N i) else 0
/-- the residue of process i in its state (m, ph), having taken t -/
def pl_res (N : Net) (i : Nat) (m : Int32) (ph : Nat) (X : Str) (t : Nat → Nat) : List Int32 := pl_rho (nk N i) (nb N i) (nP N i) (nQ N i) m ph (pl_xs N i X t) (pl_ys N i X t)
def pl_out (N : Net) (i : Nat) (X : Str) : List Int32 := pl_res N i (pl_m0 N i) 0 X (fun _ => 0)
def pl_Fix (N : Net) (S : Str) : Prop := (∀ i, i < N.1 → S (nc N i) = (pl_out N i S).take 20 ∧ (nk N i = 1 → S (nd N i) = (pl_out N i S).take 20)) ∧ ∀ x, x < 10 → (∀ i, i < N.1 → ¬ nWr N i x) → S x = []
def pl_Le (S X : Str) : Prop := ∀ x, x < 10 → S x <+: X x
def pl_Lfp (N : Net) (S : Str) : Prop := pl_Fix N S ∧ ∀ X, pl_Fix N X → pl_Le S X
theorem pl_prefix_antisymm {a b : List Int32} (h1 : a <+: b) (h2 : b <+: a) : a = b := h1.eq_of_length (Nat.le_antisymm h1.length_le h2.length_le)
theorem pl_Lfp_eq {N : Net} {S T : Str} (h1 : pl_Lfp N S) (h2 : pl_Lfp N T) {x : Nat} (hx : x < 10) : S x = T x := pl_prefix_antisymm (h1.2 T h2.1 x hx) (h2.2 S h1.1 x hx)
/-! the class's run -/
def pl_RK (N : Net) (S : Str) (t : Nat → Nat) (mem : Nat → Int32) (ph : Nat → Nat) : Prop :=
  (∀ x, x < 10 → (S x).length ≤ 20 ∧ t x ≤ (S x).length) ∧ (∀ X, pl_Fix N X → pl_Le S X) ∧
  (∀ i, i < N.1 → ∀ X, pl_Le S X → pl_out N i X = S (nc N i) ++ pl_res N i (mem i) (ph i) X t) ∧
  (∀ i, i < N.1 → nk N i = 1 → S (nd N i) = S (nc N i)) ∧ ∀ x, x < 10 → (∀ i, i < N.1 → ¬ nWr N i x) → S x = []
theorem pl_RK_start {N : Net} {mem : Nat → Int32} {ph : Nat → Nat} {S : Str} {t : Nat → Nat} (hS : ∀ x, x < 10 → S x = []) (hN : nOk N) (ht : ∀ x, x < 10 → t x = 0) (hm : ∀ i, i < N.1 → mem i = pl_m0 N i) (hp : ∀ i, i < N.1 → nk N i ≠ 0 → ph i = 0) : pl_RK N S t mem ph := by
  obtain ⟨-, hN1, -⟩ := hN
  refine ⟨fun x hx => ?_, fun X _ x hx => ?_, fun i hi X _ => ?_, fun i hi h1 => ?_, fun x hx _ => hS x hx⟩
  · rw [hS x hx, ht x hx]
    exact ⟨Nat.zero_le _, Nat.le_refl _⟩
  · rw [hS x hx]
    exact List.nil_prefix
  · obtain ⟨-, ha, hc, -, -, hb, -⟩ := hN1 i hi
    rw [hS _ hc, List.nil_append, hm i hi]
    unfold pl_out pl_res
    have e1 : pl_xs N i X t = pl_xs N i X (fun _ => 0) := by
      unfold pl_xs
      rw [ht _ ha]
    have e2 : pl_ys N i X t = pl_ys N i X (fun _ => 0) := by
      unfold pl_ys
      by_cases h2 : nTwo N i
      · rw [if_pos h2, if_pos h2, ht _ (hb (by rcases h2 with h | h <;> omega))]
      · rw [if_neg h2, if_neg h2]
    rw [e1, e2]
    by_cases h0 : nk N i = 0
    · rw [h0]
      rfl
    · rw [hp i hi h0]
  · obtain ⟨-, -, hc, hd, -⟩ := hN1 i hi
    rw [hS _ hc, hS _ hd]
theorem pl_RK_step {N : Net} {S S' : Str} {t t' : Nat → Nat} {mem mem' : Nat → Int32} {ph ph' : Nat → Nat} (hN : nOk N) (h : pl_RK N S t mem ph) {i : Nat} (hi : i < N.1) (em : List Int32)
    (hlen : (S (nc N i)).length + em.length ≤ 20) (hSw : ∀ x, x < 10 → nWr N i x → S' x = S x ++ em) (hSo : ∀ x, x < 10 → ¬ nWr N i x → S' x = S x)
    (ht : ∀ x, x < 10 → ¬ nRd N i x → t' x = t x) (htl : ∀ x, x < 10 → t' x ≤ (S x).length) (hm : ∀ j, j < N.1 → j ≠ i → mem' j = mem j) (hp : ∀ j, j < N.1 → j ≠ i → nk N j ≠ 0 → ph' j = ph j)
    (hr : ∀ X, pl_Le S X → pl_res N i (mem i) (ph i) X t = em ++ pl_res N i (mem' i) (ph' i) X t') : pl_RK N S' t' mem' ph' := by
  obtain ⟨hK0, hK1, hK2, hK3, hK4⟩ := h
  obtain ⟨-, hN1, hNr, hNw⟩ := hN
  obtain ⟨-, ha, hc, hd, -, hb, -⟩ := hN1 i hi
  have hsame : ∀ x, x < 10 → nWr N i x → S x = S (nc N i) := by
    intro x hx hw
    rcases hw with e | ⟨e1, e2⟩
    · rw [e]
    · rw [← e2]
      exact hK3 i hi e1
  have hgrow : ∀ x, x < 10 → S x <+: S' x := by
    intro x hx
    by_cases hw : nWr N i x
    · rw [hSw x hx hw]
      exact List.prefix_append _ _
    · rw [hSo x hx hw]
      exact List.prefix_rfl
  have hle : ∀ X, pl_Le S' X → pl_Le S X := fun X hX x hx => (hgrow x hx).trans (hX x hx)
  refine ⟨fun x hx => ?_, fun X hX x hx => ?_, fun j hj X hX => ?_, fun j hj h1 => ?_, fun x hx hx2 => ?_⟩
  · refine ⟨?_, Nat.le_trans (htl x hx) (hgrow x hx).length_le⟩
    by_cases hw : nWr N i x
    · rw [hSw x hx hw, List.length_append, hsame x hx hw]
      exact hlen
    · rw [hSo x hx hw]
      exact (hK0 x hx).1
  · have hL := hK1 X hX
    by_cases hw : nWr N i x
    · rw [hSw x hx hw, hsame x hx hw]
      have e1 := hK2 i hi X hL
      rw [hr X hL, ← List.append_assoc] at e1
      have e2 : X x = (pl_out N i X).take 20 := by
        rcases hw with e | ⟨q1, q2⟩
        · rw [← e]
          exact (hX.1 i hi).1
        · rw [← q2]
          exact (hX.1 i hi).2 q1
      rw [e2, List.prefix_take_iff]
      refine ⟨?_, by rw [List.length_append]; exact hlen⟩
      rw [e1]
      exact List.prefix_append _ _
    · rw [hSo x hx hw]
      exact hL x hx
  · have hL := hle X hX
    by_cases hji : j = i
    · subst hji
      rw [hK2 j hj X hL, hr X hL, hSw _ hc (Or.inl rfl), List.append_assoc]
    · obtain ⟨-, ja, jc, -, -, jb, -⟩ := hN1 j hj
      have hnw : ¬ nWr N i (nc N j) := fun q => hji (hNw j i _ hj hi (Or.inl rfl) q)
      rw [hK2 j hj X hL, hSo _ jc hnw, hm j hj hji]
      congr 1
      unfold pl_res
      have e1 : pl_xs N j X t' = pl_xs N j X t := by
        unfold pl_xs
        by_cases h0 : nk N j = 0
        · rw [if_pos h0, if_pos h0]
        · rw [if_neg h0, if_neg h0, ht _ ja (fun q => hji (hNr j i _ hj hi ⟨h0, Or.inl rfl⟩ q))]
      have e2 : pl_ys N j X t' = pl_ys N j X t := by
        unfold pl_ys
        by_cases h2 : nTwo N j
        · have h0 : nk N j ≠ 0 := by rcases h2 with h | h <;> omega
          rw [if_pos h2, if_pos h2, ht _ (jb h0) (fun q => hji (hNr j i _ hj hi ⟨h0, Or.inr ⟨h2, rfl⟩⟩ q))]
        · rw [if_neg h2, if_neg h2]
      rw [e1, e2]
      by_cases h0 : nk N j = 0
      · rw [h0]
        rfl
      · rw [hp j hj hji h0]
  · obtain ⟨-, -, jc, jd, -⟩ := hN1 j hj
    by_cases hji : j = i
    · subst hji
      rw [hSw _ jc (Or.inl rfl), hSw _ jd (Or.inr ⟨h1, rfl⟩), hK3 j hj h1]
    · rw [hSo _ jc (fun q => hji (hNw j i _ hj hi (Or.inl rfl) q)), hSo _ jd (fun q => hji (hNw j i _ hj hi (Or.inr ⟨h1, rfl⟩) q)), hK3 j hj h1]
  · rw [hSo x hx (hx2 i hi)]
    exact hK4 x hx hx2
theorem pl_RK_done {N : Net} {S : Str} {t : Nat → Nat} {mem : Nat → Int32} {ph : Nat → Nat} (h : pl_RK N S t mem ph) (hN : nOk N) (hd : ∀ i, i < N.1 → (S (nc N i)).length = 20 ∨ pl_res N i (mem i) (ph i) S t = []) : pl_Lfp N S := by
  obtain ⟨hK0, hK1, hK2, hK3, hK4⟩ := h
  refine ⟨⟨fun i hi => ?_, hK4⟩, hK1⟩
  obtain ⟨-, -, hc, -⟩ := hN.2.1 i hi
  have e := hK2 i hi S (fun x _ => List.prefix_rfl)
  have key : S (nc N i) = (pl_out N i S).take 20 := by
    rcases hd i hi with q | q
    · rw [e, List.take_append_of_le_length (by omega), List.take_of_length_le (by omega)]
    · rw [e, q, List.append_nil, List.take_of_length_le (hK0 _ hc).1]
  exact ⟨key, fun h1 => (hK3 i hi h1).trans key⟩
/-! more input, more output -/
theorem pl_sums_mono : ∀ {xs xs' : List Int32} (m : Int32), xs <+: xs' → pl_sums m xs <+: pl_sums m xs'
  | [], _, _, _ => List.nil_prefix
  | x :: xs, [], _, h => absurd h (by simp)
  | x :: xs, x' :: xs', m, h => by
    obtain ⟨e, h2⟩ := List.cons_prefix_cons.mp h
    subst e
    show ((m + x) :: pl_sums (m + x) xs) <+: ((m + x) :: pl_sums (m + x) xs')
    exact List.cons_prefix_cons.mpr ⟨rfl, pl_sums_mono _ h2⟩
theorem pl_prs_mono : ∀ {xs xs' : List Int32} (ph : Nat) (m : Int32), xs <+: xs' → pl_prs ph m xs <+: pl_prs ph m xs'
  | [], _, ph, m, _ => by
    rw [show pl_prs ph m [] = [] from by cases ph <;> rfl]
    exact List.nil_prefix
  | x :: xs, [], _, _, h => absurd h (by simp)
  | x :: xs, x' :: xs', 0, m, h => by
    obtain ⟨e, h2⟩ := List.cons_prefix_cons.mp h
    subst e
    exact pl_prs_mono 1 x h2
  | x :: xs, x' :: xs', ph + 1, m, h => by
    obtain ⟨e, h2⟩ := List.cons_prefix_cons.mp h
    subst e
    exact List.cons_prefix_cons.mpr ⟨rfl, pl_prs_mono 0 m h2⟩
theorem pl_zip_mono : ∀ {xs xs' ys ys' : List Int32}, xs <+: xs' → ys <+: ys' → List.zipWith (fun x y => x + y) xs ys <+: List.zipWith (fun x y => x + y) xs' ys'
  | [], _, _, _, _, _ => List.nil_prefix
  | x :: xs, [], _, _, h, _ => absurd h (by simp)
  | x :: xs, x' :: xs', [], _, _, _ => List.nil_prefix
  | x :: xs, x' :: xs', y :: ys, [], _, h => absurd h (by simp)
  | x :: xs, x' :: xs', y :: ys, y' :: ys', h, g => by
    obtain ⟨e, h2⟩ := List.cons_prefix_cons.mp h
    obtain ⟨e3, g2⟩ := List.cons_prefix_cons.mp g
    subst e
    subst e3
    exact List.cons_prefix_cons.mpr ⟨rfl, pl_zip_mono h2 g2⟩
theorem pl_jn_nil_r (xs : List Int32) : pl_jn xs [] = [] := by
  cases xs with
  | nil => rw [pl_jn]
  | cons x xs => rw [pl_jn]
theorem pl_jn_nil_l (ys : List Int32) : pl_jn [] ys = [] := by rw [pl_jn]
theorem pl_jn_le {x y : Int32} {xs ys : List Int32} (h : x ≤ y) : pl_jn (x :: xs) (y :: ys) = x :: pl_jn xs (y :: ys) := by
  rw [pl_jn, if_pos h]
theorem pl_jn_gt {x y : Int32} {xs ys : List Int32} (h : ¬ x ≤ y) : pl_jn (x :: xs) (y :: ys) = y :: pl_jn (x :: xs) ys := by
  rw [pl_jn, if_neg h]
theorem pl_jn_mono : ∀ (n : Nat) {xs xs' ys ys' : List Int32}, xs.length + ys.length ≤ n → xs <+: xs' → ys <+: ys' → pl_jn xs ys <+: pl_jn xs' ys' := by
  intro n
  induction n with
  | zero =>
    intro xs xs' ys ys' hn hx hy
    have : xs = [] := List.eq_nil_of_length_eq_zero (by omega)
    subst this
    rw [pl_jn_nil_l]
    exact List.nil_prefix
  | succ n ih =>
    intro xs xs' ys ys' hn hx hy
    match xs, xs', ys, ys', hn, hx, hy with
    | [], _, _, _, _, _, _ =>
      rw [pl_jn_nil_l]
      exact List.nil_prefix
    | x :: xs, [], _, _, _, hx, _ => exact absurd hx (by simp)
    | x :: xs, x' :: xs', [], _, _, _, _ =>
      rw [pl_jn_nil_r]
      exact List.nil_prefix
    | x :: xs, x' :: xs', y :: ys, [], _, _, hy => exact absurd hy (by simp)
    | x :: xs, x' :: xs', y :: ys, y' :: ys', hn, hx, hy =>
      have hx0 := hx
      have hy0 := hy
      obtain ⟨e, h2⟩ := List.cons_prefix_cons.mp hx
      obtain ⟨e3, g2⟩ := List.cons_prefix_cons.mp hy
      subst e
      subst e3
      simp only [List.length_cons] at hn
      by_cases hxy : x ≤ y
      · rw [pl_jn_le hxy, pl_jn_le hxy]
        exact List.cons_prefix_cons.mpr ⟨rfl, ih (by simp only [List.length_cons]; omega) h2 hy0⟩
      · rw [pl_jn_gt hxy, pl_jn_gt hxy]
        exact List.cons_prefix_cons.mpr ⟨rfl, ih (by simp only [List.length_cons]; omega) hx0 g2⟩
theorem pl_rho_mono (k b : Nat) (P Q m : Int32) (ph : Nat) {xs xs' ys ys' : List Int32} (hx : xs <+: xs') (hy : ys <+: ys') : pl_rho k b P Q m ph xs ys <+: pl_rho k b P Q m ph xs' ys' := by
  unfold pl_rho
  split
  · exact List.prefix_rfl
  · exact hx
  · exact pl_zip_mono hx hy
  · split
    · exact List.cons_prefix_cons.mpr ⟨rfl, hx⟩
    · exact hx
  · exact hx.filter _
  · exact pl_jn_mono _ (Nat.le_refl _) hx hy
  · exact pl_sums_mono _ hx
  · exact pl_prs_mono _ _ hx
theorem pl_out_mono {N : Net} (hN : nOk N) {i : Nat} (hi : i < N.1) {S X : Str} (h : pl_Le S X) : pl_out N i S <+: pl_out N i X := by
  obtain ⟨-, ha, -, -, -, hb, -⟩ := hN.2.1 i hi
  unfold pl_out pl_res
  refine pl_rho_mono _ _ _ _ _ _ ?_ ?_
  · unfold pl_xs
    split
    · exact List.prefix_rfl
    · rw [List.drop_zero, List.drop_zero]
      exact h _ ha
  · unfold pl_ys
    split
    · next h2 =>
      rw [List.drop_zero, List.drop_zero]
      exact h _ (hb (by rcases h2 with q | q <;> omega))
    · exact List.prefix_rfl
theorem pl_take_mono {a b : List Int32} (h : a <+: b) (n : Nat) : a.take n <+: b.take n := by
  rw [List.prefix_take_iff]
  refine ⟨(List.take_prefix n a).trans h, ?_⟩
  rw [List.length_take]
  omega
/-! the reference's rounds -/
def pl_MK (N : Net) (S : Str) : Prop := (∀ x, x < 10 → (S x).length ≤ 20) ∧ (∀ X, pl_Fix N X → pl_Le S X) ∧ (∀ i, i < N.1 → S (nc N i) <+: (pl_out N i S).take 20) ∧ (∀ i, i < N.1 → nk N i = 1 → S (nd N i) = S (nc N i)) ∧ ∀ x, x < 10 → (∀ i, i < N.1 → ¬ nWr N i x) → S x = []
theorem pl_MK_start {N : Net} {S : Str} (hS : ∀ x, x < 10 → S x = []) (hN : nOk N) : pl_MK N S := by
  refine ⟨fun x hx => by rw [hS x hx]; exact Nat.zero_le _, fun X _ x hx => by rw [hS x hx]; exact List.nil_prefix, fun i hi => ?_, fun i hi _ => ?_, fun x hx _ => hS x hx⟩
  · rw [hS _ (hN.2.1 i hi).2.2.1]
    exact List.nil_prefix
  · rw [hS _ (hN.2.1 i hi).2.2.1, hS _ (hN.2.1 i hi).2.2.2.1]
theorem pl_MK_step {N : Net} {S S' : Str} (hN : nOk N) (h : pl_MK N S) {i : Nat} (hi : i < N.1) (hSw : ∀ x, x < 10 → nWr N i x → S' x = (pl_out N i S).take 20) (hSo : ∀ x, x < 10 → ¬ nWr N i x → S' x = S x) : pl_MK N S' ∧ pl_Le S S' := by
  obtain ⟨hK0, hK1, hK2, hK3, hK4⟩ := h
  have hN1 := hN.2.1
  have hNw := hN.2.2.2
  obtain ⟨-, -, hc, hd, -⟩ := hN1 i hi
  have hsame : ∀ x, x < 10 → nWr N i x → S x = S (nc N i) := by
    intro x hx hw
    rcases hw with e | ⟨e1, e2⟩
    · rw [e]
    · rw [← e2]
      exact hK3 i hi e1
  have hgrow : pl_Le S S' := by
    intro x hx
    by_cases hw : nWr N i x
    · rw [hSw x hx hw, hsame x hx hw]
      exact hK2 i hi
    · rw [hSo x hx hw]
      exact List.prefix_rfl
  refine ⟨⟨fun x hx => ?_, fun X hX x hx => ?_, fun j hj => ?_, fun j hj h1 => ?_, fun x hx hx2 => ?_⟩, hgrow⟩
  · by_cases hw : nWr N i x
    · rw [hSw x hx hw, List.length_take]
      omega
    · rw [hSo x hx hw]
      exact hK0 x hx
  · have hL := hK1 X hX
    by_cases hw : nWr N i x
    · have e2 : X x = (pl_out N i X).take 20 := by
        rcases hw with e | ⟨q1, q2⟩
        · rw [← e]
          exact (hX.1 i hi).1
        · rw [← q2]
          exact (hX.1 i hi).2 q1
      rw [hSw x hx hw, e2]
      exact pl_take_mono (pl_out_mono hN hi hL) 20
    · rw [hSo x hx hw]
      exact hL x hx
  · have hm := pl_take_mono (pl_out_mono hN hj hgrow) 20
    obtain ⟨-, -, jc, -⟩ := hN1 j hj
    by_cases hji : j = i
    · subst hji
      rw [hSw _ jc (Or.inl rfl)]
      exact hm
    · rw [hSo _ jc (fun q => hji (hNw j i _ hj hi (Or.inl rfl) q))]
      exact (hK2 j hj).trans hm
  · obtain ⟨-, -, jc, jd, -⟩ := hN1 j hj
    by_cases hji : j = i
    · subst hji
      rw [hSw _ jc (Or.inl rfl), hSw _ jd (Or.inr ⟨h1, rfl⟩)]
    · rw [hSo _ jc (fun q => hji (hNw j i _ hj hi (Or.inl rfl) q)), hSo _ jd (fun q => hji (hNw j i _ hj hi (Or.inr ⟨h1, rfl⟩) q)), hK3 j hj h1]
  · rw [hSo x hx (hx2 i hi)]
    exact hK4 x hx hx2
theorem pl_MK_done {N : Net} {S : Str} (h : pl_MK N S) (hd : ∀ i, i < N.1 → (pl_out N i S).take 20 = S (nc N i)) : pl_Lfp N S := by
  obtain ⟨hK0, hK1, hK2, hK3, hK4⟩ := h
  exact ⟨⟨fun i hi => ⟨(hd i hi).symm, fun h1 => (hK3 i hi h1).trans (hd i hi).symm⟩, hK4⟩, hK1⟩
end
section
set_option maxRecDepth 100000
abbrev KS : Type := Nat → Nat → Int32
/-- one cell of the state changed -/
def su (σ : KS) (f i : Nat) (v : Int32) : KS := fun g => cond (Nat.beq g f) (upd (σ g) i v) (σ g)
theorem su_same (σ : KS) (f i : Nat) (v : Int32) : su σ f i v f = upd (σ f) i v := by
  unfold su
  rw [Nat.beq_refl]
  rfl
theorem su_at (σ : KS) (f i : Nat) (v : Int32) : su σ f i v f i = v := by
  rw [su_same]
  simp [upd]
theorem su_ne {σ : KS} {f i j : Nat} {v : Int32} (h : j ≠ i) : su σ f i v f j = σ f j := by
  rw [su_same]
  simp [upd, h]
theorem su_other {σ : KS} {f g i : Nat} {v : Int32} (h : g ≠ f) : su σ f i v g = σ g := by
  unfold su
  rw [show Nat.beq g f = false from by
    cases hb : Nat.beq g f with
    | false => rfl
    | true => exact absurd (Nat.eq_of_beq_eq_true hb) h]
  rfl
abbrev vwCl : List vw_C := [(RX1, TX1, 16), (RX2, TX2, 14)]
/-- a boolean answer -/
def vB (r : Int32) (P : Prop) : Prop := (r = 1 ∧ P) ∨ (r = 0 ∧ ¬ P)
theorem vB_t {P : Prop} (h : P) : vB 1 P := Or.inl ⟨rfl, h⟩
theorem vB_f {P : Prop} (h : ¬ P) : vB 0 P := Or.inr ⟨rfl, h⟩
theorem vB_eq0 {r : Int32} {P : Prop} (h : vB r P) (h0 : r = 0) : ¬ P := by
  rcases h with ⟨h1, -⟩ | ⟨-, h1⟩
  · rw [h1] at h0
    exact absurd h0 (by decide)
  · exact h1
theorem vB_ne0 {r : Int32} {P : Prop} (h : vB r P) (h0 : ¬ r = 0) : P := by
  rcases h with ⟨-, h1⟩ | ⟨h1, -⟩
  · exact h1
  · exact absurd h1 h0
theorem vB_iff {r : Int32} {P P' : Prop} (h : vB r P) (e : P ↔ P') : vB r P' := by
  rcases h with ⟨h1, h2⟩ | ⟨h1, h2⟩
  · exact Or.inl ⟨h1, e.mp h2⟩
  · exact Or.inr ⟨h1, fun q => h2 (e.mpr q)⟩
theorem n8_nI : ∀ k, k < 128 → vp_nar .byte (nI k) = nI k := by decide +kernel
theorem b8_nI : ∀ k, k < 128 → (nI k).toInt8.toInt32 = nI k := by decide +kernel
theorem n8_m1 : vp_nar .byte (-1) = -1 := by decide +kernel
theorem b8_m1 : (-1 : Int32).toInt8.toInt32 = -1 := by decide +kernel

abbrev kW (c1 c2 : ClassId) (h : Nat) (ad : Nat → Nat) (σ : KS) : va_W := [(h, .inr (0, [.int (σ 0 0), .int (σ 1 0), .ref (ad 2), .ref (ad 3), .ref (ad 4), .ref (ad 5), .ref (ad 6), .ref (ad 7), .ref (ad 8), .int (σ 9 0), .ref (ad 10), .ref (ad 11), .ref (ad 12), .ref (ad 13), .ref (ad 14), .ref (ad 15)])), (ad 2, .inl (c1, 8, .inl (σ 2))), (ad 3, .inl (c1, 8, .inl (σ 3))), (ad 4, .inl (c1, 8, .inl (σ 4))), (ad 5, .inl (c1, 8, .inl (σ 5))), (ad 6, .inl (c1, 8, .inl (σ 6))), (ad 7, .inl (c2, 8, .inl (σ 7))), (ad 8, .inl (c2, 8, .inl (σ 8))), (ad 10, .inl (c2, 200, .inl (σ 10))), (ad 11, .inl (c1, 10, .inl (σ 11))), (ad 12, .inl (c1, 10, .inl (σ 12))), (ad 13, .inl (c1, 10, .inl (σ 13))), (ad 14, .inl (c2, 8, .inl (σ 14))), (ad 15, .inl (c1, 8, .inl (σ 15)))]
def kX (p : Program) (s : State) (m : MethodId) (args : Array Value) (c : Code) (cc : ByteArray) (nL : Nat) (D : va_G) (c1 c2 : ClassId) : Prop :=
  p.tables.exec = Jvm.exec ∧ c.code = cc ∧ c.maxLocals = nL ∧ s.vm.findClass RX1 = some m.cls ∧ (∀ w ∈ lw_all, w.before args s = true) ∧ va_K D vwCl [(c1, .byte), (c2, .int)] s
def kI (D : va_G) (c1 c2 : ClassId) (h : Nat) (ad : Nat → Nat) (A : Nat → Prop) (H0 : Heap) (σ : KS) (H : Heap) (locs : List Loc) : Prop := va_P D vwCl (kW c1 c2 h ad σ) H ∧ va_D A (kW c1 c2 h ad σ) ∧ va_S A H0 H locs
/-- a contract's start: the object's cells hold σ, and lie in A -/
def kP (D : va_G) (c1 c2 : ClassId) (h : Nat) (ad : Nat → Nat) (A : Nat → Prop) (σ : KS) (As : List Value) : Array Value → State → Prop := va_Pc (.ref h :: As) (fun U => va_P D vwCl (kW c1 c2 h ad σ) U.heap ∧ va_K D vwCl [(c1, .byte), (c2, .int)] U ∧ va_D A (kW c1 c2 h ad σ))
def kB (D : va_G) (c1 c2 : ClassId) (h : Nat) (ad : Nat → Nat) (A : Nat → Prop) (σ : KS) (t : State) : Prop := va_P D vwCl (kW c1 c2 h ad σ) t.heap ∧ va_K D vwCl [(c1, .byte), (c2, .int)] t ∧ va_D A (kW c1 c2 h ad σ)
section kRows
variable {p : Program} {l : Launch} {e : Env} {R : Room} {s : State} {m : MethodId} {args : Array Value} {below : List Frame} {meth : Method} {c : Code} {H : Heap} {locs : List Loc} {cells slots : Nat} {Q : State → Prop}
variable {cc : ByteArray} {nL pc : Nat} {ls : Array Slot} {rest : List Value} {D : va_G} {c1 c2 : ClassId} {A : Nat → Prop} {h : Nat} {ad : Nat → Nat} {σ : KS}
/-- the top of the stack by another name -/
theorem kv_top {x y : Int32} (he : x = y) (kk : W p l e R s m args below meth c H locs cells slots Q (F0 m pc ls (.int y :: rest))) : W p l e R s m args below meth c H locs cells slots Q (F0 m pc ls (.int x :: rest)) := by
  subst he
  exact kk
theorem kv_pc {pc2 : Nat} {st : List Value} (he : pc = pc2) (kk : W p l e R s m args below meth c H locs cells slots Q (F0 m pc2 ls st)) : W p l e R s m args below meth c H locs cells slots Q (F0 m pc ls st) := by
  subst he
  exact kk
theorem kg_firstBuffer (X : kX p s m args c cc nL D c1 c2) (I : kI D c1 c2 h ad A s.heap σ H locs) {v : Int32} (hv : σ 0 0 = v) (d : decode cc pc = .ok (.getfield 50, 3)) (kk : W p l e R s m args below meth c H locs cells slots Q (F0 m (pc + 3) ls (.int v :: rest))) : W p l e R s m args below meth c H locs cells slots Q (F0 m pc ls (.ref h :: rest)) := by
  obtain ⟨hx, hb, hml, hown, hts, hK⟩ := X
  obtain ⟨hP, hD, hS⟩ := I
  subst hv
  exact va_get (D := D) (ci := 0) (v := .int (σ 0 0)) (C := RX1) (T := TX1) (N := 16) hx hb hts in_X1 hown hK hP 0 rfl rfl 0 (by decide) (hts _ q35) (fun _ h9 => h9) rfl d kk
theorem kf_firstBuffer (X : kX p s m args c cc nL D c1 c2) (I : kI D c1 c2 h ad A s.heap σ H locs) {v : Int32} (hv : σ 0 0 = v) (ha : ls[0]? = some (.val (.ref h))) (d1 : decode cc pc = .ok (.aload_n 0, 1)) (d2 : decode cc (pc + 1) = .ok (.getfield 50, 3)) (kk : W p l e R s m args below meth c H locs cells slots Q (F0 m (pc + 1 + 3) ls (.int v :: rest))) : W p l e R s m args below meth c H locs cells slots Q (F0 m pc ls rest) := by
  refine lv_aload_n X.1 X.2.1 d1 rfl ha ?_
  exact kg_firstBuffer X I hv d2 kk
theorem kp_firstBuffer (X : kX p s m args c cc nL D c1 c2) (I : kI D c1 c2 h ad A s.heap σ H locs) {v : Int32} (d : decode cc pc = .ok (.putfield 50, 3)) (kk : ∀ (H1 : Heap) (locs1 : List Loc), kI D c1 c2 h ad A s.heap (su σ 0 0 v) H1 locs1 → W p l e R s m args below meth c H1 locs1 cells slots Q (F0 m (pc + 3) ls rest)) : W p l e R s m args below meth c H locs cells slots Q (F0 m pc ls (.int v :: .ref h :: rest)) := by
  obtain ⟨hx, hb, hml, hown, hts, hK⟩ := X
  obtain ⟨hP, hD, hS⟩ := I
  exact va_put (D := D) (ci := 0) (v := .int v) (ty := .int) (C := RX1) (T := TX1) (N := 16) hx hb hts in_X1 tyX1 tyX1_ok nmX1 hown hK hP hD hS 0 rfl rfl 0 (by decide) (hts _ q35) (fun _ h9 => h9) rfl (by decide +kernel) rfl rfl (Nat.le_of_ble_eq_true rfl) d (fun H1 locs1 hP1 hD1 hS1 => kk H1 locs1 ⟨hP1, hD1, hS1⟩)
theorem kg_processCount (X : kX p s m args c cc nL D c1 c2) (I : kI D c1 c2 h ad A s.heap σ H locs) {v : Int32} (hv : σ 1 0 = v) (d : decode cc pc = .ok (.getfield 54, 3)) (kk : W p l e R s m args below meth c H locs cells slots Q (F0 m (pc + 3) ls (.int v :: rest))) : W p l e R s m args below meth c H locs cells slots Q (F0 m pc ls (.ref h :: rest)) := by
  obtain ⟨hx, hb, hml, hown, hts, hK⟩ := X
  obtain ⟨hP, hD, hS⟩ := I
  subst hv
  exact va_get (D := D) (ci := 0) (v := .int (σ 1 0)) (C := RX1) (T := TX1) (N := 16) hx hb hts in_X1 hown hK hP 0 rfl rfl 1 (by decide) (hts _ q36) (fun _ h9 => h9) rfl d kk
theorem kf_processCount (X : kX p s m args c cc nL D c1 c2) (I : kI D c1 c2 h ad A s.heap σ H locs) {v : Int32} (hv : σ 1 0 = v) (ha : ls[0]? = some (.val (.ref h))) (d1 : decode cc pc = .ok (.aload_n 0, 1)) (d2 : decode cc (pc + 1) = .ok (.getfield 54, 3)) (kk : W p l e R s m args below meth c H locs cells slots Q (F0 m (pc + 1 + 3) ls (.int v :: rest))) : W p l e R s m args below meth c H locs cells slots Q (F0 m pc ls rest) := by
  refine lv_aload_n X.1 X.2.1 d1 rfl ha ?_
  exact kg_processCount X I hv d2 kk
theorem kp_processCount (X : kX p s m args c cc nL D c1 c2) (I : kI D c1 c2 h ad A s.heap σ H locs) {v : Int32} (d : decode cc pc = .ok (.putfield 54, 3)) (kk : ∀ (H1 : Heap) (locs1 : List Loc), kI D c1 c2 h ad A s.heap (su σ 1 0 v) H1 locs1 → W p l e R s m args below meth c H1 locs1 cells slots Q (F0 m (pc + 3) ls rest)) : W p l e R s m args below meth c H locs cells slots Q (F0 m pc ls (.int v :: .ref h :: rest)) := by
  obtain ⟨hx, hb, hml, hown, hts, hK⟩ := X
  obtain ⟨hP, hD, hS⟩ := I
  exact va_put (D := D) (ci := 0) (v := .int v) (ty := .int) (C := RX1) (T := TX1) (N := 16) hx hb hts in_X1 tyX1 tyX1_ok nmX1 hown hK hP hD hS 0 rfl rfl 1 (by decide) (hts _ q36) (fun _ h9 => h9) rfl (by decide +kernel) rfl rfl (Nat.le_of_ble_eq_true rfl) d (fun H1 locs1 hP1 hD1 hS1 => kk H1 locs1 ⟨hP1, hD1, hS1⟩)
theorem kg_kinds (X : kX p s m args c cc nL D c1 c2) (I : kI D c1 c2 h ad A s.heap σ H locs) (d : decode cc pc = .ok (.getfield 7, 3)) (kk : W p l e R s m args below meth c H locs cells slots Q (F0 m (pc + 3) ls (.ref (ad 2) :: rest))) : W p l e R s m args below meth c H locs cells slots Q (F0 m pc ls (.ref h :: rest)) := by
  obtain ⟨hx, hb, hml, hown, hts, hK⟩ := X
  obtain ⟨hP, hD, hS⟩ := I
  exact va_get (D := D) (ci := 0) (v := .ref (ad 2)) (C := RX1) (T := TX1) (N := 16) hx hb hts in_X1 hown hK hP 0 rfl rfl 2 (by decide) (hts _ q37) (fun _ h9 => h9) rfl d kk
theorem kf_kinds (X : kX p s m args c cc nL D c1 c2) (I : kI D c1 c2 h ad A s.heap σ H locs) (ha : ls[0]? = some (.val (.ref h))) (d1 : decode cc pc = .ok (.aload_n 0, 1)) (d2 : decode cc (pc + 1) = .ok (.getfield 7, 3)) (kk : W p l e R s m args below meth c H locs cells slots Q (F0 m (pc + 1 + 3) ls (.ref (ad 2) :: rest))) : W p l e R s m args below meth c H locs cells slots Q (F0 m pc ls rest) := by
  refine lv_aload_n X.1 X.2.1 d1 rfl ha ?_
  exact kg_kinds X I d2 kk
theorem kl_kinds (X : kX p s m args c cc nL D c1 c2) (I : kI D c1 c2 h ad A s.heap σ H locs) {i : Int32} (k : Nat) (hi : i = nI k) (hk : k < 8) {v : Int32} (hv : σ 2 k = v) (d : decode cc pc = .ok (.baload, 1)) (kk : W p l e R s m args below meth c H locs cells slots Q (F0 m (pc + 1) ls (.int v :: rest))) : W p l e R s m args below meth c H locs cells slots Q (F0 m pc ls (.int i :: .ref (ad 2) :: rest)) := by
  obtain ⟨hx, hb, hml, hown, hts, hK⟩ := X
  obtain ⟨hP, hD, hS⟩ := I
  subst hi
  have hcl := nI_clamp (n := k) (by omega)
  refine va_bald hx hb hK hP 1 0 rfl rfl (vp_in_nI hk (by decide)) d ?_
  rw [hcl, hv]
  exact kk
theorem ks_kinds (X : kX p s m args c cc nL D c1 c2) (I : kI D c1 c2 h ad A s.heap σ H locs) {i x : Int32} (k : Nat) (hi : i = nI k) (hk : k < 8) {y : Int32} (hy : vp_nar .byte x = y) (d : decode cc pc = .ok (.bastore, 1)) (kk : ∀ (H1 : Heap) (locs1 : List Loc), kI D c1 c2 h ad A s.heap (su σ 2 k y) H1 locs1 → W p l e R s m args below meth c H1 locs1 cells slots Q (F0 m (pc + 1) ls rest)) : W p l e R s m args below meth c H locs cells slots Q (F0 m pc ls (.int x :: .int i :: .ref (ad 2) :: rest)) := by
  obtain ⟨hx, hb, hml, hown, hts, hK⟩ := X
  obtain ⟨hP, hD, hS⟩ := I
  subst hi
  subst hy
  have hcl := nI_clamp (n := k) (by omega)
  refine va_bast hx hb hK hP hD hS 1 0 rfl rfl (vp_in_nI hk (by decide)) d (fun H1 locs1 hP1 hD1 hS1 => ?_)
  rw [hcl] at hP1 hD1
  exact kk H1 locs1 ⟨hP1, hD1, hS1⟩
theorem kg_readsA (X : kX p s m args c cc nL D c1 c2) (I : kI D c1 c2 h ad A s.heap σ H locs) (d : decode cc pc = .ok (.getfield 13, 3)) (kk : W p l e R s m args below meth c H locs cells slots Q (F0 m (pc + 3) ls (.ref (ad 3) :: rest))) : W p l e R s m args below meth c H locs cells slots Q (F0 m pc ls (.ref h :: rest)) := by
  obtain ⟨hx, hb, hml, hown, hts, hK⟩ := X
  obtain ⟨hP, hD, hS⟩ := I
  exact va_get (D := D) (ci := 0) (v := .ref (ad 3)) (C := RX1) (T := TX1) (N := 16) hx hb hts in_X1 hown hK hP 0 rfl rfl 3 (by decide) (hts _ q38) (fun _ h9 => h9) rfl d kk
theorem kf_readsA (X : kX p s m args c cc nL D c1 c2) (I : kI D c1 c2 h ad A s.heap σ H locs) (ha : ls[0]? = some (.val (.ref h))) (d1 : decode cc pc = .ok (.aload_n 0, 1)) (d2 : decode cc (pc + 1) = .ok (.getfield 13, 3)) (kk : W p l e R s m args below meth c H locs cells slots Q (F0 m (pc + 1 + 3) ls (.ref (ad 3) :: rest))) : W p l e R s m args below meth c H locs cells slots Q (F0 m pc ls rest) := by
  refine lv_aload_n X.1 X.2.1 d1 rfl ha ?_
  exact kg_readsA X I d2 kk
theorem kl_readsA (X : kX p s m args c cc nL D c1 c2) (I : kI D c1 c2 h ad A s.heap σ H locs) {i : Int32} (k : Nat) (hi : i = nI k) (hk : k < 8) {v : Int32} (hv : σ 3 k = v) (d : decode cc pc = .ok (.baload, 1)) (kk : W p l e R s m args below meth c H locs cells slots Q (F0 m (pc + 1) ls (.int v :: rest))) : W p l e R s m args below meth c H locs cells slots Q (F0 m pc ls (.int i :: .ref (ad 3) :: rest)) := by
  obtain ⟨hx, hb, hml, hown, hts, hK⟩ := X
  obtain ⟨hP, hD, hS⟩ := I
  subst hi
  have hcl := nI_clamp (n := k) (by omega)
  refine va_bald hx hb hK hP 2 0 rfl rfl (vp_in_nI hk (by decide)) d ?_
  rw [hcl, hv]
  exact kk
theorem ks_readsA (X : kX p s m args c cc nL D c1 c2) (I : kI D c1 c2 h ad A s.heap σ H locs) {i x : Int32} (k : Nat) (hi : i = nI k) (hk : k < 8) {y : Int32} (hy : vp_nar .byte x = y) (d : decode cc pc = .ok (.bastore, 1)) (kk : ∀ (H1 : Heap) (locs1 : List Loc), kI D c1 c2 h ad A s.heap (su σ 3 k y) H1 locs1 → W p l e R s m args below meth c H1 locs1 cells slots Q (F0 m (pc + 1) ls rest)) : W p l e R s m args below meth c H locs cells slots Q (F0 m pc ls (.int x :: .int i :: .ref (ad 3) :: rest)) := by
  obtain ⟨hx, hb, hml, hown, hts, hK⟩ := X
  obtain ⟨hP, hD, hS⟩ := I
  subst hi
  subst hy
  have hcl := nI_clamp (n := k) (by omega)
  refine va_bast hx hb hK hP hD hS 2 0 rfl rfl (vp_in_nI hk (by decide)) d (fun H1 locs1 hP1 hD1 hS1 => ?_)
  rw [hcl] at hP1 hD1
  exact kk H1 locs1 ⟨hP1, hD1, hS1⟩
theorem kg_readsB (X : kX p s m args c cc nL D c1 c2) (I : kI D c1 c2 h ad A s.heap σ H locs) (d : decode cc pc = .ok (.getfield 16, 3)) (kk : W p l e R s m args below meth c H locs cells slots Q (F0 m (pc + 3) ls (.ref (ad 4) :: rest))) : W p l e R s m args below meth c H locs cells slots Q (F0 m pc ls (.ref h :: rest)) := by
  obtain ⟨hx, hb, hml, hown, hts, hK⟩ := X
  obtain ⟨hP, hD, hS⟩ := I
  exact va_get (D := D) (ci := 0) (v := .ref (ad 4)) (C := RX1) (T := TX1) (N := 16) hx hb hts in_X1 hown hK hP 0 rfl rfl 4 (by decide) (hts _ q39) (fun _ h9 => h9) rfl d kk
theorem kf_readsB (X : kX p s m args c cc nL D c1 c2) (I : kI D c1 c2 h ad A s.heap σ H locs) (ha : ls[0]? = some (.val (.ref h))) (d1 : decode cc pc = .ok (.aload_n 0, 1)) (d2 : decode cc (pc + 1) = .ok (.getfield 16, 3)) (kk : W p l e R s m args below meth c H locs cells slots Q (F0 m (pc + 1 + 3) ls (.ref (ad 4) :: rest))) : W p l e R s m args below meth c H locs cells slots Q (F0 m pc ls rest) := by
  refine lv_aload_n X.1 X.2.1 d1 rfl ha ?_
  exact kg_readsB X I d2 kk
theorem kl_readsB (X : kX p s m args c cc nL D c1 c2) (I : kI D c1 c2 h ad A s.heap σ H locs) {i : Int32} (k : Nat) (hi : i = nI k) (hk : k < 8) {v : Int32} (hv : σ 4 k = v) (d : decode cc pc = .ok (.baload, 1)) (kk : W p l e R s m args below meth c H locs cells slots Q (F0 m (pc + 1) ls (.int v :: rest))) : W p l e R s m args below meth c H locs cells slots Q (F0 m pc ls (.int i :: .ref (ad 4) :: rest)) := by
  obtain ⟨hx, hb, hml, hown, hts, hK⟩ := X
  obtain ⟨hP, hD, hS⟩ := I
  subst hi
  have hcl := nI_clamp (n := k) (by omega)
  refine va_bald hx hb hK hP 3 0 rfl rfl (vp_in_nI hk (by decide)) d ?_
  rw [hcl, hv]
  exact kk
theorem ks_readsB (X : kX p s m args c cc nL D c1 c2) (I : kI D c1 c2 h ad A s.heap σ H locs) {i x : Int32} (k : Nat) (hi : i = nI k) (hk : k < 8) {y : Int32} (hy : vp_nar .byte x = y) (d : decode cc pc = .ok (.bastore, 1)) (kk : ∀ (H1 : Heap) (locs1 : List Loc), kI D c1 c2 h ad A s.heap (su σ 4 k y) H1 locs1 → W p l e R s m args below meth c H1 locs1 cells slots Q (F0 m (pc + 1) ls rest)) : W p l e R s m args below meth c H locs cells slots Q (F0 m pc ls (.int x :: .int i :: .ref (ad 4) :: rest)) := by
  obtain ⟨hx, hb, hml, hown, hts, hK⟩ := X
  obtain ⟨hP, hD, hS⟩ := I
  subst hi
  subst hy
  have hcl := nI_clamp (n := k) (by omega)
  refine va_bast hx hb hK hP hD hS 3 0 rfl rfl (vp_in_nI hk (by decide)) d (fun H1 locs1 hP1 hD1 hS1 => ?_)
  rw [hcl] at hP1 hD1
  exact kk H1 locs1 ⟨hP1, hD1, hS1⟩
theorem kg_writesC (X : kX p s m args c cc nL D c1 c2) (I : kI D c1 c2 h ad A s.heap σ H locs) (d : decode cc pc = .ok (.getfield 19, 3)) (kk : W p l e R s m args below meth c H locs cells slots Q (F0 m (pc + 3) ls (.ref (ad 5) :: rest))) : W p l e R s m args below meth c H locs cells slots Q (F0 m pc ls (.ref h :: rest)) := by
  obtain ⟨hx, hb, hml, hown, hts, hK⟩ := X
  obtain ⟨hP, hD, hS⟩ := I
  exact va_get (D := D) (ci := 0) (v := .ref (ad 5)) (C := RX1) (T := TX1) (N := 16) hx hb hts in_X1 hown hK hP 0 rfl rfl 5 (by decide) (hts _ q40) (fun _ h9 => h9) rfl d kk
theorem kf_writesC (X : kX p s m args c cc nL D c1 c2) (I : kI D c1 c2 h ad A s.heap σ H locs) (ha : ls[0]? = some (.val (.ref h))) (d1 : decode cc pc = .ok (.aload_n 0, 1)) (d2 : decode cc (pc + 1) = .ok (.getfield 19, 3)) (kk : W p l e R s m args below meth c H locs cells slots Q (F0 m (pc + 1 + 3) ls (.ref (ad 5) :: rest))) : W p l e R s m args below meth c H locs cells slots Q (F0 m pc ls rest) := by
  refine lv_aload_n X.1 X.2.1 d1 rfl ha ?_
  exact kg_writesC X I d2 kk
theorem kl_writesC (X : kX p s m args c cc nL D c1 c2) (I : kI D c1 c2 h ad A s.heap σ H locs) {i : Int32} (k : Nat) (hi : i = nI k) (hk : k < 8) {v : Int32} (hv : σ 5 k = v) (d : decode cc pc = .ok (.baload, 1)) (kk : W p l e R s m args below meth c H locs cells slots Q (F0 m (pc + 1) ls (.int v :: rest))) : W p l e R s m args below meth c H locs cells slots Q (F0 m pc ls (.int i :: .ref (ad 5) :: rest)) := by
  obtain ⟨hx, hb, hml, hown, hts, hK⟩ := X
  obtain ⟨hP, hD, hS⟩ := I
  subst hi
  have hcl := nI_clamp (n := k) (by omega)
  refine va_bald hx hb hK hP 4 0 rfl rfl (vp_in_nI hk (by decide)) d ?_
  rw [hcl, hv]
  exact kk
theorem ks_writesC (X : kX p s m args c cc nL D c1 c2) (I : kI D c1 c2 h ad A s.heap σ H locs) {i x : Int32} (k : Nat) (hi : i = nI k) (hk : k < 8) {y : Int32} (hy : vp_nar .byte x = y) (d : decode cc pc = .ok (.bastore, 1)) (kk : ∀ (H1 : Heap) (locs1 : List Loc), kI D c1 c2 h ad A s.heap (su σ 5 k y) H1 locs1 → W p l e R s m args below meth c H1 locs1 cells slots Q (F0 m (pc + 1) ls rest)) : W p l e R s m args below meth c H locs cells slots Q (F0 m pc ls (.int x :: .int i :: .ref (ad 5) :: rest)) := by
  obtain ⟨hx, hb, hml, hown, hts, hK⟩ := X
  obtain ⟨hP, hD, hS⟩ := I
  subst hi
  subst hy
  have hcl := nI_clamp (n := k) (by omega)
  refine va_bast hx hb hK hP hD hS 4 0 rfl rfl (vp_in_nI hk (by decide)) d (fun H1 locs1 hP1 hD1 hS1 => ?_)
  rw [hcl] at hP1 hD1
  exact kk H1 locs1 ⟨hP1, hD1, hS1⟩
theorem kg_writesD (X : kX p s m args c cc nL D c1 c2) (I : kI D c1 c2 h ad A s.heap σ H locs) (d : decode cc pc = .ok (.getfield 22, 3)) (kk : W p l e R s m args below meth c H locs cells slots Q (F0 m (pc + 3) ls (.ref (ad 6) :: rest))) : W p l e R s m args below meth c H locs cells slots Q (F0 m pc ls (.ref h :: rest)) := by
  obtain ⟨hx, hb, hml, hown, hts, hK⟩ := X
  obtain ⟨hP, hD, hS⟩ := I
  exact va_get (D := D) (ci := 0) (v := .ref (ad 6)) (C := RX1) (T := TX1) (N := 16) hx hb hts in_X1 hown hK hP 0 rfl rfl 6 (by decide) (hts _ q41) (fun _ h9 => h9) rfl d kk
theorem kf_writesD (X : kX p s m args c cc nL D c1 c2) (I : kI D c1 c2 h ad A s.heap σ H locs) (ha : ls[0]? = some (.val (.ref h))) (d1 : decode cc pc = .ok (.aload_n 0, 1)) (d2 : decode cc (pc + 1) = .ok (.getfield 22, 3)) (kk : W p l e R s m args below meth c H locs cells slots Q (F0 m (pc + 1 + 3) ls (.ref (ad 6) :: rest))) : W p l e R s m args below meth c H locs cells slots Q (F0 m pc ls rest) := by
  refine lv_aload_n X.1 X.2.1 d1 rfl ha ?_
  exact kg_writesD X I d2 kk
theorem kl_writesD (X : kX p s m args c cc nL D c1 c2) (I : kI D c1 c2 h ad A s.heap σ H locs) {i : Int32} (k : Nat) (hi : i = nI k) (hk : k < 8) {v : Int32} (hv : σ 6 k = v) (d : decode cc pc = .ok (.baload, 1)) (kk : W p l e R s m args below meth c H locs cells slots Q (F0 m (pc + 1) ls (.int v :: rest))) : W p l e R s m args below meth c H locs cells slots Q (F0 m pc ls (.int i :: .ref (ad 6) :: rest)) := by
  obtain ⟨hx, hb, hml, hown, hts, hK⟩ := X
  obtain ⟨hP, hD, hS⟩ := I
  subst hi
  have hcl := nI_clamp (n := k) (by omega)
  refine va_bald hx hb hK hP 5 0 rfl rfl (vp_in_nI hk (by decide)) d ?_
  rw [hcl, hv]
  exact kk
theorem ks_writesD (X : kX p s m args c cc nL D c1 c2) (I : kI D c1 c2 h ad A s.heap σ H locs) {i x : Int32} (k : Nat) (hi : i = nI k) (hk : k < 8) {y : Int32} (hy : vp_nar .byte x = y) (d : decode cc pc = .ok (.bastore, 1)) (kk : ∀ (H1 : Heap) (locs1 : List Loc), kI D c1 c2 h ad A s.heap (su σ 6 k y) H1 locs1 → W p l e R s m args below meth c H1 locs1 cells slots Q (F0 m (pc + 1) ls rest)) : W p l e R s m args below meth c H locs cells slots Q (F0 m pc ls (.int x :: .int i :: .ref (ad 6) :: rest)) := by
  obtain ⟨hx, hb, hml, hown, hts, hK⟩ := X
  obtain ⟨hP, hD, hS⟩ := I
  subst hi
  subst hy
  have hcl := nI_clamp (n := k) (by omega)
  refine va_bast hx hb hK hP hD hS 5 0 rfl rfl (vp_in_nI hk (by decide)) d (fun H1 locs1 hP1 hD1 hS1 => ?_)
  rw [hcl] at hP1 hD1
  exact kk H1 locs1 ⟨hP1, hD1, hS1⟩
theorem kg_numberP (X : kX p s m args c cc nL D c1 c2) (I : kI D c1 c2 h ad A s.heap σ H locs) (d : decode cc pc = .ok (.getfield 25, 3)) (kk : W p l e R s m args below meth c H locs cells slots Q (F0 m (pc + 3) ls (.ref (ad 7) :: rest))) : W p l e R s m args below meth c H locs cells slots Q (F0 m pc ls (.ref h :: rest)) := by
  obtain ⟨hx, hb, hml, hown, hts, hK⟩ := X
  obtain ⟨hP, hD, hS⟩ := I
  exact va_get (D := D) (ci := 0) (v := .ref (ad 7)) (C := RX1) (T := TX1) (N := 16) hx hb hts in_X1 hown hK hP 0 rfl rfl 7 (by decide) (hts _ q42) (fun _ h9 => h9) rfl d kk
theorem kf_numberP (X : kX p s m args c cc nL D c1 c2) (I : kI D c1 c2 h ad A s.heap σ H locs) (ha : ls[0]? = some (.val (.ref h))) (d1 : decode cc pc = .ok (.aload_n 0, 1)) (d2 : decode cc (pc + 1) = .ok (.getfield 25, 3)) (kk : W p l e R s m args below meth c H locs cells slots Q (F0 m (pc + 1 + 3) ls (.ref (ad 7) :: rest))) : W p l e R s m args below meth c H locs cells slots Q (F0 m pc ls rest) := by
  refine lv_aload_n X.1 X.2.1 d1 rfl ha ?_
  exact kg_numberP X I d2 kk
theorem kl_numberP (X : kX p s m args c cc nL D c1 c2) (I : kI D c1 c2 h ad A s.heap σ H locs) {i : Int32} (k : Nat) (hi : i = nI k) (hk : k < 8) {v : Int32} (hv : σ 7 k = v) (d : decode cc pc = .ok (.iaload, 1)) (kk : W p l e R s m args below meth c H locs cells slots Q (F0 m (pc + 1) ls (.int v :: rest))) : W p l e R s m args below meth c H locs cells slots Q (F0 m pc ls (.int i :: .ref (ad 7) :: rest)) := by
  obtain ⟨hx, hb, hml, hown, hts, hK⟩ := X
  obtain ⟨hP, hD, hS⟩ := I
  subst hi
  have hcl := nI_clamp (n := k) (by omega)
  refine va_iald hx hb hK hP 6 1 rfl rfl (vp_in_nI hk (by decide)) d ?_
  rw [hcl, hv]
  exact kk
theorem ks_numberP (X : kX p s m args c cc nL D c1 c2) (I : kI D c1 c2 h ad A s.heap σ H locs) {i x : Int32} (k : Nat) (hi : i = nI k) (hk : k < 8) (d : decode cc pc = .ok (.iastore, 1)) (kk : ∀ (H1 : Heap) (locs1 : List Loc), kI D c1 c2 h ad A s.heap (su σ 7 k x) H1 locs1 → W p l e R s m args below meth c H1 locs1 cells slots Q (F0 m (pc + 1) ls rest)) : W p l e R s m args below meth c H locs cells slots Q (F0 m pc ls (.int x :: .int i :: .ref (ad 7) :: rest)) := by
  obtain ⟨hx, hb, hml, hown, hts, hK⟩ := X
  obtain ⟨hP, hD, hS⟩ := I
  subst hi
  have hcl := nI_clamp (n := k) (by omega)
  refine va_iast hx hb hK hP hD hS 6 1 rfl rfl (vp_in_nI hk (by decide)) d (fun H1 locs1 hP1 hD1 hS1 => ?_)
  rw [hcl] at hP1 hD1
  exact kk H1 locs1 ⟨hP1, hD1, hS1⟩
theorem kg_numberQ (X : kX p s m args c cc nL D c1 c2) (I : kI D c1 c2 h ad A s.heap σ H locs) (d : decode cc pc = .ok (.getfield 29, 3)) (kk : W p l e R s m args below meth c H locs cells slots Q (F0 m (pc + 3) ls (.ref (ad 8) :: rest))) : W p l e R s m args below meth c H locs cells slots Q (F0 m pc ls (.ref h :: rest)) := by
  obtain ⟨hx, hb, hml, hown, hts, hK⟩ := X
  obtain ⟨hP, hD, hS⟩ := I
  exact va_get (D := D) (ci := 0) (v := .ref (ad 8)) (C := RX1) (T := TX1) (N := 16) hx hb hts in_X1 hown hK hP 0 rfl rfl 8 (by decide) (hts _ q43) (fun _ h9 => h9) rfl d kk
theorem kf_numberQ (X : kX p s m args c cc nL D c1 c2) (I : kI D c1 c2 h ad A s.heap σ H locs) (ha : ls[0]? = some (.val (.ref h))) (d1 : decode cc pc = .ok (.aload_n 0, 1)) (d2 : decode cc (pc + 1) = .ok (.getfield 29, 3)) (kk : W p l e R s m args below meth c H locs cells slots Q (F0 m (pc + 1 + 3) ls (.ref (ad 8) :: rest))) : W p l e R s m args below meth c H locs cells slots Q (F0 m pc ls rest) := by
  refine lv_aload_n X.1 X.2.1 d1 rfl ha ?_
  exact kg_numberQ X I d2 kk
theorem kl_numberQ (X : kX p s m args c cc nL D c1 c2) (I : kI D c1 c2 h ad A s.heap σ H locs) {i : Int32} (k : Nat) (hi : i = nI k) (hk : k < 8) {v : Int32} (hv : σ 8 k = v) (d : decode cc pc = .ok (.iaload, 1)) (kk : W p l e R s m args below meth c H locs cells slots Q (F0 m (pc + 1) ls (.int v :: rest))) : W p l e R s m args below meth c H locs cells slots Q (F0 m pc ls (.int i :: .ref (ad 8) :: rest)) := by
  obtain ⟨hx, hb, hml, hown, hts, hK⟩ := X
  obtain ⟨hP, hD, hS⟩ := I
  subst hi
  have hcl := nI_clamp (n := k) (by omega)
  refine va_iald hx hb hK hP 7 1 rfl rfl (vp_in_nI hk (by decide)) d ?_
  rw [hcl, hv]
  exact kk
theorem ks_numberQ (X : kX p s m args c cc nL D c1 c2) (I : kI D c1 c2 h ad A s.heap σ H locs) {i x : Int32} (k : Nat) (hi : i = nI k) (hk : k < 8) (d : decode cc pc = .ok (.iastore, 1)) (kk : ∀ (H1 : Heap) (locs1 : List Loc), kI D c1 c2 h ad A s.heap (su σ 8 k x) H1 locs1 → W p l e R s m args below meth c H1 locs1 cells slots Q (F0 m (pc + 1) ls rest)) : W p l e R s m args below meth c H locs cells slots Q (F0 m pc ls (.int x :: .int i :: .ref (ad 8) :: rest)) := by
  obtain ⟨hx, hb, hml, hown, hts, hK⟩ := X
  obtain ⟨hP, hD, hS⟩ := I
  subst hi
  have hcl := nI_clamp (n := k) (by omega)
  refine va_iast hx hb hK hP hD hS 7 1 rfl rfl (vp_in_nI hk (by decide)) d (fun H1 locs1 hP1 hD1 hS1 => ?_)
  rw [hcl] at hP1 hD1
  exact kk H1 locs1 ⟨hP1, hD1, hS1⟩
theorem kg_hasRun (X : kX p s m args c cc nL D c1 c2) (I : kI D c1 c2 h ad A s.heap σ H locs) {v : Int32} (hv : σ 9 0 = v) (d : decode cc pc = .ok (.getfield 68, 3)) (kk : W p l e R s m args below meth c H locs cells slots Q (F0 m (pc + 3) ls (.int v :: rest))) : W p l e R s m args below meth c H locs cells slots Q (F0 m pc ls (.ref h :: rest)) := by
  obtain ⟨hx, hb, hml, hown, hts, hK⟩ := X
  obtain ⟨hP, hD, hS⟩ := I
  subst hv
  exact va_get (D := D) (ci := 0) (v := .int (σ 9 0)) (C := RX1) (T := TX1) (N := 16) hx hb hts in_X1 hown hK hP 0 rfl rfl 9 (by decide) (hts _ q44) (fun _ h9 => h9) rfl d kk
theorem kf_hasRun (X : kX p s m args c cc nL D c1 c2) (I : kI D c1 c2 h ad A s.heap σ H locs) {v : Int32} (hv : σ 9 0 = v) (ha : ls[0]? = some (.val (.ref h))) (d1 : decode cc pc = .ok (.aload_n 0, 1)) (d2 : decode cc (pc + 1) = .ok (.getfield 68, 3)) (kk : W p l e R s m args below meth c H locs cells slots Q (F0 m (pc + 1 + 3) ls (.int v :: rest))) : W p l e R s m args below meth c H locs cells slots Q (F0 m pc ls rest) := by
  refine lv_aload_n X.1 X.2.1 d1 rfl ha ?_
  exact kg_hasRun X I hv d2 kk
theorem kp_hasRun (X : kX p s m args c cc nL D c1 c2) (I : kI D c1 c2 h ad A s.heap σ H locs) {v : Int32} (hn : narrow .boolean (.int v) = .int v) (hf : fits .boolean (.int v) = true) (d : decode cc pc = .ok (.putfield 68, 3)) (kk : ∀ (H1 : Heap) (locs1 : List Loc), kI D c1 c2 h ad A s.heap (su σ 9 0 v) H1 locs1 → W p l e R s m args below meth c H1 locs1 cells slots Q (F0 m (pc + 3) ls rest)) : W p l e R s m args below meth c H locs cells slots Q (F0 m pc ls (.int v :: .ref h :: rest)) := by
  obtain ⟨hx, hb, hml, hown, hts, hK⟩ := X
  obtain ⟨hP, hD, hS⟩ := I
  exact va_put (D := D) (ci := 0) (v := .int v) (ty := .boolean) (C := RX1) (T := TX1) (N := 16) hx hb hts in_X1 tyX1 tyX1_ok nmX1 hown hK hP hD hS 0 rfl rfl 9 (by decide) (hts _ q44) (fun _ h9 => h9) rfl (by decide +kernel) hn hf (Nat.le_of_ble_eq_true rfl) d (fun H1 locs1 hP1 hD1 hS1 => kk H1 locs1 ⟨hP1, hD1, hS1⟩)
theorem kg_stream (X : kX p s m args c cc nL D c1 c2) (I : kI D c1 c2 h ad A s.heap σ H locs) (d : decode cc pc = .ok (.getfield 32, 3)) (kk : W p l e R s m args below meth c H locs cells slots Q (F0 m (pc + 3) ls (.ref (ad 10) :: rest))) : W p l e R s m args below meth c H locs cells slots Q (F0 m pc ls (.ref h :: rest)) := by
  obtain ⟨hx, hb, hml, hown, hts, hK⟩ := X
  obtain ⟨hP, hD, hS⟩ := I
  exact va_get (D := D) (ci := 0) (v := .ref (ad 10)) (C := RX1) (T := TX1) (N := 16) hx hb hts in_X1 hown hK hP 0 rfl rfl 10 (by decide) (hts _ q45) (fun _ h9 => h9) rfl d kk
theorem kf_stream (X : kX p s m args c cc nL D c1 c2) (I : kI D c1 c2 h ad A s.heap σ H locs) (ha : ls[0]? = some (.val (.ref h))) (d1 : decode cc pc = .ok (.aload_n 0, 1)) (d2 : decode cc (pc + 1) = .ok (.getfield 32, 3)) (kk : W p l e R s m args below meth c H locs cells slots Q (F0 m (pc + 1 + 3) ls (.ref (ad 10) :: rest))) : W p l e R s m args below meth c H locs cells slots Q (F0 m pc ls rest) := by
  refine lv_aload_n X.1 X.2.1 d1 rfl ha ?_
  exact kg_stream X I d2 kk
theorem kl_stream (X : kX p s m args c cc nL D c1 c2) (I : kI D c1 c2 h ad A s.heap σ H locs) {i : Int32} (k : Nat) (hi : i = nI k) (hk : k < 200) {v : Int32} (hv : σ 10 k = v) (d : decode cc pc = .ok (.iaload, 1)) (kk : W p l e R s m args below meth c H locs cells slots Q (F0 m (pc + 1) ls (.int v :: rest))) : W p l e R s m args below meth c H locs cells slots Q (F0 m pc ls (.int i :: .ref (ad 10) :: rest)) := by
  obtain ⟨hx, hb, hml, hown, hts, hK⟩ := X
  obtain ⟨hP, hD, hS⟩ := I
  subst hi
  have hcl := nI_clamp (n := k) (by omega)
  refine va_iald hx hb hK hP 8 1 rfl rfl (vp_in_nI hk (by decide)) d ?_
  rw [hcl, hv]
  exact kk
theorem ks_stream (X : kX p s m args c cc nL D c1 c2) (I : kI D c1 c2 h ad A s.heap σ H locs) {i x : Int32} (k : Nat) (hi : i = nI k) (hk : k < 200) (d : decode cc pc = .ok (.iastore, 1)) (kk : ∀ (H1 : Heap) (locs1 : List Loc), kI D c1 c2 h ad A s.heap (su σ 10 k x) H1 locs1 → W p l e R s m args below meth c H1 locs1 cells slots Q (F0 m (pc + 1) ls rest)) : W p l e R s m args below meth c H locs cells slots Q (F0 m pc ls (.int x :: .int i :: .ref (ad 10) :: rest)) := by
  obtain ⟨hx, hb, hml, hown, hts, hK⟩ := X
  obtain ⟨hP, hD, hS⟩ := I
  subst hi
  have hcl := nI_clamp (n := k) (by omega)
  refine va_iast hx hb hK hP hD hS 8 1 rfl rfl (vp_in_nI hk (by decide)) d (fun H1 locs1 hP1 hD1 hS1 => ?_)
  rw [hcl] at hP1 hD1
  exact kk H1 locs1 ⟨hP1, hD1, hS1⟩
theorem kg_written (X : kX p s m args c cc nL D c1 c2) (I : kI D c1 c2 h ad A s.heap σ H locs) (d : decode cc pc = .ok (.getfield 35, 3)) (kk : W p l e R s m args below meth c H locs cells slots Q (F0 m (pc + 3) ls (.ref (ad 11) :: rest))) : W p l e R s m args below meth c H locs cells slots Q (F0 m pc ls (.ref h :: rest)) := by
  obtain ⟨hx, hb, hml, hown, hts, hK⟩ := X
  obtain ⟨hP, hD, hS⟩ := I
  exact va_get (D := D) (ci := 0) (v := .ref (ad 11)) (C := RX1) (T := TX1) (N := 16) hx hb hts in_X1 hown hK hP 0 rfl rfl 11 (by decide) (hts _ q46) (fun _ h9 => h9) rfl d kk
theorem kf_written (X : kX p s m args c cc nL D c1 c2) (I : kI D c1 c2 h ad A s.heap σ H locs) (ha : ls[0]? = some (.val (.ref h))) (d1 : decode cc pc = .ok (.aload_n 0, 1)) (d2 : decode cc (pc + 1) = .ok (.getfield 35, 3)) (kk : W p l e R s m args below meth c H locs cells slots Q (F0 m (pc + 1 + 3) ls (.ref (ad 11) :: rest))) : W p l e R s m args below meth c H locs cells slots Q (F0 m pc ls rest) := by
  refine lv_aload_n X.1 X.2.1 d1 rfl ha ?_
  exact kg_written X I d2 kk
theorem kl_written (X : kX p s m args c cc nL D c1 c2) (I : kI D c1 c2 h ad A s.heap σ H locs) {i : Int32} (k : Nat) (hi : i = nI k) (hk : k < 10) {v : Int32} (hv : σ 11 k = v) (d : decode cc pc = .ok (.baload, 1)) (kk : W p l e R s m args below meth c H locs cells slots Q (F0 m (pc + 1) ls (.int v :: rest))) : W p l e R s m args below meth c H locs cells slots Q (F0 m pc ls (.int i :: .ref (ad 11) :: rest)) := by
  obtain ⟨hx, hb, hml, hown, hts, hK⟩ := X
  obtain ⟨hP, hD, hS⟩ := I
  subst hi
  have hcl := nI_clamp (n := k) (by omega)
  refine va_bald hx hb hK hP 9 0 rfl rfl (vp_in_nI hk (by decide)) d ?_
  rw [hcl, hv]
  exact kk
theorem ks_written (X : kX p s m args c cc nL D c1 c2) (I : kI D c1 c2 h ad A s.heap σ H locs) {i x : Int32} (k : Nat) (hi : i = nI k) (hk : k < 10) {y : Int32} (hy : vp_nar .byte x = y) (d : decode cc pc = .ok (.bastore, 1)) (kk : ∀ (H1 : Heap) (locs1 : List Loc), kI D c1 c2 h ad A s.heap (su σ 11 k y) H1 locs1 → W p l e R s m args below meth c H1 locs1 cells slots Q (F0 m (pc + 1) ls rest)) : W p l e R s m args below meth c H locs cells slots Q (F0 m pc ls (.int x :: .int i :: .ref (ad 11) :: rest)) := by
  obtain ⟨hx, hb, hml, hown, hts, hK⟩ := X
  obtain ⟨hP, hD, hS⟩ := I
  subst hi
  subst hy
  have hcl := nI_clamp (n := k) (by omega)
  refine va_bast hx hb hK hP hD hS 9 0 rfl rfl (vp_in_nI hk (by decide)) d (fun H1 locs1 hP1 hD1 hS1 => ?_)
  rw [hcl] at hP1 hD1
  exact kk H1 locs1 ⟨hP1, hD1, hS1⟩
theorem kg_taken (X : kX p s m args c cc nL D c1 c2) (I : kI D c1 c2 h ad A s.heap σ H locs) (d : decode cc pc = .ok (.getfield 38, 3)) (kk : W p l e R s m args below meth c H locs cells slots Q (F0 m (pc + 3) ls (.ref (ad 12) :: rest))) : W p l e R s m args below meth c H locs cells slots Q (F0 m pc ls (.ref h :: rest)) := by
  obtain ⟨hx, hb, hml, hown, hts, hK⟩ := X
  obtain ⟨hP, hD, hS⟩ := I
  exact va_get (D := D) (ci := 0) (v := .ref (ad 12)) (C := RX1) (T := TX1) (N := 16) hx hb hts in_X1 hown hK hP 0 rfl rfl 12 (by decide) (hts _ q47) (fun _ h9 => h9) rfl d kk
theorem kf_taken (X : kX p s m args c cc nL D c1 c2) (I : kI D c1 c2 h ad A s.heap σ H locs) (ha : ls[0]? = some (.val (.ref h))) (d1 : decode cc pc = .ok (.aload_n 0, 1)) (d2 : decode cc (pc + 1) = .ok (.getfield 38, 3)) (kk : W p l e R s m args below meth c H locs cells slots Q (F0 m (pc + 1 + 3) ls (.ref (ad 12) :: rest))) : W p l e R s m args below meth c H locs cells slots Q (F0 m pc ls rest) := by
  refine lv_aload_n X.1 X.2.1 d1 rfl ha ?_
  exact kg_taken X I d2 kk
theorem kl_taken (X : kX p s m args c cc nL D c1 c2) (I : kI D c1 c2 h ad A s.heap σ H locs) {i : Int32} (k : Nat) (hi : i = nI k) (hk : k < 10) {v : Int32} (hv : σ 12 k = v) (d : decode cc pc = .ok (.baload, 1)) (kk : W p l e R s m args below meth c H locs cells slots Q (F0 m (pc + 1) ls (.int v :: rest))) : W p l e R s m args below meth c H locs cells slots Q (F0 m pc ls (.int i :: .ref (ad 12) :: rest)) := by
  obtain ⟨hx, hb, hml, hown, hts, hK⟩ := X
  obtain ⟨hP, hD, hS⟩ := I
  subst hi
  have hcl := nI_clamp (n := k) (by omega)
  refine va_bald hx hb hK hP 10 0 rfl rfl (vp_in_nI hk (by decide)) d ?_
  rw [hcl, hv]
  exact kk
theorem ks_taken (X : kX p s m args c cc nL D c1 c2) (I : kI D c1 c2 h ad A s.heap σ H locs) {i x : Int32} (k : Nat) (hi : i = nI k) (hk : k < 10) {y : Int32} (hy : vp_nar .byte x = y) (d : decode cc pc = .ok (.bastore, 1)) (kk : ∀ (H1 : Heap) (locs1 : List Loc), kI D c1 c2 h ad A s.heap (su σ 12 k y) H1 locs1 → W p l e R s m args below meth c H1 locs1 cells slots Q (F0 m (pc + 1) ls rest)) : W p l e R s m args below meth c H locs cells slots Q (F0 m pc ls (.int x :: .int i :: .ref (ad 12) :: rest)) := by
  obtain ⟨hx, hb, hml, hown, hts, hK⟩ := X
  obtain ⟨hP, hD, hS⟩ := I
  subst hi
  subst hy
  have hcl := nI_clamp (n := k) (by omega)
  refine va_bast hx hb hK hP hD hS 10 0 rfl rfl (vp_in_nI hk (by decide)) d (fun H1 locs1 hP1 hD1 hS1 => ?_)
  rw [hcl] at hP1 hD1
  exact kk H1 locs1 ⟨hP1, hD1, hS1⟩
theorem kg_room (X : kX p s m args c cc nL D c1 c2) (I : kI D c1 c2 h ad A s.heap σ H locs) (d : decode cc pc = .ok (.getfield 41, 3)) (kk : W p l e R s m args below meth c H locs cells slots Q (F0 m (pc + 3) ls (.ref (ad 13) :: rest))) : W p l e R s m args below meth c H locs cells slots Q (F0 m pc ls (.ref h :: rest)) := by
  obtain ⟨hx, hb, hml, hown, hts, hK⟩ := X
  obtain ⟨hP, hD, hS⟩ := I
  exact va_get (D := D) (ci := 0) (v := .ref (ad 13)) (C := RX1) (T := TX1) (N := 16) hx hb hts in_X1 hown hK hP 0 rfl rfl 13 (by decide) (hts _ q48) (fun _ h9 => h9) rfl d kk
theorem kf_room (X : kX p s m args c cc nL D c1 c2) (I : kI D c1 c2 h ad A s.heap σ H locs) (ha : ls[0]? = some (.val (.ref h))) (d1 : decode cc pc = .ok (.aload_n 0, 1)) (d2 : decode cc (pc + 1) = .ok (.getfield 41, 3)) (kk : W p l e R s m args below meth c H locs cells slots Q (F0 m (pc + 1 + 3) ls (.ref (ad 13) :: rest))) : W p l e R s m args below meth c H locs cells slots Q (F0 m pc ls rest) := by
  refine lv_aload_n X.1 X.2.1 d1 rfl ha ?_
  exact kg_room X I d2 kk
theorem kl_room (X : kX p s m args c cc nL D c1 c2) (I : kI D c1 c2 h ad A s.heap σ H locs) {i : Int32} (k : Nat) (hi : i = nI k) (hk : k < 10) {v : Int32} (hv : σ 13 k = v) (d : decode cc pc = .ok (.baload, 1)) (kk : W p l e R s m args below meth c H locs cells slots Q (F0 m (pc + 1) ls (.int v :: rest))) : W p l e R s m args below meth c H locs cells slots Q (F0 m pc ls (.int i :: .ref (ad 13) :: rest)) := by
  obtain ⟨hx, hb, hml, hown, hts, hK⟩ := X
  obtain ⟨hP, hD, hS⟩ := I
  subst hi
  have hcl := nI_clamp (n := k) (by omega)
  refine va_bald hx hb hK hP 11 0 rfl rfl (vp_in_nI hk (by decide)) d ?_
  rw [hcl, hv]
  exact kk
theorem ks_room (X : kX p s m args c cc nL D c1 c2) (I : kI D c1 c2 h ad A s.heap σ H locs) {i x : Int32} (k : Nat) (hi : i = nI k) (hk : k < 10) {y : Int32} (hy : vp_nar .byte x = y) (d : decode cc pc = .ok (.bastore, 1)) (kk : ∀ (H1 : Heap) (locs1 : List Loc), kI D c1 c2 h ad A s.heap (su σ 13 k y) H1 locs1 → W p l e R s m args below meth c H1 locs1 cells slots Q (F0 m (pc + 1) ls rest)) : W p l e R s m args below meth c H locs cells slots Q (F0 m pc ls (.int x :: .int i :: .ref (ad 13) :: rest)) := by
  obtain ⟨hx, hb, hml, hown, hts, hK⟩ := X
  obtain ⟨hP, hD, hS⟩ := I
  subst hi
  subst hy
  have hcl := nI_clamp (n := k) (by omega)
  refine va_bast hx hb hK hP hD hS 11 0 rfl rfl (vp_in_nI hk (by decide)) d (fun H1 locs1 hP1 hD1 hS1 => ?_)
  rw [hcl] at hP1 hD1
  exact kk H1 locs1 ⟨hP1, hD1, hS1⟩
theorem kg_memory (X : kX p s m args c cc nL D c1 c2) (I : kI D c1 c2 h ad A s.heap σ H locs) (d : decode cc pc = .ok (.getfield 44, 3)) (kk : W p l e R s m args below meth c H locs cells slots Q (F0 m (pc + 3) ls (.ref (ad 14) :: rest))) : W p l e R s m args below meth c H locs cells slots Q (F0 m pc ls (.ref h :: rest)) := by
  obtain ⟨hx, hb, hml, hown, hts, hK⟩ := X
  obtain ⟨hP, hD, hS⟩ := I
  exact va_get (D := D) (ci := 0) (v := .ref (ad 14)) (C := RX1) (T := TX1) (N := 16) hx hb hts in_X1 hown hK hP 0 rfl rfl 14 (by decide) (hts _ q49) (fun _ h9 => h9) rfl d kk
theorem kf_memory (X : kX p s m args c cc nL D c1 c2) (I : kI D c1 c2 h ad A s.heap σ H locs) (ha : ls[0]? = some (.val (.ref h))) (d1 : decode cc pc = .ok (.aload_n 0, 1)) (d2 : decode cc (pc + 1) = .ok (.getfield 44, 3)) (kk : W p l e R s m args below meth c H locs cells slots Q (F0 m (pc + 1 + 3) ls (.ref (ad 14) :: rest))) : W p l e R s m args below meth c H locs cells slots Q (F0 m pc ls rest) := by
  refine lv_aload_n X.1 X.2.1 d1 rfl ha ?_
  exact kg_memory X I d2 kk
theorem kl_memory (X : kX p s m args c cc nL D c1 c2) (I : kI D c1 c2 h ad A s.heap σ H locs) {i : Int32} (k : Nat) (hi : i = nI k) (hk : k < 8) {v : Int32} (hv : σ 14 k = v) (d : decode cc pc = .ok (.iaload, 1)) (kk : W p l e R s m args below meth c H locs cells slots Q (F0 m (pc + 1) ls (.int v :: rest))) : W p l e R s m args below meth c H locs cells slots Q (F0 m pc ls (.int i :: .ref (ad 14) :: rest)) := by
  obtain ⟨hx, hb, hml, hown, hts, hK⟩ := X
  obtain ⟨hP, hD, hS⟩ := I
  subst hi
  have hcl := nI_clamp (n := k) (by omega)
  refine va_iald hx hb hK hP 12 1 rfl rfl (vp_in_nI hk (by decide)) d ?_
  rw [hcl, hv]
  exact kk
theorem ks_memory (X : kX p s m args c cc nL D c1 c2) (I : kI D c1 c2 h ad A s.heap σ H locs) {i x : Int32} (k : Nat) (hi : i = nI k) (hk : k < 8) (d : decode cc pc = .ok (.iastore, 1)) (kk : ∀ (H1 : Heap) (locs1 : List Loc), kI D c1 c2 h ad A s.heap (su σ 14 k x) H1 locs1 → W p l e R s m args below meth c H1 locs1 cells slots Q (F0 m (pc + 1) ls rest)) : W p l e R s m args below meth c H locs cells slots Q (F0 m pc ls (.int x :: .int i :: .ref (ad 14) :: rest)) := by
  obtain ⟨hx, hb, hml, hown, hts, hK⟩ := X
  obtain ⟨hP, hD, hS⟩ := I
  subst hi
  have hcl := nI_clamp (n := k) (by omega)
  refine va_iast hx hb hK hP hD hS 12 1 rfl rfl (vp_in_nI hk (by decide)) d (fun H1 locs1 hP1 hD1 hS1 => ?_)
  rw [hcl] at hP1 hD1
  exact kk H1 locs1 ⟨hP1, hD1, hS1⟩
theorem kg_phase (X : kX p s m args c cc nL D c1 c2) (I : kI D c1 c2 h ad A s.heap σ H locs) (d : decode cc pc = .ok (.getfield 47, 3)) (kk : W p l e R s m args below meth c H locs cells slots Q (F0 m (pc + 3) ls (.ref (ad 15) :: rest))) : W p l e R s m args below meth c H locs cells slots Q (F0 m pc ls (.ref h :: rest)) := by
  obtain ⟨hx, hb, hml, hown, hts, hK⟩ := X
  obtain ⟨hP, hD, hS⟩ := I
  exact va_get (D := D) (ci := 0) (v := .ref (ad 15)) (C := RX1) (T := TX1) (N := 16) hx hb hts in_X1 hown hK hP 0 rfl rfl 15 (by decide) (hts _ q50) (fun _ h9 => h9) rfl d kk
theorem kf_phase (X : kX p s m args c cc nL D c1 c2) (I : kI D c1 c2 h ad A s.heap σ H locs) (ha : ls[0]? = some (.val (.ref h))) (d1 : decode cc pc = .ok (.aload_n 0, 1)) (d2 : decode cc (pc + 1) = .ok (.getfield 47, 3)) (kk : W p l e R s m args below meth c H locs cells slots Q (F0 m (pc + 1 + 3) ls (.ref (ad 15) :: rest))) : W p l e R s m args below meth c H locs cells slots Q (F0 m pc ls rest) := by
  refine lv_aload_n X.1 X.2.1 d1 rfl ha ?_
  exact kg_phase X I d2 kk
theorem kl_phase (X : kX p s m args c cc nL D c1 c2) (I : kI D c1 c2 h ad A s.heap σ H locs) {i : Int32} (k : Nat) (hi : i = nI k) (hk : k < 8) {v : Int32} (hv : σ 15 k = v) (d : decode cc pc = .ok (.baload, 1)) (kk : W p l e R s m args below meth c H locs cells slots Q (F0 m (pc + 1) ls (.int v :: rest))) : W p l e R s m args below meth c H locs cells slots Q (F0 m pc ls (.int i :: .ref (ad 15) :: rest)) := by
  obtain ⟨hx, hb, hml, hown, hts, hK⟩ := X
  obtain ⟨hP, hD, hS⟩ := I
  subst hi
  have hcl := nI_clamp (n := k) (by omega)
  refine va_bald hx hb hK hP 13 0 rfl rfl (vp_in_nI hk (by decide)) d ?_
  rw [hcl, hv]
  exact kk
theorem ks_phase (X : kX p s m args c cc nL D c1 c2) (I : kI D c1 c2 h ad A s.heap σ H locs) {i x : Int32} (k : Nat) (hi : i = nI k) (hk : k < 8) {y : Int32} (hy : vp_nar .byte x = y) (d : decode cc pc = .ok (.bastore, 1)) (kk : ∀ (H1 : Heap) (locs1 : List Loc), kI D c1 c2 h ad A s.heap (su σ 15 k y) H1 locs1 → W p l e R s m args below meth c H1 locs1 cells slots Q (F0 m (pc + 1) ls rest)) : W p l e R s m args below meth c H locs cells slots Q (F0 m pc ls (.int x :: .int i :: .ref (ad 15) :: rest)) := by
  obtain ⟨hx, hb, hml, hown, hts, hK⟩ := X
  obtain ⟨hP, hD, hS⟩ := I
  subst hi
  subst hy
  have hcl := nI_clamp (n := k) (by omega)
  refine va_bast hx hb hK hP hD hS 13 0 rfl rfl (vp_in_nI hk (by decide)) d (fun H1 locs1 hP1 hD1 hS1 => ?_)
  rw [hcl] at hP1 hD1
  exact kk H1 locs1 ⟨hP1, hD1, hS1⟩
theorem k_iret (X : kX p s m args c cc nL D c1 c2) (I : kI D c1 c2 h ad A s.heap σ H locs) (hr : meth.sig.returnType = some .int) (hlocks : meth.locks = false) {post : Int32 → KS → Prop} {v : Int32} (hp : post v σ) (d : decode cc pc = .ok (.ireturn, 1)) : W p l e R s m args below meth c H locs cells slots (MQ below (va_Qi post (kB D c1 c2 h ad A) A) args s cells slots A) (F0 m pc ls [.int v]) :=
  W.iret X.1 X.2.1 hr (fun t ht hW => ⟨⟨v, σ, rfl, hp, by rw [ht]; exact I.1, va_K.moved hW.alike X.2.2.2.2.2, I.2.1⟩, I.2.2.F ht⟩) I.2.2.2.2 d hlocks
theorem k_zret (X : kX p s m args c cc nL D c1 c2) (I : kI D c1 c2 h ad A s.heap σ H locs) (hr : meth.sig.returnType = some .boolean) (hlocks : meth.locks = false) {post : Int32 → KS → Prop} {v : Int32} (hn : narrow .boolean (.int v) = .int v) (hp : post v σ) (d : decode cc pc = .ok (.ireturn, 1)) : W p l e R s m args below meth c H locs cells slots (MQ below (va_Qi post (kB D c1 c2 h ad A) A) args s cells slots A) (F0 m pc ls [.int v]) :=
  W.zret X.1 X.2.1 hr hn (fun t ht hW => ⟨⟨v, σ, rfl, hp, by rw [ht]; exact I.1, va_K.moved hW.alike X.2.2.2.2.2, I.2.1⟩, I.2.2.F ht⟩) I.2.2.2.2 d hlocks
theorem k_vret (X : kX p s m args c cc nL D c1 c2) (I : kI D c1 c2 h ad A s.heap σ H locs) (hr : meth.sig.returnType = none) (hlocks : meth.locks = false) {post : KS → Prop} (hp : post σ) (d : decode cc pc = .ok (.return_, 1)) : W p l e R s m args below meth c H locs cells slots (MQ below (va_Qv post (kB D c1 c2 h ad A) A) args s cells slots A) (F0 m pc ls []) :=
  W.vret X.1 X.2.1 hr (fun t ht hW => ⟨⟨σ, rfl, hp, by rw [ht]; exact I.1, va_K.moved hW.alike X.2.2.2.2.2, I.2.1⟩, I.2.2.F ht⟩) I.2.2.2.2 d hlocks
/-- a method's start -/
theorem kM_of {y : MethodName} {maxL : Nat} {ret : Option FieldType} {rm : Room} {As : List Value} {Qc : Array Value → State → Outcome → State → Prop} (hy : plainName y.cls = true) (hc : y.cls = RX1) (hlen : (lg_sl (.ref h :: As)).length ≤ maxL)
    (body : ∀ (p : Program) (e : Env) (s : State) (m : MethodId) (args : Array Value) (below : List Frame) (meth : Method) (c : Code) (ls : Array Slot), kX p s m args c cc maxL D c1 c2 → meth.sig.returnType = ret → meth.locks = false → kI D c1 c2 h ad A s.heap σ s.heap [] → lv_has ls maxL (lv_args 0 (.ref h :: As)) → W p l e rm s m args below meth c s.heap [] 0 0 (MQ below Qc args s 0 0 A) (F0 m 0 ls [])) :
    Met l y (ws_ y cc maxL ret) rm (kP D c1 c2 h ad A σ As) Qc 0 0 A := by
  refine Met.ofW (cc := cc) (maxL := maxL) (ret := ret) hy rfl ?_
  intro p e s m args below meth c s₁ B hml hv
  obtain ⟨rfl, hP, hK, hD⟩ := hv
  have hts := atoms_spec (ws := ws_ y cc maxL ret) B.pre
  have hts : ∀ w ∈ lw_all, w.before _ s = true := fun w h => hts w (List.mem_cons_of_mem _ h)
  have hown : s.vm.findClass RX1 = some m.cls := by
    rw [← hc]
    exact findClass_of_methodNamed B.named
  rw [lg_entry_eq]
  exact body p e s m _ below meth c _ ⟨B.exec, B.bytes, hml, hown, hts, hK⟩ B.returns B.notSynchronized ⟨hP, hD, va_S.rf⟩ (lv_entry _ hlen)
variable {y : MethodName} {cc' : ByteArray} {mL idx n : Nat} {ret : Option FieldType} {rm : Room} {As st0 : List Value}
theorem k_blind {As : List Value} : FrameBlind (kP D c1 c2 h ad A σ As) := fun a U g mk q => by
  obtain ⟨q0, qP, qK, qD⟩ := q
  exact ⟨q0, qP, va_K.moved (u := U) (U := U.calling g mk a) (Vm.Alike.refl U.vm) qK, qD⟩
theorem k_calli (X : kX p s m args c cc nL D c1 c2) (I : kI D c1 c2 h ad A s.heap σ H locs) {post : Int32 → KS → Prop} (hM : Met l y (ws_ y cc' mL ret) rm (kP D c1 c2 h ad A σ As) (va_Qi post (kB D c1 c2 h ad A) A) 0 0 A) (cw : CallW R s args RX1 RX1 idx y cc' mL ret (ws_ y cc' mL ret) rm 0 0 n) (hn : As.length = n) (hsz : ls.size = nL) (hst : st0 = As.reverse ++ .ref h :: rest) (hrm : (rest.map fun v => v.category).sum ≤ 8) (hf : cells ≤ R.cells ∧ slots ≤ R.slots) (d : decode cc pc = .ok (.invokevirtual idx, 3))
    (kk : ∀ (r : Int32) (σ' : KS) (H1 : Heap) (locs1 : List Loc), post r σ' → kI D c1 c2 h ad A s.heap σ' H1 locs1 → W p l e R s m args below meth c H1 locs1 cells slots Q (F0 m (pc + 3) ls (.int r :: rest))) : W p l e R s m args below meth c H locs cells slots Q (F0 m pc ls st0) := by
  obtain ⟨hP, hD, hS⟩ := I
  have hK := X.2.2.2.2.2
  refine va_calli (va_runV (As := As) (rest := rest) ⟨X.1, X.2.1, X.2.2.1, X.2.2.2.1, X.2.2.2.2.1⟩ hM cw ⟨k_blind, va_recv hK hP (ci := 0) (q0 := 0) rfl rfl, fun U hU hW => ⟨rfl, by rw [hU]; exact hP, va_K.moved hW.alike hK, hD⟩⟩ rfl hn hsz hst (lv_room hrm) d ⟨hf.1, hf.2⟩) hS (fun q _ h => h) (fun q h => h) (fun r u t H1 locs1 ht hvm hw hB hz1 hk1 hS1 => ?_)
  obtain ⟨hP1, hK1, hD1⟩ := hB
  rw [ht] at hP1
  exact kk r u H1 locs1 hw ⟨hP1, hD1, hS1⟩
theorem k_callv (X : kX p s m args c cc nL D c1 c2) (I : kI D c1 c2 h ad A s.heap σ H locs) {post : KS → Prop} (hM : Met l y (ws_ y cc' mL ret) rm (kP D c1 c2 h ad A σ As) (va_Qv post (kB D c1 c2 h ad A) A) 0 0 A) (cw : CallW R s args RX1 RX1 idx y cc' mL ret (ws_ y cc' mL ret) rm 0 0 n) (hn : As.length = n) (hsz : ls.size = nL) (hst : st0 = As.reverse ++ .ref h :: rest) (hrm : (rest.map fun v => v.category).sum ≤ 8) (hf : cells ≤ R.cells ∧ slots ≤ R.slots) (d : decode cc pc = .ok (.invokevirtual idx, 3))
    (kk : ∀ (σ' : KS) (H1 : Heap) (locs1 : List Loc), post σ' → kI D c1 c2 h ad A s.heap σ' H1 locs1 → W p l e R s m args below meth c H1 locs1 cells slots Q (F0 m (pc + 3) ls rest)) : W p l e R s m args below meth c H locs cells slots Q (F0 m pc ls st0) := by
  obtain ⟨hP, hD, hS⟩ := I
  have hK := X.2.2.2.2.2
  refine va_callv (va_runV (As := As) (rest := rest) ⟨X.1, X.2.1, X.2.2.1, X.2.2.2.1, X.2.2.2.2.1⟩ hM cw ⟨k_blind, va_recv hK hP (ci := 0) (q0 := 0) rfl rfl, fun U hU hW => ⟨rfl, by rw [hU]; exact hP, va_K.moved hW.alike hK, hD⟩⟩ rfl hn hsz hst (lv_room hrm) d ⟨hf.1, hf.2⟩) hS (fun q _ h => h) (fun q h => h) (fun u t H1 locs1 ht hvm hw hB hz1 hk1 hS1 => ?_)
  obtain ⟨hP1, hK1, hD1⟩ := hB
  rw [ht] at hP1
  exact kk u H1 locs1 hw ⟨hP1, hD1, hS1⟩
end kRows
abbrev mW (c1 c2 : ClassId) (h : Nat) (ad : Nat → Nat) (σ : KS) : va_W := [(h, .inr (1, [.int (σ 0 0), .ref (ad 1), .ref (ad 2), .ref (ad 3), .ref (ad 4), .ref (ad 5), .ref (ad 6), .ref (ad 7), .ref (ad 8), .ref (ad 9), .ref (ad 10), .ref (ad 11), .ref (ad 12), .int (σ 13 0)])), (ad 1, .inl (c2, 8, .inl (σ 1))), (ad 2, .inl (c2, 8, .inl (σ 2))), (ad 3, .inl (c2, 8, .inl (σ 3))), (ad 4, .inl (c2, 8, .inl (σ 4))), (ad 5, .inl (c2, 8, .inl (σ 5))), (ad 6, .inl (c2, 8, .inl (σ 6))), (ad 7, .inl (c2, 8, .inl (σ 7))), (ad 8, .inl (c1, 10, .inl (σ 8))), (ad 9, .inl (c1, 10, .inl (σ 9))), (ad 10, .inl (c2, 10, .inl (σ 10))), (ad 11, .inl (c2, 200, .inl (σ 11))), (ad 12, .inl (c2, 20, .inl (σ 12)))]
def mX (p : Program) (s : State) (m : MethodId) (args : Array Value) (c : Code) (cc : ByteArray) (nL : Nat) (D : va_G) (c1 c2 : ClassId) : Prop :=
  p.tables.exec = Jvm.exec ∧ c.code = cc ∧ c.maxLocals = nL ∧ s.vm.findClass RX2 = some m.cls ∧ (∀ w ∈ lw_all, w.before args s = true) ∧ va_K D vwCl [(c1, .boolean), (c2, .int)] s
def mI (D : va_G) (c1 c2 : ClassId) (h : Nat) (ad : Nat → Nat) (A : Nat → Prop) (H0 : Heap) (σ : KS) (H : Heap) (locs : List Loc) : Prop := va_P D vwCl (mW c1 c2 h ad σ) H ∧ va_D A (mW c1 c2 h ad σ) ∧ va_S A H0 H locs
/-- a contract's start: the object's cells hold σ, and lie in A -/
def mP (D : va_G) (c1 c2 : ClassId) (h : Nat) (ad : Nat → Nat) (A : Nat → Prop) (σ : KS) (As : List Value) : Array Value → State → Prop := va_Pc (.ref h :: As) (fun U => va_P D vwCl (mW c1 c2 h ad σ) U.heap ∧ va_K D vwCl [(c1, .boolean), (c2, .int)] U ∧ va_D A (mW c1 c2 h ad σ))
def mB (D : va_G) (c1 c2 : ClassId) (h : Nat) (ad : Nat → Nat) (A : Nat → Prop) (σ : KS) (t : State) : Prop := va_P D vwCl (mW c1 c2 h ad σ) t.heap ∧ va_K D vwCl [(c1, .boolean), (c2, .int)] t ∧ va_D A (mW c1 c2 h ad σ)
section mRows
variable {p : Program} {l : Launch} {e : Env} {R : Room} {s : State} {m : MethodId} {args : Array Value} {below : List Frame} {meth : Method} {c : Code} {H : Heap} {locs : List Loc} {cells slots : Nat} {Q : State → Prop}
variable {cc : ByteArray} {nL pc : Nat} {ls : Array Slot} {rest : List Value} {D : va_G} {c1 c2 : ClassId} {A : Nat → Prop} {h : Nat} {ad : Nat → Nat} {σ : KS}
theorem mg_n (X : mX p s m args c cc nL D c1 c2) (I : mI D c1 c2 h ad A s.heap σ H locs) {v : Int32} (hv : σ 0 0 = v) (d : decode cc pc = .ok (.getfield 7, 3)) (kk : W p l e R s m args below meth c H locs cells slots Q (F0 m (pc + 3) ls (.int v :: rest))) : W p l e R s m args below meth c H locs cells slots Q (F0 m pc ls (.ref h :: rest)) := by
  obtain ⟨hx, hb, hml, hown, hts, hK⟩ := X
  obtain ⟨hP, hD, hS⟩ := I
  subst hv
  exact va_get (D := D) (ci := 1) (v := .int (σ 0 0)) (C := RX2) (T := TX2) (N := 14) hx hb hts in_X2 hown hK hP 0 rfl rfl 0 (by decide) (hts _ q187) (fun _ h9 => h9) rfl d kk
theorem mf_n (X : mX p s m args c cc nL D c1 c2) (I : mI D c1 c2 h ad A s.heap σ H locs) {v : Int32} (hv : σ 0 0 = v) (ha : ls[0]? = some (.val (.ref h))) (d1 : decode cc pc = .ok (.aload_n 0, 1)) (d2 : decode cc (pc + 1) = .ok (.getfield 7, 3)) (kk : W p l e R s m args below meth c H locs cells slots Q (F0 m (pc + 1 + 3) ls (.int v :: rest))) : W p l e R s m args below meth c H locs cells slots Q (F0 m pc ls rest) := by
  refine lv_aload_n X.1 X.2.1 d1 rfl ha ?_
  exact mg_n X I hv d2 kk
theorem mp_n (X : mX p s m args c cc nL D c1 c2) (I : mI D c1 c2 h ad A s.heap σ H locs) {v : Int32} (d : decode cc pc = .ok (.putfield 7, 3)) (kk : ∀ (H1 : Heap) (locs1 : List Loc), mI D c1 c2 h ad A s.heap (su σ 0 0 v) H1 locs1 → W p l e R s m args below meth c H1 locs1 cells slots Q (F0 m (pc + 3) ls rest)) : W p l e R s m args below meth c H locs cells slots Q (F0 m pc ls (.int v :: .ref h :: rest)) := by
  obtain ⟨hx, hb, hml, hown, hts, hK⟩ := X
  obtain ⟨hP, hD, hS⟩ := I
  exact va_put (D := D) (ci := 1) (v := .int v) (ty := .int) (C := RX2) (T := TX2) (N := 14) hx hb hts in_X2 tyX2 tyX2_ok nmX2 hown hK hP hD hS 0 rfl rfl 0 (by decide) (hts _ q187) (fun _ h9 => h9) rfl (by decide +kernel) rfl rfl (Nat.le_of_ble_eq_true rfl) d (fun H1 locs1 hP1 hD1 hS1 => kk H1 locs1 ⟨hP1, hD1, hS1⟩)
theorem mg_kind (X : mX p s m args c cc nL D c1 c2) (I : mI D c1 c2 h ad A s.heap σ H locs) (d : decode cc pc = .ok (.getfield 13, 3)) (kk : W p l e R s m args below meth c H locs cells slots Q (F0 m (pc + 3) ls (.ref (ad 1) :: rest))) : W p l e R s m args below meth c H locs cells slots Q (F0 m pc ls (.ref h :: rest)) := by
  obtain ⟨hx, hb, hml, hown, hts, hK⟩ := X
  obtain ⟨hP, hD, hS⟩ := I
  exact va_get (D := D) (ci := 1) (v := .ref (ad 1)) (C := RX2) (T := TX2) (N := 14) hx hb hts in_X2 hown hK hP 0 rfl rfl 1 (by decide) (hts _ q188) (fun _ h9 => h9) rfl d kk
theorem mf_kind (X : mX p s m args c cc nL D c1 c2) (I : mI D c1 c2 h ad A s.heap σ H locs) (ha : ls[0]? = some (.val (.ref h))) (d1 : decode cc pc = .ok (.aload_n 0, 1)) (d2 : decode cc (pc + 1) = .ok (.getfield 13, 3)) (kk : W p l e R s m args below meth c H locs cells slots Q (F0 m (pc + 1 + 3) ls (.ref (ad 1) :: rest))) : W p l e R s m args below meth c H locs cells slots Q (F0 m pc ls rest) := by
  refine lv_aload_n X.1 X.2.1 d1 rfl ha ?_
  exact mg_kind X I d2 kk
theorem ml_kind (X : mX p s m args c cc nL D c1 c2) (I : mI D c1 c2 h ad A s.heap σ H locs) {i : Int32} (k : Nat) (hi : i = nI k) (hk : k < 8) {v : Int32} (hv : σ 1 k = v) (d : decode cc pc = .ok (.iaload, 1)) (kk : W p l e R s m args below meth c H locs cells slots Q (F0 m (pc + 1) ls (.int v :: rest))) : W p l e R s m args below meth c H locs cells slots Q (F0 m pc ls (.int i :: .ref (ad 1) :: rest)) := by
  obtain ⟨hx, hb, hml, hown, hts, hK⟩ := X
  obtain ⟨hP, hD, hS⟩ := I
  subst hi
  have hcl := nI_clamp (n := k) (by omega)
  refine va_iald hx hb hK hP 1 1 rfl rfl (vp_in_nI hk (by decide)) d ?_
  rw [hcl, hv]
  exact kk
theorem ms_kind (X : mX p s m args c cc nL D c1 c2) (I : mI D c1 c2 h ad A s.heap σ H locs) {i x : Int32} (k : Nat) (hi : i = nI k) (hk : k < 8) (d : decode cc pc = .ok (.iastore, 1)) (kk : ∀ (H1 : Heap) (locs1 : List Loc), mI D c1 c2 h ad A s.heap (su σ 1 k x) H1 locs1 → W p l e R s m args below meth c H1 locs1 cells slots Q (F0 m (pc + 1) ls rest)) : W p l e R s m args below meth c H locs cells slots Q (F0 m pc ls (.int x :: .int i :: .ref (ad 1) :: rest)) := by
  obtain ⟨hx, hb, hml, hown, hts, hK⟩ := X
  obtain ⟨hP, hD, hS⟩ := I
  subst hi
  have hcl := nI_clamp (n := k) (by omega)
  refine va_iast hx hb hK hP hD hS 1 1 rfl rfl (vp_in_nI hk (by decide)) d (fun H1 locs1 hP1 hD1 hS1 => ?_)
  rw [hcl] at hP1 hD1
  exact kk H1 locs1 ⟨hP1, hD1, hS1⟩
theorem mg_a (X : mX p s m args c cc nL D c1 c2) (I : mI D c1 c2 h ad A s.heap σ H locs) (d : decode cc pc = .ok (.getfield 17, 3)) (kk : W p l e R s m args below meth c H locs cells slots Q (F0 m (pc + 3) ls (.ref (ad 2) :: rest))) : W p l e R s m args below meth c H locs cells slots Q (F0 m pc ls (.ref h :: rest)) := by
  obtain ⟨hx, hb, hml, hown, hts, hK⟩ := X
  obtain ⟨hP, hD, hS⟩ := I
  exact va_get (D := D) (ci := 1) (v := .ref (ad 2)) (C := RX2) (T := TX2) (N := 14) hx hb hts in_X2 hown hK hP 0 rfl rfl 2 (by decide) (hts _ q189) (fun _ h9 => h9) rfl d kk
theorem mf_a (X : mX p s m args c cc nL D c1 c2) (I : mI D c1 c2 h ad A s.heap σ H locs) (ha : ls[0]? = some (.val (.ref h))) (d1 : decode cc pc = .ok (.aload_n 0, 1)) (d2 : decode cc (pc + 1) = .ok (.getfield 17, 3)) (kk : W p l e R s m args below meth c H locs cells slots Q (F0 m (pc + 1 + 3) ls (.ref (ad 2) :: rest))) : W p l e R s m args below meth c H locs cells slots Q (F0 m pc ls rest) := by
  refine lv_aload_n X.1 X.2.1 d1 rfl ha ?_
  exact mg_a X I d2 kk
theorem ml_a (X : mX p s m args c cc nL D c1 c2) (I : mI D c1 c2 h ad A s.heap σ H locs) {i : Int32} (k : Nat) (hi : i = nI k) (hk : k < 8) {v : Int32} (hv : σ 2 k = v) (d : decode cc pc = .ok (.iaload, 1)) (kk : W p l e R s m args below meth c H locs cells slots Q (F0 m (pc + 1) ls (.int v :: rest))) : W p l e R s m args below meth c H locs cells slots Q (F0 m pc ls (.int i :: .ref (ad 2) :: rest)) := by
  obtain ⟨hx, hb, hml, hown, hts, hK⟩ := X
  obtain ⟨hP, hD, hS⟩ := I
  subst hi
  have hcl := nI_clamp (n := k) (by omega)
  refine va_iald hx hb hK hP 2 1 rfl rfl (vp_in_nI hk (by decide)) d ?_
  rw [hcl, hv]
  exact kk
theorem ms_a (X : mX p s m args c cc nL D c1 c2) (I : mI D c1 c2 h ad A s.heap σ H locs) {i x : Int32} (k : Nat) (hi : i = nI k) (hk : k < 8) (d : decode cc pc = .ok (.iastore, 1)) (kk : ∀ (H1 : Heap) (locs1 : List Loc), mI D c1 c2 h ad A s.heap (su σ 2 k x) H1 locs1 → W p l e R s m args below meth c H1 locs1 cells slots Q (F0 m (pc + 1) ls rest)) : W p l e R s m args below meth c H locs cells slots Q (F0 m pc ls (.int x :: .int i :: .ref (ad 2) :: rest)) := by
  obtain ⟨hx, hb, hml, hown, hts, hK⟩ := X
  obtain ⟨hP, hD, hS⟩ := I
  subst hi
  have hcl := nI_clamp (n := k) (by omega)
  refine va_iast hx hb hK hP hD hS 2 1 rfl rfl (vp_in_nI hk (by decide)) d (fun H1 locs1 hP1 hD1 hS1 => ?_)
  rw [hcl] at hP1 hD1
  exact kk H1 locs1 ⟨hP1, hD1, hS1⟩
theorem mg_b (X : mX p s m args c cc nL D c1 c2) (I : mI D c1 c2 h ad A s.heap σ H locs) (d : decode cc pc = .ok (.getfield 20, 3)) (kk : W p l e R s m args below meth c H locs cells slots Q (F0 m (pc + 3) ls (.ref (ad 3) :: rest))) : W p l e R s m args below meth c H locs cells slots Q (F0 m pc ls (.ref h :: rest)) := by
  obtain ⟨hx, hb, hml, hown, hts, hK⟩ := X
  obtain ⟨hP, hD, hS⟩ := I
  exact va_get (D := D) (ci := 1) (v := .ref (ad 3)) (C := RX2) (T := TX2) (N := 14) hx hb hts in_X2 hown hK hP 0 rfl rfl 3 (by decide) (hts _ q190) (fun _ h9 => h9) rfl d kk
theorem mf_b (X : mX p s m args c cc nL D c1 c2) (I : mI D c1 c2 h ad A s.heap σ H locs) (ha : ls[0]? = some (.val (.ref h))) (d1 : decode cc pc = .ok (.aload_n 0, 1)) (d2 : decode cc (pc + 1) = .ok (.getfield 20, 3)) (kk : W p l e R s m args below meth c H locs cells slots Q (F0 m (pc + 1 + 3) ls (.ref (ad 3) :: rest))) : W p l e R s m args below meth c H locs cells slots Q (F0 m pc ls rest) := by
  refine lv_aload_n X.1 X.2.1 d1 rfl ha ?_
  exact mg_b X I d2 kk
theorem ml_b (X : mX p s m args c cc nL D c1 c2) (I : mI D c1 c2 h ad A s.heap σ H locs) {i : Int32} (k : Nat) (hi : i = nI k) (hk : k < 8) {v : Int32} (hv : σ 3 k = v) (d : decode cc pc = .ok (.iaload, 1)) (kk : W p l e R s m args below meth c H locs cells slots Q (F0 m (pc + 1) ls (.int v :: rest))) : W p l e R s m args below meth c H locs cells slots Q (F0 m pc ls (.int i :: .ref (ad 3) :: rest)) := by
  obtain ⟨hx, hb, hml, hown, hts, hK⟩ := X
  obtain ⟨hP, hD, hS⟩ := I
  subst hi
  have hcl := nI_clamp (n := k) (by omega)
  refine va_iald hx hb hK hP 3 1 rfl rfl (vp_in_nI hk (by decide)) d ?_
  rw [hcl, hv]
  exact kk
theorem ms_b (X : mX p s m args c cc nL D c1 c2) (I : mI D c1 c2 h ad A s.heap σ H locs) {i x : Int32} (k : Nat) (hi : i = nI k) (hk : k < 8) (d : decode cc pc = .ok (.iastore, 1)) (kk : ∀ (H1 : Heap) (locs1 : List Loc), mI D c1 c2 h ad A s.heap (su σ 3 k x) H1 locs1 → W p l e R s m args below meth c H1 locs1 cells slots Q (F0 m (pc + 1) ls rest)) : W p l e R s m args below meth c H locs cells slots Q (F0 m pc ls (.int x :: .int i :: .ref (ad 3) :: rest)) := by
  obtain ⟨hx, hb, hml, hown, hts, hK⟩ := X
  obtain ⟨hP, hD, hS⟩ := I
  subst hi
  have hcl := nI_clamp (n := k) (by omega)
  refine va_iast hx hb hK hP hD hS 3 1 rfl rfl (vp_in_nI hk (by decide)) d (fun H1 locs1 hP1 hD1 hS1 => ?_)
  rw [hcl] at hP1 hD1
  exact kk H1 locs1 ⟨hP1, hD1, hS1⟩
theorem mg_c (X : mX p s m args c cc nL D c1 c2) (I : mI D c1 c2 h ad A s.heap σ H locs) (d : decode cc pc = .ok (.getfield 23, 3)) (kk : W p l e R s m args below meth c H locs cells slots Q (F0 m (pc + 3) ls (.ref (ad 4) :: rest))) : W p l e R s m args below meth c H locs cells slots Q (F0 m pc ls (.ref h :: rest)) := by
  obtain ⟨hx, hb, hml, hown, hts, hK⟩ := X
  obtain ⟨hP, hD, hS⟩ := I
  exact va_get (D := D) (ci := 1) (v := .ref (ad 4)) (C := RX2) (T := TX2) (N := 14) hx hb hts in_X2 hown hK hP 0 rfl rfl 4 (by decide) (hts _ q191) (fun _ h9 => h9) rfl d kk
theorem mf_c (X : mX p s m args c cc nL D c1 c2) (I : mI D c1 c2 h ad A s.heap σ H locs) (ha : ls[0]? = some (.val (.ref h))) (d1 : decode cc pc = .ok (.aload_n 0, 1)) (d2 : decode cc (pc + 1) = .ok (.getfield 23, 3)) (kk : W p l e R s m args below meth c H locs cells slots Q (F0 m (pc + 1 + 3) ls (.ref (ad 4) :: rest))) : W p l e R s m args below meth c H locs cells slots Q (F0 m pc ls rest) := by
  refine lv_aload_n X.1 X.2.1 d1 rfl ha ?_
  exact mg_c X I d2 kk
theorem ml_c (X : mX p s m args c cc nL D c1 c2) (I : mI D c1 c2 h ad A s.heap σ H locs) {i : Int32} (k : Nat) (hi : i = nI k) (hk : k < 8) {v : Int32} (hv : σ 4 k = v) (d : decode cc pc = .ok (.iaload, 1)) (kk : W p l e R s m args below meth c H locs cells slots Q (F0 m (pc + 1) ls (.int v :: rest))) : W p l e R s m args below meth c H locs cells slots Q (F0 m pc ls (.int i :: .ref (ad 4) :: rest)) := by
  obtain ⟨hx, hb, hml, hown, hts, hK⟩ := X
  obtain ⟨hP, hD, hS⟩ := I
  subst hi
  have hcl := nI_clamp (n := k) (by omega)
  refine va_iald hx hb hK hP 4 1 rfl rfl (vp_in_nI hk (by decide)) d ?_
  rw [hcl, hv]
  exact kk
theorem ms_c (X : mX p s m args c cc nL D c1 c2) (I : mI D c1 c2 h ad A s.heap σ H locs) {i x : Int32} (k : Nat) (hi : i = nI k) (hk : k < 8) (d : decode cc pc = .ok (.iastore, 1)) (kk : ∀ (H1 : Heap) (locs1 : List Loc), mI D c1 c2 h ad A s.heap (su σ 4 k x) H1 locs1 → W p l e R s m args below meth c H1 locs1 cells slots Q (F0 m (pc + 1) ls rest)) : W p l e R s m args below meth c H locs cells slots Q (F0 m pc ls (.int x :: .int i :: .ref (ad 4) :: rest)) := by
  obtain ⟨hx, hb, hml, hown, hts, hK⟩ := X
  obtain ⟨hP, hD, hS⟩ := I
  subst hi
  have hcl := nI_clamp (n := k) (by omega)
  refine va_iast hx hb hK hP hD hS 4 1 rfl rfl (vp_in_nI hk (by decide)) d (fun H1 locs1 hP1 hD1 hS1 => ?_)
  rw [hcl] at hP1 hD1
  exact kk H1 locs1 ⟨hP1, hD1, hS1⟩
theorem mg_d (X : mX p s m args c cc nL D c1 c2) (I : mI D c1 c2 h ad A s.heap σ H locs) (d : decode cc pc = .ok (.getfield 26, 3)) (kk : W p l e R s m args below meth c H locs cells slots Q (F0 m (pc + 3) ls (.ref (ad 5) :: rest))) : W p l e R s m args below meth c H locs cells slots Q (F0 m pc ls (.ref h :: rest)) := by
  obtain ⟨hx, hb, hml, hown, hts, hK⟩ := X
  obtain ⟨hP, hD, hS⟩ := I
  exact va_get (D := D) (ci := 1) (v := .ref (ad 5)) (C := RX2) (T := TX2) (N := 14) hx hb hts in_X2 hown hK hP 0 rfl rfl 5 (by decide) (hts _ q192) (fun _ h9 => h9) rfl d kk
theorem mf_d (X : mX p s m args c cc nL D c1 c2) (I : mI D c1 c2 h ad A s.heap σ H locs) (ha : ls[0]? = some (.val (.ref h))) (d1 : decode cc pc = .ok (.aload_n 0, 1)) (d2 : decode cc (pc + 1) = .ok (.getfield 26, 3)) (kk : W p l e R s m args below meth c H locs cells slots Q (F0 m (pc + 1 + 3) ls (.ref (ad 5) :: rest))) : W p l e R s m args below meth c H locs cells slots Q (F0 m pc ls rest) := by
  refine lv_aload_n X.1 X.2.1 d1 rfl ha ?_
  exact mg_d X I d2 kk
theorem ml_d (X : mX p s m args c cc nL D c1 c2) (I : mI D c1 c2 h ad A s.heap σ H locs) {i : Int32} (k : Nat) (hi : i = nI k) (hk : k < 8) {v : Int32} (hv : σ 5 k = v) (d : decode cc pc = .ok (.iaload, 1)) (kk : W p l e R s m args below meth c H locs cells slots Q (F0 m (pc + 1) ls (.int v :: rest))) : W p l e R s m args below meth c H locs cells slots Q (F0 m pc ls (.int i :: .ref (ad 5) :: rest)) := by
  obtain ⟨hx, hb, hml, hown, hts, hK⟩ := X
  obtain ⟨hP, hD, hS⟩ := I
  subst hi
  have hcl := nI_clamp (n := k) (by omega)
  refine va_iald hx hb hK hP 5 1 rfl rfl (vp_in_nI hk (by decide)) d ?_
  rw [hcl, hv]
  exact kk
theorem ms_d (X : mX p s m args c cc nL D c1 c2) (I : mI D c1 c2 h ad A s.heap σ H locs) {i x : Int32} (k : Nat) (hi : i = nI k) (hk : k < 8) (d : decode cc pc = .ok (.iastore, 1)) (kk : ∀ (H1 : Heap) (locs1 : List Loc), mI D c1 c2 h ad A s.heap (su σ 5 k x) H1 locs1 → W p l e R s m args below meth c H1 locs1 cells slots Q (F0 m (pc + 1) ls rest)) : W p l e R s m args below meth c H locs cells slots Q (F0 m pc ls (.int x :: .int i :: .ref (ad 5) :: rest)) := by
  obtain ⟨hx, hb, hml, hown, hts, hK⟩ := X
  obtain ⟨hP, hD, hS⟩ := I
  subst hi
  have hcl := nI_clamp (n := k) (by omega)
  refine va_iast hx hb hK hP hD hS 5 1 rfl rfl (vp_in_nI hk (by decide)) d (fun H1 locs1 hP1 hD1 hS1 => ?_)
  rw [hcl] at hP1 hD1
  exact kk H1 locs1 ⟨hP1, hD1, hS1⟩
theorem mg_p (X : mX p s m args c cc nL D c1 c2) (I : mI D c1 c2 h ad A s.heap σ H locs) (d : decode cc pc = .ok (.getfield 29, 3)) (kk : W p l e R s m args below meth c H locs cells slots Q (F0 m (pc + 3) ls (.ref (ad 6) :: rest))) : W p l e R s m args below meth c H locs cells slots Q (F0 m pc ls (.ref h :: rest)) := by
  obtain ⟨hx, hb, hml, hown, hts, hK⟩ := X
  obtain ⟨hP, hD, hS⟩ := I
  exact va_get (D := D) (ci := 1) (v := .ref (ad 6)) (C := RX2) (T := TX2) (N := 14) hx hb hts in_X2 hown hK hP 0 rfl rfl 6 (by decide) (hts _ q193) (fun _ h9 => h9) rfl d kk
theorem mf_p (X : mX p s m args c cc nL D c1 c2) (I : mI D c1 c2 h ad A s.heap σ H locs) (ha : ls[0]? = some (.val (.ref h))) (d1 : decode cc pc = .ok (.aload_n 0, 1)) (d2 : decode cc (pc + 1) = .ok (.getfield 29, 3)) (kk : W p l e R s m args below meth c H locs cells slots Q (F0 m (pc + 1 + 3) ls (.ref (ad 6) :: rest))) : W p l e R s m args below meth c H locs cells slots Q (F0 m pc ls rest) := by
  refine lv_aload_n X.1 X.2.1 d1 rfl ha ?_
  exact mg_p X I d2 kk
theorem ml_p (X : mX p s m args c cc nL D c1 c2) (I : mI D c1 c2 h ad A s.heap σ H locs) {i : Int32} (k : Nat) (hi : i = nI k) (hk : k < 8) {v : Int32} (hv : σ 6 k = v) (d : decode cc pc = .ok (.iaload, 1)) (kk : W p l e R s m args below meth c H locs cells slots Q (F0 m (pc + 1) ls (.int v :: rest))) : W p l e R s m args below meth c H locs cells slots Q (F0 m pc ls (.int i :: .ref (ad 6) :: rest)) := by
  obtain ⟨hx, hb, hml, hown, hts, hK⟩ := X
  obtain ⟨hP, hD, hS⟩ := I
  subst hi
  have hcl := nI_clamp (n := k) (by omega)
  refine va_iald hx hb hK hP 6 1 rfl rfl (vp_in_nI hk (by decide)) d ?_
  rw [hcl, hv]
  exact kk
theorem ms_p (X : mX p s m args c cc nL D c1 c2) (I : mI D c1 c2 h ad A s.heap σ H locs) {i x : Int32} (k : Nat) (hi : i = nI k) (hk : k < 8) (d : decode cc pc = .ok (.iastore, 1)) (kk : ∀ (H1 : Heap) (locs1 : List Loc), mI D c1 c2 h ad A s.heap (su σ 6 k x) H1 locs1 → W p l e R s m args below meth c H1 locs1 cells slots Q (F0 m (pc + 1) ls rest)) : W p l e R s m args below meth c H locs cells slots Q (F0 m pc ls (.int x :: .int i :: .ref (ad 6) :: rest)) := by
  obtain ⟨hx, hb, hml, hown, hts, hK⟩ := X
  obtain ⟨hP, hD, hS⟩ := I
  subst hi
  have hcl := nI_clamp (n := k) (by omega)
  refine va_iast hx hb hK hP hD hS 6 1 rfl rfl (vp_in_nI hk (by decide)) d (fun H1 locs1 hP1 hD1 hS1 => ?_)
  rw [hcl] at hP1 hD1
  exact kk H1 locs1 ⟨hP1, hD1, hS1⟩
theorem mg_q (X : mX p s m args c cc nL D c1 c2) (I : mI D c1 c2 h ad A s.heap σ H locs) (d : decode cc pc = .ok (.getfield 32, 3)) (kk : W p l e R s m args below meth c H locs cells slots Q (F0 m (pc + 3) ls (.ref (ad 7) :: rest))) : W p l e R s m args below meth c H locs cells slots Q (F0 m pc ls (.ref h :: rest)) := by
  obtain ⟨hx, hb, hml, hown, hts, hK⟩ := X
  obtain ⟨hP, hD, hS⟩ := I
  exact va_get (D := D) (ci := 1) (v := .ref (ad 7)) (C := RX2) (T := TX2) (N := 14) hx hb hts in_X2 hown hK hP 0 rfl rfl 7 (by decide) (hts _ q194) (fun _ h9 => h9) rfl d kk
theorem mf_q (X : mX p s m args c cc nL D c1 c2) (I : mI D c1 c2 h ad A s.heap σ H locs) (ha : ls[0]? = some (.val (.ref h))) (d1 : decode cc pc = .ok (.aload_n 0, 1)) (d2 : decode cc (pc + 1) = .ok (.getfield 32, 3)) (kk : W p l e R s m args below meth c H locs cells slots Q (F0 m (pc + 1 + 3) ls (.ref (ad 7) :: rest))) : W p l e R s m args below meth c H locs cells slots Q (F0 m pc ls rest) := by
  refine lv_aload_n X.1 X.2.1 d1 rfl ha ?_
  exact mg_q X I d2 kk
theorem ml_q (X : mX p s m args c cc nL D c1 c2) (I : mI D c1 c2 h ad A s.heap σ H locs) {i : Int32} (k : Nat) (hi : i = nI k) (hk : k < 8) {v : Int32} (hv : σ 7 k = v) (d : decode cc pc = .ok (.iaload, 1)) (kk : W p l e R s m args below meth c H locs cells slots Q (F0 m (pc + 1) ls (.int v :: rest))) : W p l e R s m args below meth c H locs cells slots Q (F0 m pc ls (.int i :: .ref (ad 7) :: rest)) := by
  obtain ⟨hx, hb, hml, hown, hts, hK⟩ := X
  obtain ⟨hP, hD, hS⟩ := I
  subst hi
  have hcl := nI_clamp (n := k) (by omega)
  refine va_iald hx hb hK hP 7 1 rfl rfl (vp_in_nI hk (by decide)) d ?_
  rw [hcl, hv]
  exact kk
theorem ms_q (X : mX p s m args c cc nL D c1 c2) (I : mI D c1 c2 h ad A s.heap σ H locs) {i x : Int32} (k : Nat) (hi : i = nI k) (hk : k < 8) (d : decode cc pc = .ok (.iastore, 1)) (kk : ∀ (H1 : Heap) (locs1 : List Loc), mI D c1 c2 h ad A s.heap (su σ 7 k x) H1 locs1 → W p l e R s m args below meth c H1 locs1 cells slots Q (F0 m (pc + 1) ls rest)) : W p l e R s m args below meth c H locs cells slots Q (F0 m pc ls (.int x :: .int i :: .ref (ad 7) :: rest)) := by
  obtain ⟨hx, hb, hml, hown, hts, hK⟩ := X
  obtain ⟨hP, hD, hS⟩ := I
  subst hi
  have hcl := nI_clamp (n := k) (by omega)
  refine va_iast hx hb hK hP hD hS 7 1 rfl rfl (vp_in_nI hk (by decide)) d (fun H1 locs1 hP1 hD1 hS1 => ?_)
  rw [hcl] at hP1 hD1
  exact kk H1 locs1 ⟨hP1, hD1, hS1⟩
theorem mg_read (X : mX p s m args c cc nL D c1 c2) (I : mI D c1 c2 h ad A s.heap σ H locs) (d : decode cc pc = .ok (.getfield 35, 3)) (kk : W p l e R s m args below meth c H locs cells slots Q (F0 m (pc + 3) ls (.ref (ad 8) :: rest))) : W p l e R s m args below meth c H locs cells slots Q (F0 m pc ls (.ref h :: rest)) := by
  obtain ⟨hx, hb, hml, hown, hts, hK⟩ := X
  obtain ⟨hP, hD, hS⟩ := I
  exact va_get (D := D) (ci := 1) (v := .ref (ad 8)) (C := RX2) (T := TX2) (N := 14) hx hb hts in_X2 hown hK hP 0 rfl rfl 8 (by decide) (hts _ q195) (fun _ h9 => h9) rfl d kk
theorem mf_read (X : mX p s m args c cc nL D c1 c2) (I : mI D c1 c2 h ad A s.heap σ H locs) (ha : ls[0]? = some (.val (.ref h))) (d1 : decode cc pc = .ok (.aload_n 0, 1)) (d2 : decode cc (pc + 1) = .ok (.getfield 35, 3)) (kk : W p l e R s m args below meth c H locs cells slots Q (F0 m (pc + 1 + 3) ls (.ref (ad 8) :: rest))) : W p l e R s m args below meth c H locs cells slots Q (F0 m pc ls rest) := by
  refine lv_aload_n X.1 X.2.1 d1 rfl ha ?_
  exact mg_read X I d2 kk
theorem ml_read (X : mX p s m args c cc nL D c1 c2) (I : mI D c1 c2 h ad A s.heap σ H locs) {i : Int32} (k : Nat) (hi : i = nI k) (hk : k < 10) {v : Int32} (hv : σ 8 k = v) (d : decode cc pc = .ok (.baload, 1)) (kk : W p l e R s m args below meth c H locs cells slots Q (F0 m (pc + 1) ls (.int v :: rest))) : W p l e R s m args below meth c H locs cells slots Q (F0 m pc ls (.int i :: .ref (ad 8) :: rest)) := by
  obtain ⟨hx, hb, hml, hown, hts, hK⟩ := X
  obtain ⟨hP, hD, hS⟩ := I
  subst hi
  have hcl := nI_clamp (n := k) (by omega)
  refine va_zald hx hb hK hP 8 0 rfl rfl (vp_in_nI hk (by decide)) d ?_
  rw [hcl, hv]
  exact kk
theorem ms_read (X : mX p s m args c cc nL D c1 c2) (I : mI D c1 c2 h ad A s.heap σ H locs) {i x : Int32} (k : Nat) (hi : i = nI k) (hk : k < 10) {y : Int32} (hy : vp_nar .boolean x = y) (d : decode cc pc = .ok (.bastore, 1)) (kk : ∀ (H1 : Heap) (locs1 : List Loc), mI D c1 c2 h ad A s.heap (su σ 8 k y) H1 locs1 → W p l e R s m args below meth c H1 locs1 cells slots Q (F0 m (pc + 1) ls rest)) : W p l e R s m args below meth c H locs cells slots Q (F0 m pc ls (.int x :: .int i :: .ref (ad 8) :: rest)) := by
  obtain ⟨hx, hb, hml, hown, hts, hK⟩ := X
  obtain ⟨hP, hD, hS⟩ := I
  subst hi
  subst hy
  have hcl := nI_clamp (n := k) (by omega)
  refine va_zast hx hb hK hP hD hS 8 0 rfl rfl (vp_in_nI hk (by decide)) d (fun H1 locs1 hP1 hD1 hS1 => ?_)
  rw [hcl] at hP1 hD1
  exact kk H1 locs1 ⟨hP1, hD1, hS1⟩
theorem mg_written (X : mX p s m args c cc nL D c1 c2) (I : mI D c1 c2 h ad A s.heap σ H locs) (d : decode cc pc = .ok (.getfield 39, 3)) (kk : W p l e R s m args below meth c H locs cells slots Q (F0 m (pc + 3) ls (.ref (ad 9) :: rest))) : W p l e R s m args below meth c H locs cells slots Q (F0 m pc ls (.ref h :: rest)) := by
  obtain ⟨hx, hb, hml, hown, hts, hK⟩ := X
  obtain ⟨hP, hD, hS⟩ := I
  exact va_get (D := D) (ci := 1) (v := .ref (ad 9)) (C := RX2) (T := TX2) (N := 14) hx hb hts in_X2 hown hK hP 0 rfl rfl 9 (by decide) (hts _ q196) (fun _ h9 => h9) rfl d kk
theorem mf_written (X : mX p s m args c cc nL D c1 c2) (I : mI D c1 c2 h ad A s.heap σ H locs) (ha : ls[0]? = some (.val (.ref h))) (d1 : decode cc pc = .ok (.aload_n 0, 1)) (d2 : decode cc (pc + 1) = .ok (.getfield 39, 3)) (kk : W p l e R s m args below meth c H locs cells slots Q (F0 m (pc + 1 + 3) ls (.ref (ad 9) :: rest))) : W p l e R s m args below meth c H locs cells slots Q (F0 m pc ls rest) := by
  refine lv_aload_n X.1 X.2.1 d1 rfl ha ?_
  exact mg_written X I d2 kk
theorem ml_written (X : mX p s m args c cc nL D c1 c2) (I : mI D c1 c2 h ad A s.heap σ H locs) {i : Int32} (k : Nat) (hi : i = nI k) (hk : k < 10) {v : Int32} (hv : σ 9 k = v) (d : decode cc pc = .ok (.baload, 1)) (kk : W p l e R s m args below meth c H locs cells slots Q (F0 m (pc + 1) ls (.int v :: rest))) : W p l e R s m args below meth c H locs cells slots Q (F0 m pc ls (.int i :: .ref (ad 9) :: rest)) := by
  obtain ⟨hx, hb, hml, hown, hts, hK⟩ := X
  obtain ⟨hP, hD, hS⟩ := I
  subst hi
  have hcl := nI_clamp (n := k) (by omega)
  refine va_zald hx hb hK hP 9 0 rfl rfl (vp_in_nI hk (by decide)) d ?_
  rw [hcl, hv]
  exact kk
theorem ms_written (X : mX p s m args c cc nL D c1 c2) (I : mI D c1 c2 h ad A s.heap σ H locs) {i x : Int32} (k : Nat) (hi : i = nI k) (hk : k < 10) {y : Int32} (hy : vp_nar .boolean x = y) (d : decode cc pc = .ok (.bastore, 1)) (kk : ∀ (H1 : Heap) (locs1 : List Loc), mI D c1 c2 h ad A s.heap (su σ 9 k y) H1 locs1 → W p l e R s m args below meth c H1 locs1 cells slots Q (F0 m (pc + 1) ls rest)) : W p l e R s m args below meth c H locs cells slots Q (F0 m pc ls (.int x :: .int i :: .ref (ad 9) :: rest)) := by
  obtain ⟨hx, hb, hml, hown, hts, hK⟩ := X
  obtain ⟨hP, hD, hS⟩ := I
  subst hi
  subst hy
  have hcl := nI_clamp (n := k) (by omega)
  refine va_zast hx hb hK hP hD hS 9 0 rfl rfl (vp_in_nI hk (by decide)) d (fun H1 locs1 hP1 hD1 hS1 => ?_)
  rw [hcl] at hP1 hD1
  exact kk H1 locs1 ⟨hP1, hD1, hS1⟩
theorem mg_size (X : mX p s m args c cc nL D c1 c2) (I : mI D c1 c2 h ad A s.heap σ H locs) (d : decode cc pc = .ok (.getfield 42, 3)) (kk : W p l e R s m args below meth c H locs cells slots Q (F0 m (pc + 3) ls (.ref (ad 10) :: rest))) : W p l e R s m args below meth c H locs cells slots Q (F0 m pc ls (.ref h :: rest)) := by
  obtain ⟨hx, hb, hml, hown, hts, hK⟩ := X
  obtain ⟨hP, hD, hS⟩ := I
  exact va_get (D := D) (ci := 1) (v := .ref (ad 10)) (C := RX2) (T := TX2) (N := 14) hx hb hts in_X2 hown hK hP 0 rfl rfl 10 (by decide) (hts _ q197) (fun _ h9 => h9) rfl d kk
theorem mf_size (X : mX p s m args c cc nL D c1 c2) (I : mI D c1 c2 h ad A s.heap σ H locs) (ha : ls[0]? = some (.val (.ref h))) (d1 : decode cc pc = .ok (.aload_n 0, 1)) (d2 : decode cc (pc + 1) = .ok (.getfield 42, 3)) (kk : W p l e R s m args below meth c H locs cells slots Q (F0 m (pc + 1 + 3) ls (.ref (ad 10) :: rest))) : W p l e R s m args below meth c H locs cells slots Q (F0 m pc ls rest) := by
  refine lv_aload_n X.1 X.2.1 d1 rfl ha ?_
  exact mg_size X I d2 kk
theorem ml_size (X : mX p s m args c cc nL D c1 c2) (I : mI D c1 c2 h ad A s.heap σ H locs) {i : Int32} (k : Nat) (hi : i = nI k) (hk : k < 10) {v : Int32} (hv : σ 10 k = v) (d : decode cc pc = .ok (.iaload, 1)) (kk : W p l e R s m args below meth c H locs cells slots Q (F0 m (pc + 1) ls (.int v :: rest))) : W p l e R s m args below meth c H locs cells slots Q (F0 m pc ls (.int i :: .ref (ad 10) :: rest)) := by
  obtain ⟨hx, hb, hml, hown, hts, hK⟩ := X
  obtain ⟨hP, hD, hS⟩ := I
  subst hi
  have hcl := nI_clamp (n := k) (by omega)
  refine va_iald hx hb hK hP 10 1 rfl rfl (vp_in_nI hk (by decide)) d ?_
  rw [hcl, hv]
  exact kk
theorem ms_size (X : mX p s m args c cc nL D c1 c2) (I : mI D c1 c2 h ad A s.heap σ H locs) {i x : Int32} (k : Nat) (hi : i = nI k) (hk : k < 10) (d : decode cc pc = .ok (.iastore, 1)) (kk : ∀ (H1 : Heap) (locs1 : List Loc), mI D c1 c2 h ad A s.heap (su σ 10 k x) H1 locs1 → W p l e R s m args below meth c H1 locs1 cells slots Q (F0 m (pc + 1) ls rest)) : W p l e R s m args below meth c H locs cells slots Q (F0 m pc ls (.int x :: .int i :: .ref (ad 10) :: rest)) := by
  obtain ⟨hx, hb, hml, hown, hts, hK⟩ := X
  obtain ⟨hP, hD, hS⟩ := I
  subst hi
  have hcl := nI_clamp (n := k) (by omega)
  refine va_iast hx hb hK hP hD hS 10 1 rfl rfl (vp_in_nI hk (by decide)) d (fun H1 locs1 hP1 hD1 hS1 => ?_)
  rw [hcl] at hP1 hD1
  exact kk H1 locs1 ⟨hP1, hD1, hS1⟩
theorem mg_ints (X : mX p s m args c cc nL D c1 c2) (I : mI D c1 c2 h ad A s.heap σ H locs) (d : decode cc pc = .ok (.getfield 45, 3)) (kk : W p l e R s m args below meth c H locs cells slots Q (F0 m (pc + 3) ls (.ref (ad 11) :: rest))) : W p l e R s m args below meth c H locs cells slots Q (F0 m pc ls (.ref h :: rest)) := by
  obtain ⟨hx, hb, hml, hown, hts, hK⟩ := X
  obtain ⟨hP, hD, hS⟩ := I
  exact va_get (D := D) (ci := 1) (v := .ref (ad 11)) (C := RX2) (T := TX2) (N := 14) hx hb hts in_X2 hown hK hP 0 rfl rfl 11 (by decide) (hts _ q198) (fun _ h9 => h9) rfl d kk
theorem mf_ints (X : mX p s m args c cc nL D c1 c2) (I : mI D c1 c2 h ad A s.heap σ H locs) (ha : ls[0]? = some (.val (.ref h))) (d1 : decode cc pc = .ok (.aload_n 0, 1)) (d2 : decode cc (pc + 1) = .ok (.getfield 45, 3)) (kk : W p l e R s m args below meth c H locs cells slots Q (F0 m (pc + 1 + 3) ls (.ref (ad 11) :: rest))) : W p l e R s m args below meth c H locs cells slots Q (F0 m pc ls rest) := by
  refine lv_aload_n X.1 X.2.1 d1 rfl ha ?_
  exact mg_ints X I d2 kk
theorem ml_ints (X : mX p s m args c cc nL D c1 c2) (I : mI D c1 c2 h ad A s.heap σ H locs) {i : Int32} (k : Nat) (hi : i = nI k) (hk : k < 200) {v : Int32} (hv : σ 11 k = v) (d : decode cc pc = .ok (.iaload, 1)) (kk : W p l e R s m args below meth c H locs cells slots Q (F0 m (pc + 1) ls (.int v :: rest))) : W p l e R s m args below meth c H locs cells slots Q (F0 m pc ls (.int i :: .ref (ad 11) :: rest)) := by
  obtain ⟨hx, hb, hml, hown, hts, hK⟩ := X
  obtain ⟨hP, hD, hS⟩ := I
  subst hi
  have hcl := nI_clamp (n := k) (by omega)
  refine va_iald hx hb hK hP 11 1 rfl rfl (vp_in_nI hk (by decide)) d ?_
  rw [hcl, hv]
  exact kk
theorem ms_ints (X : mX p s m args c cc nL D c1 c2) (I : mI D c1 c2 h ad A s.heap σ H locs) {i x : Int32} (k : Nat) (hi : i = nI k) (hk : k < 200) (d : decode cc pc = .ok (.iastore, 1)) (kk : ∀ (H1 : Heap) (locs1 : List Loc), mI D c1 c2 h ad A s.heap (su σ 11 k x) H1 locs1 → W p l e R s m args below meth c H1 locs1 cells slots Q (F0 m (pc + 1) ls rest)) : W p l e R s m args below meth c H locs cells slots Q (F0 m pc ls (.int x :: .int i :: .ref (ad 11) :: rest)) := by
  obtain ⟨hx, hb, hml, hown, hts, hK⟩ := X
  obtain ⟨hP, hD, hS⟩ := I
  subst hi
  have hcl := nI_clamp (n := k) (by omega)
  refine va_iast hx hb hK hP hD hS 11 1 rfl rfl (vp_in_nI hk (by decide)) d (fun H1 locs1 hP1 hD1 hS1 => ?_)
  rw [hcl] at hP1 hD1
  exact kk H1 locs1 ⟨hP1, hD1, hS1⟩
theorem mg_made (X : mX p s m args c cc nL D c1 c2) (I : mI D c1 c2 h ad A s.heap σ H locs) (d : decode cc pc = .ok (.getfield 48, 3)) (kk : W p l e R s m args below meth c H locs cells slots Q (F0 m (pc + 3) ls (.ref (ad 12) :: rest))) : W p l e R s m args below meth c H locs cells slots Q (F0 m pc ls (.ref h :: rest)) := by
  obtain ⟨hx, hb, hml, hown, hts, hK⟩ := X
  obtain ⟨hP, hD, hS⟩ := I
  exact va_get (D := D) (ci := 1) (v := .ref (ad 12)) (C := RX2) (T := TX2) (N := 14) hx hb hts in_X2 hown hK hP 0 rfl rfl 12 (by decide) (hts _ q199) (fun _ h9 => h9) rfl d kk
theorem mf_made (X : mX p s m args c cc nL D c1 c2) (I : mI D c1 c2 h ad A s.heap σ H locs) (ha : ls[0]? = some (.val (.ref h))) (d1 : decode cc pc = .ok (.aload_n 0, 1)) (d2 : decode cc (pc + 1) = .ok (.getfield 48, 3)) (kk : W p l e R s m args below meth c H locs cells slots Q (F0 m (pc + 1 + 3) ls (.ref (ad 12) :: rest))) : W p l e R s m args below meth c H locs cells slots Q (F0 m pc ls rest) := by
  refine lv_aload_n X.1 X.2.1 d1 rfl ha ?_
  exact mg_made X I d2 kk
theorem ml_made (X : mX p s m args c cc nL D c1 c2) (I : mI D c1 c2 h ad A s.heap σ H locs) {i : Int32} (k : Nat) (hi : i = nI k) (hk : k < 20) {v : Int32} (hv : σ 12 k = v) (d : decode cc pc = .ok (.iaload, 1)) (kk : W p l e R s m args below meth c H locs cells slots Q (F0 m (pc + 1) ls (.int v :: rest))) : W p l e R s m args below meth c H locs cells slots Q (F0 m pc ls (.int i :: .ref (ad 12) :: rest)) := by
  obtain ⟨hx, hb, hml, hown, hts, hK⟩ := X
  obtain ⟨hP, hD, hS⟩ := I
  subst hi
  have hcl := nI_clamp (n := k) (by omega)
  refine va_iald hx hb hK hP 12 1 rfl rfl (vp_in_nI hk (by decide)) d ?_
  rw [hcl, hv]
  exact kk
theorem ms_made (X : mX p s m args c cc nL D c1 c2) (I : mI D c1 c2 h ad A s.heap σ H locs) {i x : Int32} (k : Nat) (hi : i = nI k) (hk : k < 20) (d : decode cc pc = .ok (.iastore, 1)) (kk : ∀ (H1 : Heap) (locs1 : List Loc), mI D c1 c2 h ad A s.heap (su σ 12 k x) H1 locs1 → W p l e R s m args below meth c H1 locs1 cells slots Q (F0 m (pc + 1) ls rest)) : W p l e R s m args below meth c H locs cells slots Q (F0 m pc ls (.int x :: .int i :: .ref (ad 12) :: rest)) := by
  obtain ⟨hx, hb, hml, hown, hts, hK⟩ := X
  obtain ⟨hP, hD, hS⟩ := I
  subst hi
  have hcl := nI_clamp (n := k) (by omega)
  refine va_iast hx hb hK hP hD hS 12 1 rfl rfl (vp_in_nI hk (by decide)) d (fun H1 locs1 hP1 hD1 hS1 => ?_)
  rw [hcl] at hP1 hD1
  exact kk H1 locs1 ⟨hP1, hD1, hS1⟩
theorem mg_count (X : mX p s m args c cc nL D c1 c2) (I : mI D c1 c2 h ad A s.heap σ H locs) {v : Int32} (hv : σ 13 0 = v) (d : decode cc pc = .ok (.getfield 59, 3)) (kk : W p l e R s m args below meth c H locs cells slots Q (F0 m (pc + 3) ls (.int v :: rest))) : W p l e R s m args below meth c H locs cells slots Q (F0 m pc ls (.ref h :: rest)) := by
  obtain ⟨hx, hb, hml, hown, hts, hK⟩ := X
  obtain ⟨hP, hD, hS⟩ := I
  subst hv
  exact va_get (D := D) (ci := 1) (v := .int (σ 13 0)) (C := RX2) (T := TX2) (N := 14) hx hb hts in_X2 hown hK hP 0 rfl rfl 13 (by decide) (hts _ q200) (fun _ h9 => h9) rfl d kk
theorem mf_count (X : mX p s m args c cc nL D c1 c2) (I : mI D c1 c2 h ad A s.heap σ H locs) {v : Int32} (hv : σ 13 0 = v) (ha : ls[0]? = some (.val (.ref h))) (d1 : decode cc pc = .ok (.aload_n 0, 1)) (d2 : decode cc (pc + 1) = .ok (.getfield 59, 3)) (kk : W p l e R s m args below meth c H locs cells slots Q (F0 m (pc + 1 + 3) ls (.int v :: rest))) : W p l e R s m args below meth c H locs cells slots Q (F0 m pc ls rest) := by
  refine lv_aload_n X.1 X.2.1 d1 rfl ha ?_
  exact mg_count X I hv d2 kk
theorem mp_count (X : mX p s m args c cc nL D c1 c2) (I : mI D c1 c2 h ad A s.heap σ H locs) {v : Int32} (d : decode cc pc = .ok (.putfield 59, 3)) (kk : ∀ (H1 : Heap) (locs1 : List Loc), mI D c1 c2 h ad A s.heap (su σ 13 0 v) H1 locs1 → W p l e R s m args below meth c H1 locs1 cells slots Q (F0 m (pc + 3) ls rest)) : W p l e R s m args below meth c H locs cells slots Q (F0 m pc ls (.int v :: .ref h :: rest)) := by
  obtain ⟨hx, hb, hml, hown, hts, hK⟩ := X
  obtain ⟨hP, hD, hS⟩ := I
  exact va_put (D := D) (ci := 1) (v := .int v) (ty := .int) (C := RX2) (T := TX2) (N := 14) hx hb hts in_X2 tyX2 tyX2_ok nmX2 hown hK hP hD hS 0 rfl rfl 13 (by decide) (hts _ q200) (fun _ h9 => h9) rfl (by decide +kernel) rfl rfl (Nat.le_of_ble_eq_true rfl) d (fun H1 locs1 hP1 hD1 hS1 => kk H1 locs1 ⟨hP1, hD1, hS1⟩)
theorem m_iret (X : mX p s m args c cc nL D c1 c2) (I : mI D c1 c2 h ad A s.heap σ H locs) (hr : meth.sig.returnType = some .int) (hlocks : meth.locks = false) {post : Int32 → KS → Prop} {v : Int32} (hp : post v σ) (d : decode cc pc = .ok (.ireturn, 1)) : W p l e R s m args below meth c H locs cells slots (MQ below (va_Qi post (mB D c1 c2 h ad A) A) args s cells slots A) (F0 m pc ls [.int v]) :=
  W.iret X.1 X.2.1 hr (fun t ht hW => ⟨⟨v, σ, rfl, hp, by rw [ht]; exact I.1, va_K.moved hW.alike X.2.2.2.2.2, I.2.1⟩, I.2.2.F ht⟩) I.2.2.2.2 d hlocks
theorem m_zret (X : mX p s m args c cc nL D c1 c2) (I : mI D c1 c2 h ad A s.heap σ H locs) (hr : meth.sig.returnType = some .boolean) (hlocks : meth.locks = false) {post : Int32 → KS → Prop} {v : Int32} (hn : narrow .boolean (.int v) = .int v) (hp : post v σ) (d : decode cc pc = .ok (.ireturn, 1)) : W p l e R s m args below meth c H locs cells slots (MQ below (va_Qi post (mB D c1 c2 h ad A) A) args s cells slots A) (F0 m pc ls [.int v]) :=
  W.zret X.1 X.2.1 hr hn (fun t ht hW => ⟨⟨v, σ, rfl, hp, by rw [ht]; exact I.1, va_K.moved hW.alike X.2.2.2.2.2, I.2.1⟩, I.2.2.F ht⟩) I.2.2.2.2 d hlocks
theorem m_vret (X : mX p s m args c cc nL D c1 c2) (I : mI D c1 c2 h ad A s.heap σ H locs) (hr : meth.sig.returnType = none) (hlocks : meth.locks = false) {post : KS → Prop} (hp : post σ) (d : decode cc pc = .ok (.return_, 1)) : W p l e R s m args below meth c H locs cells slots (MQ below (va_Qv post (mB D c1 c2 h ad A) A) args s cells slots A) (F0 m pc ls []) :=
  W.vret X.1 X.2.1 hr (fun t ht hW => ⟨⟨σ, rfl, hp, by rw [ht]; exact I.1, va_K.moved hW.alike X.2.2.2.2.2, I.2.1⟩, I.2.2.F ht⟩) I.2.2.2.2 d hlocks
/-- a method's start -/
theorem mM_of {y : MethodName} {maxL : Nat} {ret : Option FieldType} {rm : Room} {As : List Value} {Qc : Array Value → State → Outcome → State → Prop} (hy : plainName y.cls = true) (hc : y.cls = RX2) (hlen : (lg_sl (.ref h :: As)).length ≤ maxL)
    (body : ∀ (p : Program) (e : Env) (s : State) (m : MethodId) (args : Array Value) (below : List Frame) (meth : Method) (c : Code) (ls : Array Slot), mX p s m args c cc maxL D c1 c2 → meth.sig.returnType = ret → meth.locks = false → mI D c1 c2 h ad A s.heap σ s.heap [] → lv_has ls maxL (lv_args 0 (.ref h :: As)) → W p l e rm s m args below meth c s.heap [] 0 0 (MQ below Qc args s 0 0 A) (F0 m 0 ls [])) :
    Met l y (ws_ y cc maxL ret) rm (mP D c1 c2 h ad A σ As) Qc 0 0 A := by
  refine Met.ofW (cc := cc) (maxL := maxL) (ret := ret) hy rfl ?_
  intro p e s m args below meth c s₁ B hml hv
  obtain ⟨rfl, hP, hK, hD⟩ := hv
  have hts := atoms_spec (ws := ws_ y cc maxL ret) B.pre
  have hts : ∀ w ∈ lw_all, w.before _ s = true := fun w h => hts w (List.mem_cons_of_mem _ h)
  have hown : s.vm.findClass RX2 = some m.cls := by
    rw [← hc]
    exact findClass_of_methodNamed B.named
  rw [lg_entry_eq]
  exact body p e s m _ below meth c _ ⟨B.exec, B.bytes, hml, hown, hts, hK⟩ B.returns B.notSynchronized ⟨hP, hD, va_S.rf⟩ (lv_entry _ hlen)
variable {y : MethodName} {cc' : ByteArray} {mL idx n : Nat} {ret : Option FieldType} {rm : Room} {As st0 : List Value}
theorem m_blind {As : List Value} : FrameBlind (mP D c1 c2 h ad A σ As) := fun a U g mk q => by
  obtain ⟨q0, qP, qK, qD⟩ := q
  exact ⟨q0, qP, va_K.moved (u := U) (U := U.calling g mk a) (Vm.Alike.refl U.vm) qK, qD⟩
theorem m_calli (X : mX p s m args c cc nL D c1 c2) (I : mI D c1 c2 h ad A s.heap σ H locs) {post : Int32 → KS → Prop} (hM : Met l y (ws_ y cc' mL ret) rm (mP D c1 c2 h ad A σ As) (va_Qi post (mB D c1 c2 h ad A) A) 0 0 A) (cw : CallW R s args RX2 RX2 idx y cc' mL ret (ws_ y cc' mL ret) rm 0 0 n) (hn : As.length = n) (hsz : ls.size = nL) (hst : st0 = As.reverse ++ .ref h :: rest) (hrm : (rest.map fun v => v.category).sum ≤ 8) (hf : cells ≤ R.cells ∧ slots ≤ R.slots) (d : decode cc pc = .ok (.invokevirtual idx, 3))
    (kk : ∀ (r : Int32) (σ' : KS) (H1 : Heap) (locs1 : List Loc), post r σ' → mI D c1 c2 h ad A s.heap σ' H1 locs1 → W p l e R s m args below meth c H1 locs1 cells slots Q (F0 m (pc + 3) ls (.int r :: rest))) : W p l e R s m args below meth c H locs cells slots Q (F0 m pc ls st0) := by
  obtain ⟨hP, hD, hS⟩ := I
  have hK := X.2.2.2.2.2
  refine va_calli (va_runV (As := As) (rest := rest) ⟨X.1, X.2.1, X.2.2.1, X.2.2.2.1, X.2.2.2.2.1⟩ hM cw ⟨m_blind, va_recv hK hP (ci := 1) (q0 := 0) rfl rfl, fun U hU hW => ⟨rfl, by rw [hU]; exact hP, va_K.moved hW.alike hK, hD⟩⟩ rfl hn hsz hst (lv_room hrm) d ⟨hf.1, hf.2⟩) hS (fun q _ h => h) (fun q h => h) (fun r u t H1 locs1 ht hvm hw hB hz1 hk1 hS1 => ?_)
  obtain ⟨hP1, hK1, hD1⟩ := hB
  rw [ht] at hP1
  exact kk r u H1 locs1 hw ⟨hP1, hD1, hS1⟩
theorem m_callv (X : mX p s m args c cc nL D c1 c2) (I : mI D c1 c2 h ad A s.heap σ H locs) {post : KS → Prop} (hM : Met l y (ws_ y cc' mL ret) rm (mP D c1 c2 h ad A σ As) (va_Qv post (mB D c1 c2 h ad A) A) 0 0 A) (cw : CallW R s args RX2 RX2 idx y cc' mL ret (ws_ y cc' mL ret) rm 0 0 n) (hn : As.length = n) (hsz : ls.size = nL) (hst : st0 = As.reverse ++ .ref h :: rest) (hrm : (rest.map fun v => v.category).sum ≤ 8) (hf : cells ≤ R.cells ∧ slots ≤ R.slots) (d : decode cc pc = .ok (.invokevirtual idx, 3))
    (kk : ∀ (σ' : KS) (H1 : Heap) (locs1 : List Loc), post σ' → mI D c1 c2 h ad A s.heap σ' H1 locs1 → W p l e R s m args below meth c H1 locs1 cells slots Q (F0 m (pc + 3) ls rest)) : W p l e R s m args below meth c H locs cells slots Q (F0 m pc ls st0) := by
  obtain ⟨hP, hD, hS⟩ := I
  have hK := X.2.2.2.2.2
  refine va_callv (va_runV (As := As) (rest := rest) ⟨X.1, X.2.1, X.2.2.1, X.2.2.2.1, X.2.2.2.2.1⟩ hM cw ⟨m_blind, va_recv hK hP (ci := 1) (q0 := 0) rfl rfl, fun U hU hW => ⟨rfl, by rw [hU]; exact hP, va_K.moved hW.alike hK, hD⟩⟩ rfl hn hsz hst (lv_room hrm) d ⟨hf.1, hf.2⟩) hS (fun q _ h => h) (fun q h => h) (fun u t H1 locs1 ht hvm hw hB hz1 hk1 hS1 => ?_)
  obtain ⟨hP1, hK1, hD1⟩ := hB
  rw [ht] at hP1
  exact kk u H1 locs1 hw ⟨hP1, hD1, hS1⟩
end mRows
theorem cwX1_isWritten {R rm : Room} {s : State} {args : Array Value} (hts : ∀ w ∈ lw_all, w.before args s = true) (hrc : rm.cells = 0) (hrs : rm.slots = 0) (hR : rm.frames + 1 ≤ R.frames ∧ 8 + (3 + 11) + rm.locals ≤ R.locals) : CallW R s args RX1 RX1 57 yX1_isWritten cX1_isWritten 3 (some .boolean) (ws_ yX1_isWritten cX1_isWritten 3 (some .boolean)) rm 0 0 1 := cwV 1 hts (lw_V q90 q92 qs0 q25 q93) rfl hrc hrs (by decide +kernel) hR
theorem cwX1_addProcess {R rm : Room} {s : State} {args : Array Value} (hts : ∀ w ∈ lw_all, w.before args s = true) (hrc : rm.cells = 0) (hrs : rm.slots = 0) (hR : rm.frames + 1 ≤ R.frames ∧ 8 + (7 + 11) + rm.locals ≤ R.locals) : CallW R s args RX1 RX1 61 yX1_addProcess cX1_addProcess 7 (some .int) (ws_ yX1_addProcess cX1_addProcess 7 (some .int)) rm 0 0 5 := cwV 5 hts (lw_V q94 q96 qs1 q25 q97) rfl hrc hrs (by decide +kernel) hR
theorem cwX1_isRead {R rm : Room} {s : State} {args : Array Value} (hts : ∀ w ∈ lw_all, w.before args s = true) (hrc : rm.cells = 0) (hrs : rm.slots = 0) (hR : rm.frames + 1 ≤ R.frames ∧ 8 + (3 + 11) + rm.locals ≤ R.locals) : CallW R s args RX1 RX1 65 yX1_isRead cX1_isRead 3 (some .boolean) (ws_ yX1_isRead cX1_isRead 3 (some .boolean)) rm 0 0 1 := cwV 1 hts (lw_V q102 q104 qs2 q25 q105) rfl hrc hrs (by decide +kernel) hR
theorem cwX1_runAll {R rm : Room} {s : State} {args : Array Value} (hts : ∀ w ∈ lw_all, w.before args s = true) (hrc : rm.cells = 0) (hrs : rm.slots = 0) (hR : rm.frames + 1 ≤ R.frames ∧ 8 + (3 + 11) + rm.locals ≤ R.locals) : CallW R s args RX1 RX1 72 yX1_runAll cX1_runAll 3 none (ws_ yX1_runAll cX1_runAll 3 none) rm 0 0 0 := cwV 0 hts (lw_V q114 q116 qs3 q25 q117) rfl hrc hrs (by decide +kernel) hR
theorem cwX1_step {R rm : Room} {s : State} {args : Array Value} (hts : ∀ w ∈ lw_all, w.before args s = true) (hrc : rm.cells = 0) (hrs : rm.slots = 0) (hR : rm.frames + 1 ≤ R.frames ∧ 8 + (6 + 11) + rm.locals ≤ R.locals) : CallW R s args RX1 RX1 82 yX1_step cX1_step 6 (some .boolean) (ws_ yX1_step cX1_step 6 (some .boolean)) rm 0 0 1 := cwV 1 hts (lw_V q118 q120 qs4 q25 q121) rfl hrc hrs (by decide +kernel) hR
theorem cwX1_isReady {R rm : Room} {s : State} {args : Array Value} (hts : ∀ w ∈ lw_all, w.before args s = true) (hrc : rm.cells = 0) (hrs : rm.slots = 0) (hR : rm.frames + 1 ≤ R.frames ∧ 8 + (3 + 11) + rm.locals ≤ R.locals) : CallW R s args RX1 RX1 89 yX1_isReady cX1_isReady 3 (some .boolean) (ws_ yX1_isReady cX1_isReady 3 (some .boolean)) rm 0 0 1 := cwV 1 hts (lw_V q122 q124 qs5 q25 q125) rfl hrc hrs (by decide +kernel) hR
theorem cwX1_isComplete {R rm : Room} {s : State} {args : Array Value} (hts : ∀ w ∈ lw_all, w.before args s = true) (hrc : rm.cells = 0) (hrs : rm.slots = 0) (hR : rm.frames + 1 ≤ R.frames ∧ 8 + (2 + 11) + rm.locals ≤ R.locals) : CallW R s args RX1 RX1 96 yX1_isComplete cX1_isComplete 2 (some .boolean) (ws_ yX1_isComplete cX1_isComplete 2 (some .boolean)) rm 0 0 1 := cwV 1 hts (lw_V q126 q128 qs6 q25 q129) rfl hrc hrs (by decide +kernel) hR
theorem cwX1_unread {R rm : Room} {s : State} {args : Array Value} (hts : ∀ w ∈ lw_all, w.before args s = true) (hrc : rm.cells = 0) (hrs : rm.slots = 0) (hR : rm.frames + 1 ≤ R.frames ∧ 8 + (2 + 11) + rm.locals ≤ R.locals) : CallW R s args RX1 RX1 75 yX1_unread cX1_unread 2 (some .int) (ws_ yX1_unread cX1_unread 2 (some .int)) rm 0 0 1 := cwV 1 hts (lw_V q130 q132 qs7 q25 q133) rfl hrc hrs (by decide +kernel) hR
theorem cwX1_hasRoom {R rm : Room} {s : State} {args : Array Value} (hts : ∀ w ∈ lw_all, w.before args s = true) (hrc : rm.cells = 0) (hrs : rm.slots = 0) (hR : rm.frames + 1 ≤ R.frames ∧ 8 + (2 + 11) + rm.locals ≤ R.locals) : CallW R s args RX1 RX1 99 yX1_hasRoom cX1_hasRoom 2 (some .boolean) (ws_ yX1_hasRoom cX1_hasRoom 2 (some .boolean)) rm 0 0 1 := cwV 1 hts (lw_V q134 q136 qs8 q25 q137) rfl hrc hrs (by decide +kernel) hR
theorem cwX1_put {R rm : Room} {s : State} {args : Array Value} (hts : ∀ w ∈ lw_all, w.before args s = true) (hrc : rm.cells = 0) (hrs : rm.slots = 0) (hR : rm.frames + 1 ≤ R.frames ∧ 8 + (3 + 11) + rm.locals ≤ R.locals) : CallW R s args RX1 RX1 102 yX1_put cX1_put 3 none (ws_ yX1_put cX1_put 3 none) rm 0 0 2 := cwV 2 hts (lw_V q138 q140 qs9 q25 q141) rfl hrc hrs (by decide +kernel) hR
theorem cwX1_take {R rm : Room} {s : State} {args : Array Value} (hts : ∀ w ∈ lw_all, w.before args s = true) (hrc : rm.cells = 0) (hrs : rm.slots = 0) (hR : rm.frames + 1 ≤ R.frames ∧ 8 + (3 + 11) + rm.locals ≤ R.locals) : CallW R s args RX1 RX1 106 yX1_take cX1_take 3 (some .int) (ws_ yX1_take cX1_take 3 (some .int)) rm 0 0 1 := cwV 1 hts (lw_V q142 q144 qs10 q25 q145) rfl hrc hrs (by decide +kernel) hR
theorem cwX1_peek {R rm : Room} {s : State} {args : Array Value} (hts : ∀ w ∈ lw_all, w.before args s = true) (hrc : rm.cells = 0) (hrs : rm.slots = 0) (hR : rm.frames + 1 ≤ R.frames ∧ 8 + (2 + 11) + rm.locals ≤ R.locals) : CallW R s args RX1 RX1 79 yX1_peek cX1_peek 2 (some .int) (ws_ yX1_peek cX1_peek 2 (some .int)) rm 0 0 1 := cwV 1 hts (lw_V q146 q148 qs11 q25 q149) rfl hrc hrs (by decide +kernel) hR
theorem cwX1_stepOne {R rm : Room} {s : State} {args : Array Value} (hts : ∀ w ∈ lw_all, w.before args s = true) (hrc : rm.cells = 0) (hrs : rm.slots = 0) (hR : rm.frames + 1 ≤ R.frames ∧ 8 + (5 + 11) + rm.locals ≤ R.locals) : CallW R s args RX1 RX1 109 yX1_stepOne cX1_stepOne 5 none (ws_ yX1_stepOne cX1_stepOne 5 none) rm 0 0 2 := cwV 2 hts (lw_V q150 q152 qs12 q25 q153) rfl hrc hrs (by decide +kernel) hR
theorem cwX1_growSmallest {R rm : Room} {s : State} {args : Array Value} (hts : ∀ w ∈ lw_all, w.before args s = true) (hrc : rm.cells = 0) (hrs : rm.slots = 0) (hR : rm.frames + 1 ≤ R.frames ∧ 8 + (3 + 11) + rm.locals ≤ R.locals) : CallW R s args RX1 RX1 85 yX1_growSmallest cX1_growSmallest 3 (some .boolean) (ws_ yX1_growSmallest cX1_growSmallest 3 (some .boolean)) rm 0 0 0 := cwV 0 hts (lw_V q154 q156 qs13 q25 q157) rfl hrc hrs (by decide +kernel) hR
theorem cwX1_smaller {R rm : Room} {s : State} {args : Array Value} (hts : ∀ w ∈ lw_all, w.before args s = true) (hrc : rm.cells = 0) (hrs : rm.slots = 0) (hR : rm.frames + 1 ≤ R.frames ∧ 8 + (3 + 11) + rm.locals ≤ R.locals) : CallW R s args RX1 RX1 92 yX1_smaller cX1_smaller 3 (some .int) (ws_ yX1_smaller cX1_smaller 3 (some .int)) rm 0 0 2 := cwV 2 hts (lw_V q158 q160 qs14 q25 q161) rfl hrc hrs (by decide +kernel) hR
theorem cwX2_addProcess {R rm : Room} {s : State} {args : Array Value} (hts : ∀ w ∈ lw_all, w.before args s = true) (hrc : rm.cells = 0) (hrs : rm.slots = 0) (hR : rm.frames + 1 ≤ R.frames ∧ 8 + (6 + 11) + rm.locals ≤ R.locals) : CallW R s args RX2 RX2 51 yX2_addProcess cX2_addProcess 6 (some .int) (ws_ yX2_addProcess cX2_addProcess 6 (some .int)) rm 0 0 5 := cwV 5 hts (lw_V q235 q237 qs15 q26 q238) rfl hrc hrs (by decide +kernel) hR
theorem cwX2_isTaken {R rm : Room} {s : State} {args : Array Value} (hts : ∀ w ∈ lw_all, w.before args s = true) (hrc : rm.cells = 0) (hrs : rm.slots = 0) (hR : rm.frames + 1 ≤ R.frames ∧ 8 + (8 + 11) + rm.locals ≤ R.locals) : CallW R s args RX2 RX2 55 yX2_isTaken cX2_isTaken 8 (some .boolean) (ws_ yX2_isTaken cX2_isTaken 8 (some .boolean)) rm 0 0 5 := cwV 5 hts (lw_V q243 q245 qs16 q26 q246) rfl hrc hrs (by decide +kernel) hR
theorem cwX2_isChannel {R rm : Room} {s : State} {args : Array Value} (hts : ∀ w ∈ lw_all, w.before args s = true) (hrc : rm.cells = 0) (hrs : rm.slots = 0) (hR : rm.frames + 1 ≤ R.frames ∧ 8 + (2 + 11) + rm.locals ≤ R.locals) : CallW R s args RX2 RX2 81 yX2_isChannel cX2_isChannel 2 (some .boolean) (ws_ yX2_isChannel cX2_isChannel 2 (some .boolean)) rm 0 0 1 := cwV 1 hts (lw_V q255 q257 qs17 q26 q258) rfl hrc hrs (by decide +kernel) hR
theorem cwX2_settle {R rm : Room} {s : State} {args : Array Value} (hts : ∀ w ∈ lw_all, w.before args s = true) (hrc : rm.cells = 0) (hrs : rm.slots = 0) (hR : rm.frames + 1 ≤ R.frames ∧ 8 + (4 + 11) + rm.locals ≤ R.locals) : CallW R s args RX2 RX2 84 yX2_settle cX2_settle 4 none (ws_ yX2_settle cX2_settle 4 none) rm 0 0 0 := cwV 0 hts (lw_V q259 q261 qs18 q26 q262) rfl hrc hrs (by decide +kernel) hR
theorem cwX2_work {R rm : Room} {s : State} {args : Array Value} (hts : ∀ w ∈ lw_all, w.before args s = true) (hrc : rm.cells = 0) (hrs : rm.slots = 0) (hR : rm.frames + 1 ≤ R.frames ∧ 8 + (8 + 11) + rm.locals ≤ R.locals) : CallW R s args RX2 RX2 74 yX2_work cX2_work 8 none (ws_ yX2_work cX2_work 8 none) rm 0 0 1 := cwV 1 hts (lw_V q263 q265 qs19 q26 q266) rfl hrc hrs (by decide +kernel) hR
theorem cwX2_write {R rm : Room} {s : State} {args : Array Value} (hts : ∀ w ∈ lw_all, w.before args s = true) (hrc : rm.cells = 0) (hrs : rm.slots = 0) (hR : rm.frames + 1 ≤ R.frames ∧ 8 + (2 + 11) + rm.locals ≤ R.locals) : CallW R s args RX2 RX2 66 yX2_write cX2_write 2 none (ws_ yX2_write cX2_write 2 none) rm 0 0 1 := cwV 1 hts (lw_V q267 q269 qs20 q26 q270) rfl hrc hrs (by decide +kernel) hR
theorem cwX2_join {R rm : Room} {s : State} {args : Array Value} (hts : ∀ w ∈ lw_all, w.before args s = true) (hrc : rm.cells = 0) (hrs : rm.slots = 0) (hR : rm.frames + 1 ≤ R.frames ∧ 8 + (8 + 11) + rm.locals ≤ R.locals) : CallW R s args RX2 RX2 70 yX2_join cX2_join 8 none (ws_ yX2_join cX2_join 8 none) rm 0 0 2 := cwV 2 hts (lw_V q271 q273 qs21 q26 q274) rfl hrc hrs (by decide +kernel) hR
theorem cwX2_get {R rm : Room} {s : State} {args : Array Value} (hts : ∀ w ∈ lw_all, w.before args s = true) (hrc : rm.cells = 0) (hrs : rm.slots = 0) (hR : rm.frames + 1 ≤ R.frames ∧ 8 + (3 + 11) + rm.locals ≤ R.locals) : CallW R s args RX2 RX2 62 yX2_get cX2_get 3 (some .int) (ws_ yX2_get cX2_get 3 (some .int)) rm 0 0 2 := cwV 2 hts (lw_V q275 q277 qs22 q26 q278) rfl hrc hrs (by decide +kernel) hR
theorem cwX2_store {R rm : Room} {s : State} {args : Array Value} (hts : ∀ w ∈ lw_all, w.before args s = true) (hrc : rm.cells = 0) (hrs : rm.slots = 0) (hR : rm.frames + 1 ≤ R.frames ∧ 8 + (4 + 11) + rm.locals ≤ R.locals) : CallW R s args RX2 RX2 77 yX2_store cX2_store 4 (some .boolean) (ws_ yX2_store cX2_store 4 (some .boolean)) rm 0 0 1 := cwV 1 hts (lw_V q279 q281 qs23 q26 q282) rfl hrc hrs (by decide +kernel) hR
end
section
/-! what the class's cells mean -/
def kNet (N : Net) (σ : KS) : Prop := nOk N ∧ σ 1 0 = nI N.1 ∧ (∃ fb : Nat, 1 ≤ fb ∧ fb ≤ 6 ∧ σ 0 0 = nI fb) ∧ ∀ i, i < N.1 → σ 2 i = nI (nk N i) ∧ σ 3 i = (if nk N i = 0 then -1 else nI (na N i)) ∧ σ 4 i = (if nTwo N i then nI (nb N i) else -1) ∧ σ 5 i = nI (nc N i) ∧ σ 6 i = (if nk N i = 1 then nI (nd N i) else -1) ∧ σ 7 i = nP N i ∧ (nk N i = 0 → σ 8 i = nQ N i ∧ σ 15 i = nI (nb N i))
/-- written, taken, room of the channels -/
def kRun (σ : KS) (w t rr : Nat → Nat) : Prop := ∀ x, x < 10 → σ 11 x = nI (w x) ∧ σ 12 x = nI (t x) ∧ σ 13 x = nI (rr x) ∧ t x ≤ w x ∧ w x ≤ 20 ∧ rr x ≤ 20
/-- phase and a source's rest -/
def kPro (N : Net) (σ : KS) (ph mm : Nat → Nat) : Prop := ∀ i, i < N.1 → (nk N i ≠ 0 → σ 15 i = nI (ph i) ∧ ph i ≤ 1) ∧ (nk N i = 0 → σ 14 i = nI (mm i) ∧ mm i ≤ nb N i)
def kRoom (N : Net) (w t rr : Nat → Nat) (x : Nat) : Prop := (∃ i, i < N.1 ∧ nRd N i x) → w x - t x < rr x
def kRdy (N : Net) (w t ph mm : Nat → Nat) (i : Nat) : Prop := w (nc N i) < 20 ∧ (nk N i = 0 → 0 < mm i) ∧ (nk N i ≠ 0 → (nk N i = 3 ∧ ph i = 0) ∨ (t (na N i) < w (na N i) ∧ (nTwo N i → t (nb N i) < w (nb N i))))
def kCand (N : Net) (w t rr : Nat → Nat) (co : Int32) : Prop := ∃ x, x < 10 ∧ co = nI x ∧ w x < 20 ∧ ¬ kRoom N w t rr x
def kCan (N : Net) (w t rr ph mm : Nat → Nat) (i : Nat) : Prop := kRdy N w t ph mm i ∧ kRoom N w t rr (nc N i) ∧ (nk N i = 1 → kRoom N w t rr (nd N i))
abbrev kPut (σ : KS) (y w : Nat) (v : Int32) : KS := su (su σ 10 (20 * y + w) v) 11 y (nI (w + 1))
abbrev kTk (σ : KS) (a t : Nat) : KS := su σ 12 a (nI (t + 1))
/-- what stepOne makes of the state -/
def kOneF (k0 i y0 z0 w0 ph0 : Nat) (P0 x : Int32) (σ : KS) : KS :=
  if k0 = 1 then kPut (kPut σ y0 w0 x) z0 w0 x else if k0 = 3 then kPut σ y0 w0 x else if k0 = 4 then (if x &&& P0 = 0 then kPut σ y0 w0 x else σ)
  else if k0 = 6 then kPut (su σ 14 i (σ 14 i + x)) y0 w0 (σ 14 i + x) else if ph0 = 0 then su (su σ 15 i (nI 1)) 14 i x else kPut (su σ 15 i (nI 0)) y0 w0 (σ 14 i - x)
/-- what a step of process i makes of the state -/
def kStF (N : Net) (w t ph mm : Nat → Nat) (i : Nat) (σ : KS) : KS :=
  if nk N i = 0 then kPut (su σ 14 i (nI (mm i - 1))) (nc N i) (w (nc N i)) (nP N i + nI (nb N i - mm i) * nQ N i)
  else if nk N i = 3 ∧ ph i = 0 then kPut (su σ 15 i (nI 1)) (nc N i) (w (nc N i)) (nP N i)
  else if nk N i = 2 then kPut (kTk (kTk σ (na N i) (t (na N i))) (nb N i) (t (nb N i))) (nc N i) (w (nc N i)) (σ 10 (20 * na N i + t (na N i)) + σ 10 (20 * nb N i + t (nb N i)))
  else if nk N i = 5 then (if σ 10 (20 * na N i + t (na N i)) ≤ σ 10 (20 * nb N i + t (nb N i)) then kPut (kTk σ (na N i) (t (na N i))) (nc N i) (w (nc N i)) (σ 10 (20 * na N i + t (na N i))) else kPut (kTk σ (nb N i) (t (nb N i))) (nc N i) (w (nc N i)) (σ 10 (20 * nb N i + t (nb N i))))
  else kOneF (nk N i) i (nc N i) (nd N i) (w (nc N i)) (ph i) (nP N i) (σ 10 (20 * na N i + t (na N i))) (kTk σ (na N i) (t (na N i)))
theorem nI_ne_m1 {n : Nat} (h : n < 2 ^ 31) : ¬ nI n = -1 := by
  intro e
  have := nI_pos h
  rw [e] at this
  exact this (by decide)
theorem m1_ne_nI {n : Nat} (h : n < 2 ^ 31) : ¬ (-1 : Int32) = nI n := fun e => nI_ne_m1 h e.symm
theorem kRd_iff {N : Net} {σ : KS} (hN : kNet N σ) {x : Nat} (hx : x < 10) : (0 ≤ nI x ∧ ∃ j, j < N.1 ∧ (σ 3 j = nI x ∨ σ 4 j = nI x)) ↔ ∃ i, i < N.1 ∧ nRd N i x := by
  obtain ⟨hOk, -, -, hp⟩ := hN
  constructor
  · rintro ⟨-, j, hj, hq⟩
    obtain ⟨f2, f3, f4, -⟩ := hp j hj
    obtain ⟨g1, g2, g3, g4, g5, g6, -⟩ := hOk.2.1 j hj
    refine ⟨j, hj, ?_⟩
    rcases hq with q | q
    · rw [f3] at q
      by_cases h0 : nk N j = 0
      · rw [if_pos h0] at q
        exact absurd q (m1_ne_nI (by omega))
      · rw [if_neg h0] at q
        exact ⟨h0, Or.inl ((nI_eq (by omega) (by omega)).mp q)⟩
    · rw [f4] at q
      by_cases h2 : nTwo N j
      · rw [if_pos h2] at q
        exact ⟨by rcases h2 with z | z <;> omega, Or.inr ⟨h2, (nI_eq (by omega) (by omega)).mp q⟩⟩
      · rw [if_neg h2] at q
        exact absurd q (m1_ne_nI (by omega))
  · rintro ⟨j, hj, h0, hq⟩
    obtain ⟨f2, f3, f4, -⟩ := hp j hj
    refine ⟨nI_pos' (by omega), j, hj, ?_⟩
    rcases hq with q | ⟨h2, q⟩
    · left
      rw [f3, if_neg h0, q]
    · right
      rw [f4, if_pos h2, q]
theorem kWr_iff {N : Net} {σ : KS} (hN : kNet N σ) {x : Nat} (hx : x < 10) : (0 ≤ nI x ∧ ∃ j, j < N.1 ∧ (σ 5 j = nI x ∨ σ 6 j = nI x)) ↔ ∃ i, i < N.1 ∧ nWr N i x := by
  obtain ⟨hOk, -, -, hp⟩ := hN
  constructor
  · rintro ⟨-, j, hj, hq⟩
    obtain ⟨f2, f3, f4, f5, f6, -⟩ := hp j hj
    obtain ⟨g1, g2, g3, g4, g5, g6, -⟩ := hOk.2.1 j hj
    refine ⟨j, hj, ?_⟩
    rcases hq with q | q
    · rw [f5] at q
      exact Or.inl ((nI_eq (by omega) (by omega)).mp q)
    · rw [f6] at q
      by_cases h2 : nk N j = 1
      · rw [if_pos h2] at q
        exact Or.inr ⟨h2, (nI_eq (by omega) (by omega)).mp q⟩
      · rw [if_neg h2] at q
        exact absurd q (m1_ne_nI (by omega))
  · rintro ⟨j, hj, hq⟩
    obtain ⟨f2, f3, f4, f5, f6, -⟩ := hp j hj
    refine ⟨nI_pos' (by omega), j, hj, ?_⟩
    rcases hq with q | ⟨h2, q⟩
    · left
      rw [f5, q]
    · right
      rw [f6, if_pos h2, q]
end
section
theorem vB_1 {P : Prop} (h : P) : vB (nI 1) P := Or.inl ⟨by decide, h⟩
theorem vB_0 {P : Prop} (h : ¬ P) : vB (nI 0) P := Or.inr ⟨by decide, h⟩

set_option maxHeartbeats 4000000 in
set_option maxRecDepth 100000 in
theorem metX1_unread (l : Launch) (D : va_G) (c1 c2 : ClassId) (h : Nat) (ad : Nat → Nat) (A : Nat → Prop) (σ : KS) (x0 w0 t0 : Nat) (h0 : x0 < 10) (hw : σ 11 x0 = nI w0) (ht : σ 12 x0 = nI t0) (hwt : t0 ≤ w0) :
    Met l yX1_unread (ws_ yX1_unread cX1_unread 2 (some .int)) ({ frames := 0, cells := 0, slots := 0, locals := 0 } : Room) (kP D c1 c2 h ad A σ [.int (nI x0)]) (va_Qi (fun (r : Int32) (σ' : KS) => σ' = σ ∧ r = nI (w0 - t0)) (kB D c1 c2 h ad A) A) 0 0 A := by
  refine kM_of (by decide) rfl (Nat.le_of_ble_eq_true rfl) ?_
  intro p e s m args below meth c ls X hr hlocks I hl
  have hl : lv_has ls 2 [(0, .ref h), (1, .int (nI x0))] := hl
  have hx := X.1
  have hb := X.2.1
  refine kf_written X I (lv_at hl 0 rfl) dX1_unread_0 dX1_unread_1 ?_
  refine lv_iload_n hx hb dX1_unread_4 rfl (lv_at hl 1 rfl) ?_
  refine kl_written X I x0 rfl (by omega) (v := nI w0) hw dX1_unread_5 ?_
  refine kf_taken X I (lv_at hl 0 rfl) dX1_unread_6 dX1_unread_7 ?_
  refine lv_iload_n hx hb dX1_unread_10 rfl (lv_at hl 1 rfl) ?_
  refine kl_taken X I x0 rfl (by omega) (v := nI t0) ht dX1_unread_11 ?_
  refine lv_isub hx hb dX1_unread_12 ?_
  refine kv_top (pk_sub hwt) ?_
  exact k_iret X I hr hlocks ⟨rfl, rfl⟩ dX1_unread_13

set_option maxHeartbeats 4000000 in
set_option maxRecDepth 100000 in
theorem metX1_isComplete (l : Launch) (D : va_G) (c1 c2 : ClassId) (h : Nat) (ad : Nat → Nat) (A : Nat → Prop) (σ : KS) (x0 w0 : Nat) (h0 : x0 < 10) (hw : σ 11 x0 = nI w0) (hwl : w0 ≤ 20) :
    Met l yX1_isComplete (ws_ yX1_isComplete cX1_isComplete 2 (some .boolean)) ({ frames := 0, cells := 0, slots := 0, locals := 0 } : Room) (kP D c1 c2 h ad A σ [.int (nI x0)]) (va_Qi (fun (r : Int32) (σ' : KS) => σ' = σ ∧ vB r (20 ≤ w0)) (kB D c1 c2 h ad A) A) 0 0 A := by
  refine kM_of (by decide) rfl (Nat.le_of_ble_eq_true rfl) ?_
  intro p e s m args below meth c ls X hr hlocks I hl
  have hl : lv_has ls 2 [(0, .ref h), (1, .int (nI x0))] := hl
  have hx := X.1
  have hb := X.2.1
  refine lv_iload_n hx hb dX1_isComplete_0 rfl (lv_at hl 1 rfl) ?_
  refine lv_if_lt (tgt := 15) hx hb dX1_isComplete_1 (by decide) (fun b1 => ?_) (fun b1 => ?_)
  · exact absurd b1 (nI_pos (by omega))
  · refine kf_written X I (lv_at hl 0 rfl) dX1_isComplete_4 dX1_isComplete_5 ?_
    refine lv_iload_n hx hb dX1_isComplete_8 rfl (lv_at hl 1 rfl) ?_
    refine kl_written X I x0 rfl (by omega) (v := nI w0) hw dX1_isComplete_9 ?_
    refine lv_bipush (v := nI 20) hx hb dX1_isComplete_10 (by decide) ?_
    refine lv_icmp_lt (tgt := 19) hx hb dX1_isComplete_12 (by decide) (fun b2 => ?_) (fun b2 => ?_)
    · have b2 : w0 < 20 := (nI_ltI (a := w0) (b := 20) (by omega) (by omega)).mp b2
      refine lv_iconst (v := nI 0) hx hb dX1_isComplete_19 (by decide) ?_
      exact k_zret X I hr hlocks rfl ⟨rfl, vB_0 (by omega)⟩ dX1_isComplete_20
    · have b2 : ¬ w0 < 20 := fun q => b2 ((nI_ltI (a := w0) (b := 20) (by omega) (by omega)).mpr q)
      refine lv_iconst (v := nI 1) hx hb dX1_isComplete_15 (by decide) ?_
      refine lv_goto (tgt := 20) hx hb dX1_isComplete_16 (by decide) ?_
      exact k_zret X I hr hlocks rfl ⟨rfl, vB_1 (by omega)⟩ dX1_isComplete_20

set_option maxHeartbeats 4000000 in
set_option maxRecDepth 100000 in
theorem metX1_peek (l : Launch) (D : va_G) (c1 c2 : ClassId) (h : Nat) (ad : Nat → Nat) (A : Nat → Prop) (σ : KS) (x0 t0 : Nat) (h0 : x0 < 10) (ht : σ 12 x0 = nI t0) (htl : t0 < 20) :
    Met l yX1_peek (ws_ yX1_peek cX1_peek 2 (some .int)) ({ frames := 0, cells := 0, slots := 0, locals := 0 } : Room) (kP D c1 c2 h ad A σ [.int (nI x0)]) (va_Qi (fun (r : Int32) (σ' : KS) => σ' = σ ∧ r = σ 10 (20 * x0 + t0)) (kB D c1 c2 h ad A) A) 0 0 A := by
  refine kM_of (by decide) rfl (Nat.le_of_ble_eq_true rfl) ?_
  intro p e s m args below meth c ls X hr hlocks I hl
  have hl : lv_has ls 2 [(0, .ref h), (1, .int (nI x0))] := hl
  have hx := X.1
  have hb := X.2.1
  refine kf_stream X I (lv_at hl 0 rfl) dX1_peek_0 dX1_peek_1 ?_
  refine lv_bipush (v := nI 20) hx hb dX1_peek_4 (by decide) ?_
  refine lv_iload_n hx hb dX1_peek_6 rfl (lv_at hl 1 rfl) ?_
  refine lv_imul hx hb dX1_peek_7 ?_
  refine kv_top (pk_mul _ _) ?_
  refine kf_taken X I (lv_at hl 0 rfl) dX1_peek_8 dX1_peek_9 ?_
  refine lv_iload_n hx hb dX1_peek_12 rfl (lv_at hl 1 rfl) ?_
  refine kl_taken X I x0 rfl (by omega) (v := nI t0) ht dX1_peek_13 ?_
  refine lv_iadd hx hb dX1_peek_14 ?_
  refine kv_top (nI_add _ _) ?_
  refine kl_stream X I ((20 * x0) + t0) rfl (by omega) (v := σ 10 ((20 * x0) + t0)) rfl dX1_peek_15 ?_
  exact k_iret X I hr hlocks ⟨rfl, rfl⟩ dX1_peek_16

set_option maxHeartbeats 4000000 in
set_option maxRecDepth 100000 in
theorem metX1_take (l : Launch) (D : va_G) (c1 c2 : ClassId) (h : Nat) (ad : Nat → Nat) (A : Nat → Prop) (σ : KS) (x0 t0 : Nat) (h0 : x0 < 10) (ht : σ 12 x0 = nI t0) (htl : t0 < 20) :
    Met l yX1_take (ws_ yX1_take cX1_take 3 (some .int)) ({ frames := 1, cells := 0, slots := 0, locals := 21 } : Room) (kP D c1 c2 h ad A σ [.int (nI x0)]) (va_Qi (fun (r : Int32) (σ' : KS) => σ' = su σ 12 x0 (nI (t0 + 1)) ∧ r = σ 10 (20 * x0 + t0)) (kB D c1 c2 h ad A) A) 0 0 A := by
  refine kM_of (by decide) rfl (Nat.le_of_ble_eq_true rfl) ?_
  intro p e s m args below meth c ls X hr hlocks I hl
  have hl : lv_has ls 3 [(0, .ref h), (1, .int (nI x0))] := hl
  have hx := X.1
  have hb := X.2.1
  refine lv_aload_n hx hb dX1_take_0 rfl (lv_at hl 0 rfl) ?_
  refine lv_iload_n hx hb dX1_take_1 rfl (lv_at hl 1 rfl) ?_
  refine k_calli X I (rest := []) (metX1_peek l D c1 c2 h ad A σ x0 t0 h0 ht htl) (cwX1_peek X.2.2.2.2.1 rfl rfl ⟨Nat.le_of_ble_eq_true rfl, Nat.le_of_ble_eq_true rfl⟩) rfl hl.1 rfl (Nat.le_of_ble_eq_true rfl) ⟨Nat.zero_le _, Nat.zero_le _⟩ dX1_take_2 (fun r1 σ1 H locs hw I => ?_)
  obtain ⟨hs, hw⟩ := hw
  rw [hs] at I
  refine lv_istore_n (lv' := [(2, .int r1), (0, .ref h), (1, .int (nI x0))]) hx hb dX1_take_5 rfl hl (by decide) rfl (fun ls hl => ?_)
  refine kf_taken X I (lv_at hl 1 rfl) dX1_take_6 dX1_take_7 ?_
  refine lv_iload_n hx hb dX1_take_10 rfl (lv_at hl 2 rfl) ?_
  refine lv_dup2_11 hx hb dX1_take_11 rfl rfl ?_
  refine kl_taken X I x0 rfl (by omega) (v := nI t0) ht dX1_take_12 ?_
  refine lv_iconst (v := nI 1) hx hb dX1_take_13 (by decide) ?_
  refine lv_iadd hx hb dX1_take_14 ?_
  refine kv_top (nI_add _ _) ?_
  refine lv_i2b (v := nI (t0 + 1)) hx hb dX1_take_15 (b8_nI _ (by omega)) ?_
  refine ks_taken X I x0 rfl (by omega) (n8_nI _ (by omega)) dX1_take_16 (fun H locs I => ?_)
  refine lv_iload_n hx hb dX1_take_17 rfl (lv_at hl 0 rfl) ?_
  exact k_iret X I hr hlocks ⟨rfl, hw⟩ dX1_take_18

set_option maxHeartbeats 4000000 in
set_option maxRecDepth 100000 in
theorem metX1_put (l : Launch) (D : va_G) (c1 c2 : ClassId) (h : Nat) (ad : Nat → Nat) (A : Nat → Prop) (σ : KS) (x0 w0 : Nat) (v0 : Int32) (h0 : x0 < 10) (hw : σ 11 x0 = nI w0) (hwl : w0 < 20) :
    Met l yX1_put (ws_ yX1_put cX1_put 3 none) ({ frames := 0, cells := 0, slots := 0, locals := 0 } : Room) (kP D c1 c2 h ad A σ [.int (nI x0), .int v0]) (va_Qv (fun (σ' : KS) => σ' = su (su σ 10 (20 * x0 + w0) v0) 11 x0 (nI (w0 + 1))) (kB D c1 c2 h ad A) A) 0 0 A := by
  refine kM_of (by decide) rfl (Nat.le_of_ble_eq_true rfl) ?_
  intro p e s m args below meth c ls X hr hlocks I hl
  have hl : lv_has ls 3 [(0, .ref h), (1, .int (nI x0)), (2, .int v0)] := hl
  have hx := X.1
  have hb := X.2.1
  refine kf_stream X I (lv_at hl 0 rfl) dX1_put_0 dX1_put_1 ?_
  refine lv_bipush (v := nI 20) hx hb dX1_put_4 (by decide) ?_
  refine lv_iload_n hx hb dX1_put_6 rfl (lv_at hl 1 rfl) ?_
  refine lv_imul hx hb dX1_put_7 ?_
  refine kv_top (pk_mul _ _) ?_
  refine kf_written X I (lv_at hl 0 rfl) dX1_put_8 dX1_put_9 ?_
  refine lv_iload_n hx hb dX1_put_12 rfl (lv_at hl 1 rfl) ?_
  refine kl_written X I x0 rfl (by omega) (v := nI w0) hw dX1_put_13 ?_
  refine lv_iadd hx hb dX1_put_14 ?_
  refine kv_top (nI_add _ _) ?_
  refine lv_iload_n hx hb dX1_put_15 rfl (lv_at hl 2 rfl) ?_
  refine ks_stream X I ((20 * x0) + w0) rfl (by omega) dX1_put_16 (fun H locs I => ?_)
  refine kf_written X I (lv_at hl 0 rfl) dX1_put_17 dX1_put_18 ?_
  refine lv_iload_n hx hb dX1_put_21 rfl (lv_at hl 1 rfl) ?_
  refine lv_dup2_11 hx hb dX1_put_22 rfl rfl ?_
  refine kl_written X I x0 rfl (by omega) (v := nI w0) hw dX1_put_23 ?_
  refine lv_iconst (v := nI 1) hx hb dX1_put_24 (by decide) ?_
  refine lv_iadd hx hb dX1_put_25 ?_
  refine kv_top (nI_add _ _) ?_
  refine lv_i2b (v := nI (w0 + 1)) hx hb dX1_put_26 (b8_nI _ (by omega)) ?_
  refine ks_written X I x0 rfl (by omega) (n8_nI _ (by omega)) dX1_put_27 (fun H locs I => ?_)
  exact k_vret X I hr hlocks rfl dX1_put_28

set_option maxHeartbeats 4000000 in
set_option maxRecDepth 100000 in
theorem metX1_isRead (l : Launch) (D : va_G) (c1 c2 : ClassId) (h : Nat) (ad : Nat → Nat) (A : Nat → Prop) (σ : KS) (x0 : Int32) (n0 : Nat) (hn : σ 1 0 = nI n0) (hn8 : n0 ≤ 8) :
    Met l yX1_isRead (ws_ yX1_isRead cX1_isRead 3 (some .boolean)) ({ frames := 0, cells := 0, slots := 0, locals := 0 } : Room) (kP D c1 c2 h ad A σ [.int x0]) (va_Qi (fun (r : Int32) (σ' : KS) => σ' = σ ∧ vB r (0 ≤ x0 ∧ ∃ j, j < n0 ∧ (σ 3 j = x0 ∨ σ 4 j = x0))) (kB D c1 c2 h ad A) A) 0 0 A := by
  refine kM_of (by decide) rfl (Nat.le_of_ble_eq_true rfl) ?_
  intro p e s m args below meth c ls X hr hlocks I hl
  have hl : lv_has ls 3 [(0, .ref h), (1, .int x0)] := hl
  have hx := X.1
  have hb := X.2.1
  have loop : 0 ≤ x0 → ∀ (f i : Nat), n0 - i < f → i ≤ n0 → (∀ j, j < i → ¬ (σ 3 j = x0 ∨ σ 4 j = x0)) → ∀ ls : Array Slot, lv_has ls 3 [(2, .int (nI i)), (0, .ref h), (1, .int x0)] → W p l e ({ frames := 0, cells := 0, slots := 0, locals := 0 } : Room) s m args below meth c s.heap [] 0 0 (MQ below (va_Qi (fun (r : Int32) (σ' : KS) => σ' = σ ∧ vB r (0 ≤ x0 ∧ ∃ j, j < n0 ∧ (σ 3 j = x0 ∨ σ 4 j = x0))) (kB D c1 c2 h ad A) A) args s 0 0 A) (F0 m 8 ls []) := by
    intro h0 f
    induction f with
    | zero =>
      intro i h1
      exact absurd h1 (by omega)
    | succ f ih =>
      intro i hf hi hno ls hl
      refine lv_iload_n hx hb dX1_isRead_8 rfl (lv_at hl 0 rfl) ?_
      refine kf_processCount X I (v := nI n0) hn (lv_at hl 1 rfl) dX1_isRead_9 dX1_isRead_10 ?_
      refine lv_icmp_ge (tgt := 44) hx hb dX1_isRead_13 (by decide) (fun b2 => ?_) (fun b2 => ?_)
      · have b2 : n0 ≤ i := (nI_leI (a := n0) (b := i) (by omega) (by omega)).mp b2
        refine lv_iconst (v := nI 0) hx hb dX1_isRead_44 (by decide) ?_
        exact k_zret X I hr hlocks rfl ⟨rfl, vB_0 (fun ⟨_, j, hj, hq⟩ => hno j (by omega) hq)⟩ dX1_isRead_45
      · have b2 : ¬ n0 ≤ i := fun q => b2 ((nI_leI (a := n0) (b := i) (by omega) (by omega)).mpr q)
        refine kf_readsA X I (lv_at hl 1 rfl) dX1_isRead_16 dX1_isRead_17 ?_
        refine lv_iload_n hx hb dX1_isRead_20 rfl (lv_at hl 0 rfl) ?_
        refine kl_readsA X I i rfl (by omega) (v := σ 3 i) rfl dX1_isRead_21 ?_
        refine lv_iload_n hx hb dX1_isRead_22 rfl (lv_at hl 2 rfl) ?_
        refine lv_icmp_eq (tgt := 36) hx hb dX1_isRead_23 (by decide) (fun b3 => ?_) (fun b3 => ?_)
        · refine lv_iconst (v := nI 1) hx hb dX1_isRead_36 (by decide) ?_
          exact k_zret X I hr hlocks rfl ⟨rfl, vB_1 ⟨h0, i, by omega, Or.inl b3⟩⟩ dX1_isRead_37
        · refine kf_readsB X I (lv_at hl 1 rfl) dX1_isRead_26 dX1_isRead_27 ?_
          refine lv_iload_n hx hb dX1_isRead_30 rfl (lv_at hl 0 rfl) ?_
          refine kl_readsB X I i rfl (by omega) (v := σ 4 i) rfl dX1_isRead_31 ?_
          refine lv_iload_n hx hb dX1_isRead_32 rfl (lv_at hl 2 rfl) ?_
          refine lv_icmp_ne (tgt := 38) hx hb dX1_isRead_33 (by decide) (fun b4 => ?_) (fun b4 => ?_)
          · refine lv_iinc (v := nI (i + 1)) (lv' := [(2, .int (nI (i + 1))), (0, .ref h), (1, .int x0)]) hx hb dX1_isRead_38 hl (k := 0) rfl (nI_1 i) (by decide) rfl (fun ls hl => ?_)
            refine lv_goto (tgt := 8) hx hb dX1_isRead_41 (by decide) ?_
            exact ih (i + 1) (by omega) (by omega) (fun j hj => by
              rcases Nat.lt_succ_iff_lt_or_eq.mp hj with q | q
              · exact hno j q
              · subst q
                exact fun z => z.elim b3 b4) ls hl
          · refine lv_iconst (v := nI 1) hx hb dX1_isRead_36 (by decide) ?_
            exact k_zret X I hr hlocks rfl ⟨rfl, vB_1 ⟨h0, i, by omega, Or.inr b4⟩⟩ dX1_isRead_37
  refine lv_iload_n hx hb dX1_isRead_0 rfl (lv_at hl 1 rfl) ?_
  refine lv_if_ge (tgt := 6) hx hb dX1_isRead_1 (by decide) (fun b1 => ?_) (fun b1 => ?_)
  · refine lv_iconst (v := nI 0) hx hb dX1_isRead_6 (by decide) ?_
    refine lv_istore_n (lv' := [(2, .int (nI 0)), (0, .ref h), (1, .int x0)]) hx hb dX1_isRead_7 rfl hl (by decide) rfl (fun ls hl => ?_)
    exact loop b1 (n0 + 1) 0 (by omega) (by omega) (fun j hj => absurd hj (by omega)) ls hl
  · refine lv_iconst (v := nI 0) hx hb dX1_isRead_4 (by decide) ?_
    exact k_zret X I hr hlocks rfl ⟨rfl, vB_0 (fun q => b1 q.1)⟩ dX1_isRead_5

set_option maxHeartbeats 4000000 in
set_option maxRecDepth 100000 in
theorem metX1_isWritten (l : Launch) (D : va_G) (c1 c2 : ClassId) (h : Nat) (ad : Nat → Nat) (A : Nat → Prop) (σ : KS) (x0 : Int32) (n0 : Nat) (hn : σ 1 0 = nI n0) (hn8 : n0 ≤ 8) :
    Met l yX1_isWritten (ws_ yX1_isWritten cX1_isWritten 3 (some .boolean)) ({ frames := 0, cells := 0, slots := 0, locals := 0 } : Room) (kP D c1 c2 h ad A σ [.int x0]) (va_Qi (fun (r : Int32) (σ' : KS) => σ' = σ ∧ vB r (0 ≤ x0 ∧ ∃ j, j < n0 ∧ (σ 5 j = x0 ∨ σ 6 j = x0))) (kB D c1 c2 h ad A) A) 0 0 A := by
  refine kM_of (by decide) rfl (Nat.le_of_ble_eq_true rfl) ?_
  intro p e s m args below meth c ls X hr hlocks I hl
  have hl : lv_has ls 3 [(0, .ref h), (1, .int x0)] := hl
  have hx := X.1
  have hb := X.2.1
  have loop : 0 ≤ x0 → ∀ (f i : Nat), n0 - i < f → i ≤ n0 → (∀ j, j < i → ¬ (σ 5 j = x0 ∨ σ 6 j = x0)) → ∀ ls : Array Slot, lv_has ls 3 [(2, .int (nI i)), (0, .ref h), (1, .int x0)] → W p l e ({ frames := 0, cells := 0, slots := 0, locals := 0 } : Room) s m args below meth c s.heap [] 0 0 (MQ below (va_Qi (fun (r : Int32) (σ' : KS) => σ' = σ ∧ vB r (0 ≤ x0 ∧ ∃ j, j < n0 ∧ (σ 5 j = x0 ∨ σ 6 j = x0))) (kB D c1 c2 h ad A) A) args s 0 0 A) (F0 m 8 ls []) := by
    intro h0 f
    induction f with
    | zero =>
      intro i h1
      exact absurd h1 (by omega)
    | succ f ih =>
      intro i hf hi hno ls hl
      refine lv_iload_n hx hb dX1_isWritten_8 rfl (lv_at hl 0 rfl) ?_
      refine kf_processCount X I (v := nI n0) hn (lv_at hl 1 rfl) dX1_isWritten_9 dX1_isWritten_10 ?_
      refine lv_icmp_ge (tgt := 44) hx hb dX1_isWritten_13 (by decide) (fun b2 => ?_) (fun b2 => ?_)
      · have b2 : n0 ≤ i := (nI_leI (a := n0) (b := i) (by omega) (by omega)).mp b2
        refine lv_iconst (v := nI 0) hx hb dX1_isWritten_44 (by decide) ?_
        exact k_zret X I hr hlocks rfl ⟨rfl, vB_0 (fun ⟨_, j, hj, hq⟩ => hno j (by omega) hq)⟩ dX1_isWritten_45
      · have b2 : ¬ n0 ≤ i := fun q => b2 ((nI_leI (a := n0) (b := i) (by omega) (by omega)).mpr q)
        refine kf_writesC X I (lv_at hl 1 rfl) dX1_isWritten_16 dX1_isWritten_17 ?_
        refine lv_iload_n hx hb dX1_isWritten_20 rfl (lv_at hl 0 rfl) ?_
        refine kl_writesC X I i rfl (by omega) (v := σ 5 i) rfl dX1_isWritten_21 ?_
        refine lv_iload_n hx hb dX1_isWritten_22 rfl (lv_at hl 2 rfl) ?_
        refine lv_icmp_eq (tgt := 36) hx hb dX1_isWritten_23 (by decide) (fun b3 => ?_) (fun b3 => ?_)
        · refine lv_iconst (v := nI 1) hx hb dX1_isWritten_36 (by decide) ?_
          exact k_zret X I hr hlocks rfl ⟨rfl, vB_1 ⟨h0, i, by omega, Or.inl b3⟩⟩ dX1_isWritten_37
        · refine kf_writesD X I (lv_at hl 1 rfl) dX1_isWritten_26 dX1_isWritten_27 ?_
          refine lv_iload_n hx hb dX1_isWritten_30 rfl (lv_at hl 0 rfl) ?_
          refine kl_writesD X I i rfl (by omega) (v := σ 6 i) rfl dX1_isWritten_31 ?_
          refine lv_iload_n hx hb dX1_isWritten_32 rfl (lv_at hl 2 rfl) ?_
          refine lv_icmp_ne (tgt := 38) hx hb dX1_isWritten_33 (by decide) (fun b4 => ?_) (fun b4 => ?_)
          · refine lv_iinc (v := nI (i + 1)) (lv' := [(2, .int (nI (i + 1))), (0, .ref h), (1, .int x0)]) hx hb dX1_isWritten_38 hl (k := 0) rfl (nI_1 i) (by decide) rfl (fun ls hl => ?_)
            refine lv_goto (tgt := 8) hx hb dX1_isWritten_41 (by decide) ?_
            exact ih (i + 1) (by omega) (by omega) (fun j hj => by
              rcases Nat.lt_succ_iff_lt_or_eq.mp hj with q | q
              · exact hno j q
              · subst q
                exact fun z => z.elim b3 b4) ls hl
          · refine lv_iconst (v := nI 1) hx hb dX1_isWritten_36 (by decide) ?_
            exact k_zret X I hr hlocks rfl ⟨rfl, vB_1 ⟨h0, i, by omega, Or.inr b4⟩⟩ dX1_isWritten_37
  refine lv_iload_n hx hb dX1_isWritten_0 rfl (lv_at hl 1 rfl) ?_
  refine lv_if_ge (tgt := 6) hx hb dX1_isWritten_1 (by decide) (fun b1 => ?_) (fun b1 => ?_)
  · refine lv_iconst (v := nI 0) hx hb dX1_isWritten_6 (by decide) ?_
    refine lv_istore_n (lv' := [(2, .int (nI 0)), (0, .ref h), (1, .int x0)]) hx hb dX1_isWritten_7 rfl hl (by decide) rfl (fun ls hl => ?_)
    exact loop b1 (n0 + 1) 0 (by omega) (by omega) (fun j hj => absurd hj (by omega)) ls hl
  · refine lv_iconst (v := nI 0) hx hb dX1_isWritten_4 (by decide) ?_
    exact k_zret X I hr hlocks rfl ⟨rfl, vB_0 (fun q => b1 q.1)⟩ dX1_isWritten_5
end
section
set_option maxHeartbeats 4000000 in
set_option maxRecDepth 100000 in
theorem metX1_hasRoom (l : Launch) (D : va_G) (c1 c2 : ClassId) (h : Nat) (ad : Nat → Nat) (A : Nat → Prop) (σ : KS) (N : Net) (w t rr : Nat → Nat) (hN : kNet N σ) (hR : kRun σ w t rr) (x0 : Nat) (h0 : x0 < 10) :
    Met l yX1_hasRoom (ws_ yX1_hasRoom cX1_hasRoom 2 (some .boolean)) ({ frames := 1, cells := 0, slots := 0, locals := 22 } : Room) (kP D c1 c2 h ad A σ [.int (nI x0)]) (va_Qi (fun (r : Int32) (σ' : KS) => σ' = σ ∧ vB r (kRoom N w t rr x0)) (kB D c1 c2 h ad A) A) 0 0 A := by
  refine kM_of (by decide) rfl (Nat.le_of_ble_eq_true rfl) ?_
  intro p e s m args below meth c ls X hr hlocks I hl
  have hl : lv_has ls 2 [(0, .ref h), (1, .int (nI x0))] := hl
  have hx := X.1
  have hb := X.2.1
  obtain ⟨z1, z2, z3, z4, z5, z6⟩ := hR x0 h0
  refine lv_aload_n hx hb dX1_hasRoom_0 rfl (lv_at hl 0 rfl) ?_
  refine lv_iload_n hx hb dX1_hasRoom_1 rfl (lv_at hl 1 rfl) ?_
  refine k_calli X I (rest := []) (metX1_isRead l D c1 c2 h ad A σ (nI x0) N.1 hN.2.1 hN.1.1) (cwX1_isRead X.2.2.2.2.1 rfl rfl ⟨Nat.le_of_ble_eq_true rfl, Nat.le_of_ble_eq_true rfl⟩) rfl hl.1 rfl (Nat.le_of_ble_eq_true rfl) ⟨Nat.zero_le _, Nat.zero_le _⟩ dX1_hasRoom_2 (fun r1 σ1 H locs hw I => ?_)
  obtain ⟨hs, hw⟩ := hw
  rw [hs] at I
  refine lv_if_eq (tgt := 22) hx hb dX1_hasRoom_5 (by decide) (fun b1 => ?_) (fun b1 => ?_)
  · refine lv_iconst (v := nI 1) hx hb dX1_hasRoom_22 (by decide) ?_
    refine lv_goto (tgt := 27) hx hb dX1_hasRoom_23 (by decide) ?_
    exact k_zret X I hr hlocks rfl ⟨rfl, vB_1 (fun q => absurd ((kRd_iff hN h0).mpr q) (vB_eq0 hw b1))⟩ dX1_hasRoom_27
  · have hq := (kRd_iff hN h0).mp (vB_ne0 hw b1)
    refine lv_aload_n hx hb dX1_hasRoom_8 rfl (lv_at hl 0 rfl) ?_
    refine lv_iload_n hx hb dX1_hasRoom_9 rfl (lv_at hl 1 rfl) ?_
    refine k_calli X I (rest := []) (metX1_unread l D c1 c2 h ad A σ x0 (w x0) (t x0) h0 z1 z2 z4) (cwX1_unread X.2.2.2.2.1 rfl rfl ⟨Nat.le_of_ble_eq_true rfl, Nat.le_of_ble_eq_true rfl⟩) rfl hl.1 rfl (Nat.le_of_ble_eq_true rfl) ⟨Nat.zero_le _, Nat.zero_le _⟩ dX1_hasRoom_10 (fun r2 σ1 H locs hv I => ?_)
    obtain ⟨hs, hv⟩ := hv
    rw [hs] at I
    subst hv
    refine kf_room X I (lv_at hl 0 rfl) dX1_hasRoom_13 dX1_hasRoom_14 ?_
    refine lv_iload_n hx hb dX1_hasRoom_17 rfl (lv_at hl 1 rfl) ?_
    refine kl_room X I x0 rfl (by omega) (v := nI (rr x0)) z3 dX1_hasRoom_18 ?_
    refine lv_icmp_ge (tgt := 26) hx hb dX1_hasRoom_19 (by decide) (fun b2 => ?_) (fun b2 => ?_)
    · have b2 : (rr x0) ≤ (w x0 - t x0) := (nI_leI (a := (rr x0)) (b := (w x0 - t x0)) (by omega) (by omega)).mp b2
      refine lv_iconst (v := nI 0) hx hb dX1_hasRoom_26 (by decide) ?_
      exact k_zret X I hr hlocks rfl ⟨rfl, vB_0 (fun q => b2 |> fun z => absurd (q hq) (by omega))⟩ dX1_hasRoom_27
    · have b2 : ¬ (rr x0) ≤ (w x0 - t x0) := fun q => b2 ((nI_leI (a := (rr x0)) (b := (w x0 - t x0)) (by omega) (by omega)).mpr q)
      refine lv_iconst (v := nI 1) hx hb dX1_hasRoom_22 (by decide) ?_
      refine lv_goto (tgt := 27) hx hb dX1_hasRoom_23 (by decide) ?_
      exact k_zret X I hr hlocks rfl ⟨rfl, vB_1 (fun _ => by omega)⟩ dX1_hasRoom_27

set_option maxHeartbeats 4000000 in
set_option maxRecDepth 100000 in
theorem metX1_isReady (l : Launch) (D : va_G) (c1 c2 : ClassId) (h : Nat) (ad : Nat → Nat) (A : Nat → Prop) (σ : KS) (N : Net) (w t rr ph mm : Nat → Nat) (hN : kNet N σ) (hR : kRun σ w t rr) (hPr : kPro N σ ph mm) (i : Nat) (hi : i < N.1) :
    Met l yX1_isReady (ws_ yX1_isReady cX1_isReady 3 (some .boolean)) ({ frames := 1, cells := 0, slots := 0, locals := 21 } : Room) (kP D c1 c2 h ad A σ [.int (nI i)]) (va_Qi (fun (r : Int32) (σ' : KS) => σ' = σ ∧ vB r (kRdy N w t ph mm i)) (kB D c1 c2 h ad A) A) 0 0 A := by
  refine kM_of (by decide) rfl (Nat.le_of_ble_eq_true rfl) ?_
  intro p e s m args below meth c ls X hr hlocks I hl
  have hl : lv_has ls 3 [(0, .ref h), (1, .int (nI i))] := hl
  have hx := X.1
  have hb := X.2.1
  obtain ⟨hOk, hn, -, hp⟩ := id hN
  obtain ⟨f2, f3, f4, f5, f6, f7, f8⟩ := hp i hi
  obtain ⟨g1, g2, g3, g4, g5, g6, g7, g8⟩ := hOk.2.1 i hi
  have hn8 := hOk.1
  obtain ⟨z1, z2, z3, z4, z5, z6⟩ := hR (nc N i) g3
  obtain ⟨a1, a2, a3, a4, a5, a6⟩ := hR (na N i) g2
  refine kf_kinds X I (lv_at hl 0 rfl) dX1_isReady_0 dX1_isReady_1 ?_
  refine lv_iload_n hx hb dX1_isReady_4 rfl (lv_at hl 1 rfl) ?_
  refine kl_kinds X I i rfl (by omega) (v := nI (nk N i)) f2 dX1_isReady_5 ?_
  refine lv_istore_n (lv' := [(2, .int (nI (nk N i))), (0, .ref h), (1, .int (nI i))]) hx hb dX1_isReady_6 rfl hl (by decide) rfl (fun ls hl => ?_)
  refine lv_aload_n hx hb dX1_isReady_7 rfl (lv_at hl 1 rfl) ?_
  refine kf_writesC X I (lv_at hl 1 rfl) dX1_isReady_8 dX1_isReady_9 ?_
  refine lv_iload_n hx hb dX1_isReady_12 rfl (lv_at hl 2 rfl) ?_
  refine kl_writesC X I i rfl (by omega) (v := nI (nc N i)) f5 dX1_isReady_13 ?_
  refine k_calli X I (rest := []) (metX1_isComplete l D c1 c2 h ad A σ (nc N i) (w (nc N i)) g3 z1 z5) (cwX1_isComplete X.2.2.2.2.1 rfl rfl ⟨Nat.le_of_ble_eq_true rfl, Nat.le_of_ble_eq_true rfl⟩) rfl hl.1 rfl (Nat.le_of_ble_eq_true rfl) ⟨Nat.zero_le _, Nat.zero_le _⟩ dX1_isReady_14 (fun r1 σ1 H locs hw I => ?_)
  obtain ⟨hs, hw⟩ := hw
  rw [hs] at I
  refine lv_if_eq (tgt := 22) hx hb dX1_isReady_17 (by decide) (fun b1 => ?_) (fun b1 => ?_)
  · have hw := vB_eq0 hw b1
    refine lv_iload_n hx hb dX1_isReady_22 rfl (lv_at hl 0 rfl) ?_
    refine lv_if_ne (tgt := 41) hx hb dX1_isReady_23 (by decide) (fun b2 => ?_) (fun b2 => ?_)
    · have b2 : ¬ (nk N i) = 0 := fun q => b2 ((nI_eq (a := (nk N i)) (b := 0) (by omega) (by omega)).mpr q)
      obtain ⟨y1, y2⟩ := (hPr i hi).1 b2
      rw [if_neg b2] at f3
      refine lv_iload_n hx hb dX1_isReady_41 rfl (lv_at hl 0 rfl) ?_
      refine lv_iconst (v := nI 3) hx hb dX1_isReady_42 (by decide) ?_
      refine lv_icmp_ne (tgt := 57) hx hb dX1_isReady_43 (by decide) (fun b3 => ?_) (fun b3 => ?_)
      · have b3 : ¬ (nk N i) = 3 := fun q => b3 ((nI_eq (a := (nk N i)) (b := 3) (by omega) (by omega)).mpr q)
        refine lv_aload_n hx hb dX1_isReady_57 rfl (lv_at hl 1 rfl) ?_
        refine kf_readsA X I (lv_at hl 1 rfl) dX1_isReady_58 dX1_isReady_59 ?_
        refine lv_iload_n hx hb dX1_isReady_62 rfl (lv_at hl 2 rfl) ?_
        refine kl_readsA X I i rfl (by omega) (v := nI (na N i)) f3 dX1_isReady_63 ?_
        refine k_calli X I (rest := []) (metX1_unread l D c1 c2 h ad A σ (na N i) (w (na N i)) (t (na N i)) g2 a1 a2 a4) (cwX1_unread X.2.2.2.2.1 rfl rfl ⟨Nat.le_of_ble_eq_true rfl, Nat.le_of_ble_eq_true rfl⟩) rfl hl.1 rfl (Nat.le_of_ble_eq_true rfl) ⟨Nat.zero_le _, Nat.zero_le _⟩ dX1_isReady_64 (fun r2 σ1 H locs hv I => ?_)
        obtain ⟨hs, hv⟩ := hv
        rw [hs] at I
        subst hv
        refine lv_if_ne (tgt := 72) hx hb dX1_isReady_67 (by decide) (fun b5 => ?_) (fun b5 => ?_)
        · have b5 : ¬ (w (na N i) - t (na N i)) = 0 := fun q => b5 ((nI_eq (a := (w (na N i) - t (na N i))) (b := 0) (by omega) (by omega)).mpr q)
          by_cases h2 : nTwo N i
          · rw [if_pos h2] at f4
            obtain ⟨e1, e2, e3, e4, e5, e6⟩ := hR (nb N i) (g6 b2)
            have g6 := g6 b2
            refine kf_readsB X I (lv_at hl 1 rfl) dX1_isReady_72 dX1_isReady_73 ?_
            refine lv_iload_n hx hb dX1_isReady_76 rfl (lv_at hl 2 rfl) ?_
            refine kl_readsB X I i rfl (by omega) (v := nI (nb N i)) f4 dX1_isReady_77 ?_
            refine lv_if_lt (tgt := 94) hx hb dX1_isReady_78 (by decide) (fun b6 => ?_) (fun b6 => ?_)
            · exact absurd b6 (nI_pos (by omega))
            · refine lv_aload_n hx hb dX1_isReady_81 rfl (lv_at hl 1 rfl) ?_
              refine kf_readsB X I (lv_at hl 1 rfl) dX1_isReady_82 dX1_isReady_83 ?_
              refine lv_iload_n hx hb dX1_isReady_86 rfl (lv_at hl 2 rfl) ?_
              refine kl_readsB X I i rfl (by omega) (v := nI (nb N i)) f4 dX1_isReady_87 ?_
              refine k_calli X I (rest := []) (metX1_unread l D c1 c2 h ad A σ (nb N i) (w (nb N i)) (t (nb N i)) g6 e1 e2 e4) (cwX1_unread X.2.2.2.2.1 rfl rfl ⟨Nat.le_of_ble_eq_true rfl, Nat.le_of_ble_eq_true rfl⟩) rfl hl.1 rfl (Nat.le_of_ble_eq_true rfl) ⟨Nat.zero_le _, Nat.zero_le _⟩ dX1_isReady_88 (fun r3 σ1 H locs hv I => ?_)
              obtain ⟨hs, hv⟩ := hv
              rw [hs] at I
              subst hv
              refine lv_if_le (tgt := 98) hx hb dX1_isReady_91 (by decide) (fun b7 => ?_) (fun b7 => ?_)
              · have b7 : (w (nb N i) - t (nb N i)) ≤ 0 := (nI_leI (a := (w (nb N i) - t (nb N i))) (b := 0) (by omega) (by omega)).mp b7
                refine lv_iconst (v := nI 0) hx hb dX1_isReady_98 (by decide) ?_
                exact k_zret X I hr hlocks rfl ⟨rfl, vB_0 (fun q => by
                    rcases q.2.2 b2 with z | z
                    · exact (fun z => b3 z.1) z
                    · have := z.2 h2
                      omega)⟩ dX1_isReady_99
              · have b7 : ¬ (w (nb N i) - t (nb N i)) ≤ 0 := fun q => b7 ((nI_leI (a := (w (nb N i) - t (nb N i))) (b := 0) (by omega) (by omega)).mpr q)
                refine lv_iconst (v := nI 1) hx hb dX1_isReady_94 (by decide) ?_
                refine lv_goto (tgt := 99) hx hb dX1_isReady_95 (by decide) ?_
                exact k_zret X I hr hlocks rfl ⟨rfl, vB_1 ⟨by omega, fun q => absurd q b2, fun _ => Or.inr ⟨by omega, fun _ => by omega⟩⟩⟩ dX1_isReady_99
          · rw [if_neg h2] at f4
            refine kf_readsB X I (lv_at hl 1 rfl) dX1_isReady_72 dX1_isReady_73 ?_
            refine lv_iload_n hx hb dX1_isReady_76 rfl (lv_at hl 2 rfl) ?_
            refine kl_readsB X I i rfl (by omega) (v := -1) f4 dX1_isReady_77 ?_
            refine lv_if_lt (tgt := 94) hx hb dX1_isReady_78 (by decide) (fun b6 => ?_) (fun b6 => ?_)
            · refine lv_iconst (v := nI 1) hx hb dX1_isReady_94 (by decide) ?_
              refine lv_goto (tgt := 99) hx hb dX1_isReady_95 (by decide) ?_
              exact k_zret X I hr hlocks rfl ⟨rfl, vB_1 ⟨by omega, fun q => absurd q b2, fun _ => Or.inr ⟨by omega, fun q => absurd q h2⟩⟩⟩ dX1_isReady_99
            · exact absurd (by decide) b6
        · have b5 : (w (na N i) - t (na N i)) = 0 := (nI_eq (a := (w (na N i) - t (na N i))) (b := 0) (by omega) (by omega)).mp b5
          refine lv_iconst (v := nI 0) hx hb dX1_isReady_70 (by decide) ?_
          exact k_zret X I hr hlocks rfl ⟨rfl, vB_0 (fun q => by
              rcases q.2.2 b2 with z | z
              · exact (fun z => b3 z.1) z
              · omega)⟩ dX1_isReady_71
      · have b3 : (nk N i) = 3 := (nI_eq (a := (nk N i)) (b := 3) (by omega) (by omega)).mp b3
        refine kf_phase X I (lv_at hl 1 rfl) dX1_isReady_46 dX1_isReady_47 ?_
        refine lv_iload_n hx hb dX1_isReady_50 rfl (lv_at hl 2 rfl) ?_
        refine kl_phase X I i rfl (by omega) (v := nI (ph i)) y1 dX1_isReady_51 ?_
        refine lv_if_ne (tgt := 57) hx hb dX1_isReady_52 (by decide) (fun b4 => ?_) (fun b4 => ?_)
        · have b4 : ¬ (ph i) = 0 := fun q => b4 ((nI_eq (a := (ph i)) (b := 0) (by omega) (by omega)).mpr q)
          refine lv_aload_n hx hb dX1_isReady_57 rfl (lv_at hl 1 rfl) ?_
          refine kf_readsA X I (lv_at hl 1 rfl) dX1_isReady_58 dX1_isReady_59 ?_
          refine lv_iload_n hx hb dX1_isReady_62 rfl (lv_at hl 2 rfl) ?_
          refine kl_readsA X I i rfl (by omega) (v := nI (na N i)) f3 dX1_isReady_63 ?_
          refine k_calli X I (rest := []) (metX1_unread l D c1 c2 h ad A σ (na N i) (w (na N i)) (t (na N i)) g2 a1 a2 a4) (cwX1_unread X.2.2.2.2.1 rfl rfl ⟨Nat.le_of_ble_eq_true rfl, Nat.le_of_ble_eq_true rfl⟩) rfl hl.1 rfl (Nat.le_of_ble_eq_true rfl) ⟨Nat.zero_le _, Nat.zero_le _⟩ dX1_isReady_64 (fun r2 σ1 H locs hv I => ?_)
          obtain ⟨hs, hv⟩ := hv
          rw [hs] at I
          subst hv
          refine lv_if_ne (tgt := 72) hx hb dX1_isReady_67 (by decide) (fun b5 => ?_) (fun b5 => ?_)
          · have b5 : ¬ (w (na N i) - t (na N i)) = 0 := fun q => b5 ((nI_eq (a := (w (na N i) - t (na N i))) (b := 0) (by omega) (by omega)).mpr q)
            by_cases h2 : nTwo N i
            · rw [if_pos h2] at f4
              obtain ⟨e1, e2, e3, e4, e5, e6⟩ := hR (nb N i) (g6 b2)
              have g6 := g6 b2
              refine kf_readsB X I (lv_at hl 1 rfl) dX1_isReady_72 dX1_isReady_73 ?_
              refine lv_iload_n hx hb dX1_isReady_76 rfl (lv_at hl 2 rfl) ?_
              refine kl_readsB X I i rfl (by omega) (v := nI (nb N i)) f4 dX1_isReady_77 ?_
              refine lv_if_lt (tgt := 94) hx hb dX1_isReady_78 (by decide) (fun b6 => ?_) (fun b6 => ?_)
              · exact absurd b6 (nI_pos (by omega))
              · refine lv_aload_n hx hb dX1_isReady_81 rfl (lv_at hl 1 rfl) ?_
                refine kf_readsB X I (lv_at hl 1 rfl) dX1_isReady_82 dX1_isReady_83 ?_
                refine lv_iload_n hx hb dX1_isReady_86 rfl (lv_at hl 2 rfl) ?_
                refine kl_readsB X I i rfl (by omega) (v := nI (nb N i)) f4 dX1_isReady_87 ?_
                refine k_calli X I (rest := []) (metX1_unread l D c1 c2 h ad A σ (nb N i) (w (nb N i)) (t (nb N i)) g6 e1 e2 e4) (cwX1_unread X.2.2.2.2.1 rfl rfl ⟨Nat.le_of_ble_eq_true rfl, Nat.le_of_ble_eq_true rfl⟩) rfl hl.1 rfl (Nat.le_of_ble_eq_true rfl) ⟨Nat.zero_le _, Nat.zero_le _⟩ dX1_isReady_88 (fun r3 σ1 H locs hv I => ?_)
                obtain ⟨hs, hv⟩ := hv
                rw [hs] at I
                subst hv
                refine lv_if_le (tgt := 98) hx hb dX1_isReady_91 (by decide) (fun b7 => ?_) (fun b7 => ?_)
                · have b7 : (w (nb N i) - t (nb N i)) ≤ 0 := (nI_leI (a := (w (nb N i) - t (nb N i))) (b := 0) (by omega) (by omega)).mp b7
                  refine lv_iconst (v := nI 0) hx hb dX1_isReady_98 (by decide) ?_
                  exact k_zret X I hr hlocks rfl ⟨rfl, vB_0 (fun q => by
                      rcases q.2.2 b2 with z | z
                      · exact (fun z => b4 z.2) z
                      · have := z.2 h2
                        omega)⟩ dX1_isReady_99
                · have b7 : ¬ (w (nb N i) - t (nb N i)) ≤ 0 := fun q => b7 ((nI_leI (a := (w (nb N i) - t (nb N i))) (b := 0) (by omega) (by omega)).mpr q)
                  refine lv_iconst (v := nI 1) hx hb dX1_isReady_94 (by decide) ?_
                  refine lv_goto (tgt := 99) hx hb dX1_isReady_95 (by decide) ?_
                  exact k_zret X I hr hlocks rfl ⟨rfl, vB_1 ⟨by omega, fun q => absurd q b2, fun _ => Or.inr ⟨by omega, fun _ => by omega⟩⟩⟩ dX1_isReady_99
            · rw [if_neg h2] at f4
              refine kf_readsB X I (lv_at hl 1 rfl) dX1_isReady_72 dX1_isReady_73 ?_
              refine lv_iload_n hx hb dX1_isReady_76 rfl (lv_at hl 2 rfl) ?_
              refine kl_readsB X I i rfl (by omega) (v := -1) f4 dX1_isReady_77 ?_
              refine lv_if_lt (tgt := 94) hx hb dX1_isReady_78 (by decide) (fun b6 => ?_) (fun b6 => ?_)
              · refine lv_iconst (v := nI 1) hx hb dX1_isReady_94 (by decide) ?_
                refine lv_goto (tgt := 99) hx hb dX1_isReady_95 (by decide) ?_
                exact k_zret X I hr hlocks rfl ⟨rfl, vB_1 ⟨by omega, fun q => absurd q b2, fun _ => Or.inr ⟨by omega, fun q => absurd q h2⟩⟩⟩ dX1_isReady_99
              · exact absurd (by decide) b6
          · have b5 : (w (na N i) - t (na N i)) = 0 := (nI_eq (a := (w (na N i) - t (na N i))) (b := 0) (by omega) (by omega)).mp b5
            refine lv_iconst (v := nI 0) hx hb dX1_isReady_70 (by decide) ?_
            exact k_zret X I hr hlocks rfl ⟨rfl, vB_0 (fun q => by
                rcases q.2.2 b2 with z | z
                · exact (fun z => b4 z.2) z
                · omega)⟩ dX1_isReady_71
        · have b4 : (ph i) = 0 := (nI_eq (a := (ph i)) (b := 0) (by omega) (by omega)).mp b4
          refine lv_iconst (v := nI 1) hx hb dX1_isReady_55 (by decide) ?_
          exact k_zret X I hr hlocks rfl ⟨rfl, vB_1 ⟨by omega, fun q => absurd q b2, fun _ => Or.inl ⟨b3, b4⟩⟩⟩ dX1_isReady_56
    · have b2 : (nk N i) = 0 := (nI_eq (a := (nk N i)) (b := 0) (by omega) (by omega)).mp b2
      obtain ⟨y1, y2⟩ := (hPr i hi).2 b2
      refine kf_memory X I (lv_at hl 1 rfl) dX1_isReady_26 dX1_isReady_27 ?_
      refine lv_iload_n hx hb dX1_isReady_30 rfl (lv_at hl 2 rfl) ?_
      refine kl_memory X I i rfl (by omega) (v := nI (mm i)) y1 dX1_isReady_31 ?_
      refine lv_if_le (tgt := 39) hx hb dX1_isReady_32 (by decide) (fun b3 => ?_) (fun b3 => ?_)
      · have b3 : (mm i) ≤ 0 := (nI_leI (a := (mm i)) (b := 0) (by omega) (by omega)).mp b3
        refine lv_iconst (v := nI 0) hx hb dX1_isReady_39 (by decide) ?_
        exact k_zret X I hr hlocks rfl ⟨rfl, vB_0 (fun q => by have := q.2.1 b2; omega)⟩ dX1_isReady_40
      · have b3 : ¬ (mm i) ≤ 0 := fun q => b3 ((nI_leI (a := (mm i)) (b := 0) (by omega) (by omega)).mpr q)
        refine lv_iconst (v := nI 1) hx hb dX1_isReady_35 (by decide) ?_
        refine lv_goto (tgt := 40) hx hb dX1_isReady_36 (by decide) ?_
        exact k_zret X I hr hlocks rfl ⟨rfl, vB_1 ⟨by omega, fun _ => by omega, fun q => absurd b2 q⟩⟩ dX1_isReady_40
  · refine lv_iconst (v := nI 0) hx hb dX1_isReady_20 (by decide) ?_
    exact k_zret X I hr hlocks rfl ⟨rfl, vB_0 (fun q => by have := vB_ne0 hw b1; have := q.1; omega)⟩ dX1_isReady_21

set_option maxHeartbeats 4000000 in
set_option maxRecDepth 100000 in
theorem metX1_smaller (l : Launch) (D : va_G) (c1 c2 : ClassId) (h : Nat) (ad : Nat → Nat) (A : Nat → Prop) (σ : KS) (N : Net) (w t rr : Nat → Nat) (hN : kNet N σ) (hR : kRun σ w t rr) (bo co : Int32) (hbo : bo = -1 ∨ ∃ b, b < 10 ∧ bo = nI b) (hco : co = -1 ∨ ∃ x, x < 10 ∧ co = nI x) :
    Met l yX1_smaller (ws_ yX1_smaller cX1_smaller 3 (some .int)) ({ frames := 2, cells := 0, slots := 0, locals := 43 } : Room) (kP D c1 c2 h ad A σ [.int bo, .int co]) (va_Qi (fun (r : Int32) (σ' : KS) => σ' = σ ∧ ((r = bo ∧ (bo = -1 → ¬ kCand N w t rr co)) ∨ (r = co ∧ kCand N w t rr co))) (kB D c1 c2 h ad A) A) 0 0 A := by
  refine kM_of (by decide) rfl (Nat.le_of_ble_eq_true rfl) ?_
  intro p e s m args below meth c ls X hr hlocks I hl
  have hl : lv_has ls 3 [(0, .ref h), (1, .int bo), (2, .int co)] := hl
  have hx := X.1
  have hb := X.2.1
  rcases hco with hco | ⟨x0, h0, hco⟩
  · refine lv_iload_n hx hb dX1_smaller_0 rfl (lv_at hl 2 rfl) ?_
    refine lv_if_lt (tgt := 20) hx hb dX1_smaller_1 (by decide) (fun b1 => ?_) (fun b1 => ?_)
    · refine lv_iload_n hx hb dX1_smaller_20 rfl (lv_at hl 1 rfl) ?_
      exact k_iret X I hr hlocks ⟨rfl, Or.inl ⟨rfl, fun _ ⟨x, q1, q2, _⟩ => m1_ne_nI (by omega) (hco.symm.trans q2)⟩⟩ dX1_smaller_21
    · exact absurd (by rw [hco]; decide) b1
  · subst hco
    obtain ⟨z1, z2, z3, z4, z5, z6⟩ := hR x0 h0
    have hl : lv_has ls 3 [(0, .ref h), (1, .int bo), (2, .int (nI x0))] := hl
    refine lv_iload_n hx hb dX1_smaller_0 rfl (lv_at hl 2 rfl) ?_
    refine lv_if_lt (tgt := 20) hx hb dX1_smaller_1 (by decide) (fun b1 => ?_) (fun b1 => ?_)
    · exact absurd b1 (nI_pos (by omega))
    · refine lv_aload_n hx hb dX1_smaller_4 rfl (lv_at hl 0 rfl) ?_
      refine lv_iload_n hx hb dX1_smaller_5 rfl (lv_at hl 2 rfl) ?_
      refine k_calli X I (rest := []) (metX1_isComplete l D c1 c2 h ad A σ x0 (w x0) h0 z1 z5) (cwX1_isComplete X.2.2.2.2.1 rfl rfl ⟨Nat.le_of_ble_eq_true rfl, Nat.le_of_ble_eq_true rfl⟩) rfl hl.1 rfl (Nat.le_of_ble_eq_true rfl) ⟨Nat.zero_le _, Nat.zero_le _⟩ dX1_smaller_6 (fun r1 σ1 H locs hw I => ?_)
      obtain ⟨hs, hw⟩ := hw
      rw [hs] at I
      refine lv_if_ne (tgt := 20) hx hb dX1_smaller_9 (by decide) (fun b2 => ?_) (fun b2 => ?_)
      · refine lv_iload_n hx hb dX1_smaller_20 rfl (lv_at hl 1 rfl) ?_
        exact k_iret X I hr hlocks ⟨rfl, Or.inl ⟨rfl, fun _ ⟨x, q1, q2, q3, _⟩ => by
            have := (nI_eq (by omega) (by omega)).mp q2
            subst this
            have := vB_ne0 hw b2
            omega⟩⟩ dX1_smaller_21
      · have hw := vB_eq0 hw b2
        refine lv_aload_n hx hb dX1_smaller_12 rfl (lv_at hl 0 rfl) ?_
        refine lv_iload_n hx hb dX1_smaller_13 rfl (lv_at hl 2 rfl) ?_
        refine k_calli X I (rest := []) (metX1_hasRoom l D c1 c2 h ad A σ N w t rr hN hR x0 h0) (cwX1_hasRoom X.2.2.2.2.1 rfl rfl ⟨Nat.le_of_ble_eq_true rfl, Nat.le_of_ble_eq_true rfl⟩) rfl hl.1 rfl (Nat.le_of_ble_eq_true rfl) ⟨Nat.zero_le _, Nat.zero_le _⟩ dX1_smaller_14 (fun r2 σ1 H locs hv I => ?_)
        obtain ⟨hs, hv⟩ := hv
        rw [hs] at I
        refine lv_if_eq (tgt := 22) hx hb dX1_smaller_17 (by decide) (fun b3 => ?_) (fun b3 => ?_)
        · have hcand : kCand N w t rr (nI x0) := ⟨x0, h0, rfl, by omega, vB_eq0 hv b3⟩
          rcases hbo with hbo | ⟨y0, hy0, hbo⟩
          · refine lv_iload_n hx hb dX1_smaller_22 rfl (lv_at hl 1 rfl) ?_
            refine lv_if_lt (tgt := 41) hx hb dX1_smaller_23 (by decide) (fun b4 => ?_) (fun b4 => ?_)
            · refine lv_iload_n hx hb dX1_smaller_41 rfl (lv_at hl 2 rfl) ?_
              refine lv_goto (tgt := 46) hx hb dX1_smaller_42 (by decide) ?_
              exact k_iret X I hr hlocks ⟨rfl, Or.inr ⟨rfl, hcand⟩⟩ dX1_smaller_46
            · exact absurd (by rw [hbo]; decide) b4
          · subst hbo
            obtain ⟨e1, e2, e3, e4, e5, e6⟩ := hR y0 hy0
            have hl : lv_has ls 3 [(0, .ref h), (1, .int (nI y0)), (2, .int (nI x0))] := hl
            refine lv_iload_n hx hb dX1_smaller_22 rfl (lv_at hl 1 rfl) ?_
            refine lv_if_lt (tgt := 41) hx hb dX1_smaller_23 (by decide) (fun b4 => ?_) (fun b4 => ?_)
            · exact absurd b4 (nI_pos (by omega))
            · refine kf_room X I (lv_at hl 0 rfl) dX1_smaller_26 dX1_smaller_27 ?_
              refine lv_iload_n hx hb dX1_smaller_30 rfl (lv_at hl 2 rfl) ?_
              refine kl_room X I x0 rfl (by omega) (v := nI (rr x0)) z3 dX1_smaller_31 ?_
              refine kf_room X I (lv_at hl 0 rfl) dX1_smaller_32 dX1_smaller_33 ?_
              refine lv_iload_n hx hb dX1_smaller_36 rfl (lv_at hl 1 rfl) ?_
              refine kl_room X I y0 rfl (by omega) (v := nI (rr y0)) e3 dX1_smaller_37 ?_
              refine lv_icmp_ge (tgt := 45) hx hb dX1_smaller_38 (by decide) (fun b5 => ?_) (fun b5 => ?_)
              · have b5 : (rr y0) ≤ (rr x0) := (nI_leI (a := (rr y0)) (b := (rr x0)) (by omega) (by omega)).mp b5
                refine lv_iload_n hx hb dX1_smaller_45 rfl (lv_at hl 1 rfl) ?_
                exact k_iret X I hr hlocks ⟨rfl, Or.inl ⟨rfl, fun z => absurd z (nI_ne_m1 (by omega))⟩⟩ dX1_smaller_46
              · have b5 : ¬ (rr y0) ≤ (rr x0) := fun q => b5 ((nI_leI (a := (rr y0)) (b := (rr x0)) (by omega) (by omega)).mpr q)
                refine lv_iload_n hx hb dX1_smaller_41 rfl (lv_at hl 2 rfl) ?_
                refine lv_goto (tgt := 46) hx hb dX1_smaller_42 (by decide) ?_
                exact k_iret X I hr hlocks ⟨rfl, Or.inr ⟨rfl, hcand⟩⟩ dX1_smaller_46
        · refine lv_iload_n hx hb dX1_smaller_20 rfl (lv_at hl 1 rfl) ?_
          exact k_iret X I hr hlocks ⟨rfl, Or.inl ⟨rfl, fun _ ⟨x, q1, q2, q3, q4⟩ => by
              have := (nI_eq (by omega) (by omega)).mp q2
              subst this
              exact q4 (vB_ne0 hv b3)⟩⟩ dX1_smaller_21

set_option maxHeartbeats 4000000 in
set_option maxRecDepth 100000 in
theorem metX1_growSmallest (l : Launch) (D : va_G) (c1 c2 : ClassId) (h : Nat) (ad : Nat → Nat) (A : Nat → Prop) (σ : KS) (N : Net) (w t rr ph mm : Nat → Nat) (hN : kNet N σ) (hR : kRun σ w t rr) (hPr : kPro N σ ph mm) :
    Met l yX1_growSmallest (ws_ yX1_growSmallest cX1_growSmallest 3 (some .boolean)) ({ frames := 3, cells := 0, slots := 0, locals := 65 } : Room) (kP D c1 c2 h ad A σ []) (va_Qi (fun (r : Int32) (σ' : KS) => (r = 0 ∧ σ' = σ ∧ ∀ j, j < N.1 → kRdy N w t ph mm j → ¬ kCand N w t rr (nI (nc N j)) ∧ (nk N j = 1 → ¬ kCand N w t rr (nI (nd N j)))) ∨ (r = 1 ∧ ∃ x, x < 10 ∧ rr x < 20 ∧ σ' = su σ 13 x (nI (rr x + 1)))) (kB D c1 c2 h ad A) A) 0 0 A := by
  refine kM_of (by decide) rfl (Nat.le_of_ble_eq_true rfl) ?_
  intro p e s m args below meth c ls X hr hlocks I hl
  have hl : lv_has ls 3 [(0, .ref h)] := hl
  have hx := X.1
  have hb := X.2.1
  have hn8 := hN.1.1
  have loop : ∀ (f i : Nat) (bo : Int32), N.1 - i < f → i ≤ N.1 → (bo = -1 ∨ kCand N w t rr bo) → (bo = -1 → ∀ j, j < i → kRdy N w t ph mm j → ¬ kCand N w t rr (nI (nc N j)) ∧ (nk N j = 1 → ¬ kCand N w t rr (nI (nd N j)))) → ∀ (H : Heap) (locs : List Loc), kI D c1 c2 h ad A s.heap σ H locs → ∀ ls : Array Slot, lv_has ls 3 [(2, .int (nI i)), (1, .int bo), (0, .ref h)] → W p l e ({ frames := 3, cells := 0, slots := 0, locals := 65 } : Room) s m args below meth c H locs 0 0 (MQ below (va_Qi (fun (r : Int32) (σ' : KS) => (r = 0 ∧ σ' = σ ∧ ∀ j, j < N.1 → kRdy N w t ph mm j → ¬ kCand N w t rr (nI (nc N j)) ∧ (nk N j = 1 → ¬ kCand N w t rr (nI (nd N j)))) ∨ (r = 1 ∧ ∃ x, x < 10 ∧ rr x < 20 ∧ σ' = su σ 13 x (nI (rr x + 1)))) (kB D c1 c2 h ad A) A) args s 0 0 A) (F0 m 4 ls []) := by
    intro f
    induction f with
    | zero =>
      intro i bo h1
      exact absurd h1 (by omega)
    | succ f ih =>
      intro i bo hf hi hbo hdo H locs I ls hl
      refine lv_iload_n hx hb dX1_growSmallest_4 rfl (lv_at hl 0 rfl) ?_
      refine kf_processCount X I (v := nI N.1) hN.2.1 (lv_at hl 2 rfl) dX1_growSmallest_5 dX1_growSmallest_6 ?_
      refine lv_icmp_ge (tgt := 53) hx hb dX1_growSmallest_9 (by decide) (fun b1 => ?_) (fun b1 => ?_)
      · have b1 : N.1 ≤ i := (nI_leI (a := N.1) (b := i) (by omega) (by omega)).mp b1
        have hiN : i = N.1 := by omega
        rcases hbo with hbo | ⟨x0, h0, hbo, hq1, hq2⟩
        · refine lv_iload_n hx hb dX1_growSmallest_53 rfl (lv_at hl 1 rfl) ?_
          refine lv_if_ge (tgt := 59) hx hb dX1_growSmallest_54 (by decide) (fun b2 => ?_) (fun b2 => ?_)
          · exact absurd b2 (by rw [hbo]; decide)
          · refine lv_iconst (v := nI 0) hx hb dX1_growSmallest_57 (by decide) ?_
            exact k_zret X I hr hlocks rfl (Or.inl ⟨by decide, rfl, fun j hj hr => hdo hbo j (by omega) hr⟩) dX1_growSmallest_58
        · subst hbo
          obtain ⟨z1, z2, z3, z4, z5, z6⟩ := hR x0 h0
          have hrr : rr x0 < 20 := by
            rcases Nat.lt_or_ge (rr x0) 20 with q | q
            · exact q
            · exact absurd (fun _ => by omega) hq2
          have hl : lv_has ls 3 [(2, .int (nI i)), (1, .int (nI x0)), (0, .ref h)] := hl
          refine lv_iload_n hx hb dX1_growSmallest_53 rfl (lv_at hl 1 rfl) ?_
          refine lv_if_ge (tgt := 59) hx hb dX1_growSmallest_54 (by decide) (fun b2 => ?_) (fun b2 => ?_)
          · refine kf_room X I (lv_at hl 2 rfl) dX1_growSmallest_59 dX1_growSmallest_60 ?_
            refine lv_iload_n hx hb dX1_growSmallest_63 rfl (lv_at hl 1 rfl) ?_
            refine lv_dup2_11 hx hb dX1_growSmallest_64 rfl rfl ?_
            refine kl_room X I x0 rfl (by omega) (v := nI (rr x0)) z3 dX1_growSmallest_65 ?_
            refine lv_iconst (v := nI 1) hx hb dX1_growSmallest_66 (by decide) ?_
            refine lv_iadd hx hb dX1_growSmallest_67 ?_
            refine kv_top (nI_add _ _) ?_
            refine lv_i2b (v := nI ((rr x0) + 1)) hx hb dX1_growSmallest_68 (b8_nI _ (by omega)) ?_
            refine ks_room X I x0 rfl (by omega) (n8_nI _ (by omega)) dX1_growSmallest_69 (fun H locs I => ?_)
            refine lv_iconst (v := nI 1) hx hb dX1_growSmallest_70 (by decide) ?_
            exact k_zret X I hr hlocks rfl (Or.inr ⟨by decide, x0, h0, hrr, rfl⟩) dX1_growSmallest_71
          · exact absurd (nI_pos' (by omega)) b2
      · have b1 : ¬ N.1 ≤ i := fun q => b1 ((nI_leI (a := N.1) (b := i) (by omega) (by omega)).mpr q)
        have hi2 : i < N.1 := by omega
        obtain ⟨hOk, hn, -, hp⟩ := id hN
        obtain ⟨f2, f3, f4, f5, f6, f7, f8⟩ := hp i hi2
        obtain ⟨g1, g2, g3, g4, g5, g6, g7, g8⟩ := hOk.2.1 i hi2
        have hn8 := hOk.1
        obtain ⟨z1, z2, z3, z4, z5, z6⟩ := hR (nc N i) g3
        obtain ⟨a1, a2, a3, a4, a5, a6⟩ := hR (na N i) g2
        refine lv_aload_n hx hb dX1_growSmallest_12 rfl (lv_at hl 2 rfl) ?_
        refine lv_iload_n hx hb dX1_growSmallest_13 rfl (lv_at hl 0 rfl) ?_
        refine k_calli X I (rest := []) (metX1_isReady l D c1 c2 h ad A σ N w t rr ph mm hN hR hPr i hi2) (cwX1_isReady X.2.2.2.2.1 rfl rfl ⟨Nat.le_of_ble_eq_true rfl, Nat.le_of_ble_eq_true rfl⟩) rfl hl.1 rfl (Nat.le_of_ble_eq_true rfl) ⟨Nat.zero_le _, Nat.zero_le _⟩ dX1_growSmallest_14 (fun r1 σ1 H locs hw I => ?_)
        obtain ⟨hs, hw⟩ := hw
        rw [hs] at I
        refine lv_if_ne (tgt := 23) hx hb dX1_growSmallest_17 (by decide) (fun b2 => ?_) (fun b2 => ?_)
        · have hw := vB_ne0 hw b2
          have hbo2 : bo = -1 ∨ ∃ b, b < 10 ∧ bo = nI b := by
            rcases hbo with q | ⟨x, q1, q2, -⟩
            · exact Or.inl q
            · exact Or.inr ⟨x, q1, q2⟩
          refine lv_aload_n hx hb dX1_growSmallest_23 rfl (lv_at hl 2 rfl) ?_
          refine lv_iload_n hx hb dX1_growSmallest_24 rfl (lv_at hl 1 rfl) ?_
          refine kf_writesC X I (lv_at hl 2 rfl) dX1_growSmallest_25 dX1_growSmallest_26 ?_
          refine lv_iload_n hx hb dX1_growSmallest_29 rfl (lv_at hl 0 rfl) ?_
          refine kl_writesC X I i rfl (by omega) (v := nI (nc N i)) f5 dX1_growSmallest_30 ?_
          refine k_calli X I (rest := []) (metX1_smaller l D c1 c2 h ad A σ N w t rr hN hR bo (nI (nc N i)) hbo2 (Or.inr ⟨_, g3, rfl⟩)) (cwX1_smaller X.2.2.2.2.1 rfl rfl ⟨Nat.le_of_ble_eq_true rfl, Nat.le_of_ble_eq_true rfl⟩) rfl hl.1 rfl (Nat.le_of_ble_eq_true rfl) ⟨Nat.zero_le _, Nat.zero_le _⟩ dX1_growSmallest_31 (fun r2 σ1 H locs hv I => ?_)
          obtain ⟨hs, hv⟩ := hv
          rw [hs] at I
          have hr2 : r2 = -1 ∨ kCand N w t rr r2 := by
            rcases hv with ⟨q, -⟩ | ⟨q, q2⟩
            · rw [q]; exact hbo
            · rw [q]; exact Or.inr q2
          have hr3 : r2 = -1 → bo = -1 ∧ ¬ kCand N w t rr (nI (nc N i)) := by
            intro e
            rcases hv with ⟨q, q2⟩ | ⟨q, q2⟩
            · exact ⟨q ▸ e, q2 (q ▸ e)⟩
            · exact absurd (q ▸ e) (nI_ne_m1 (by omega))
          have hbo3 : r2 = -1 ∨ ∃ b, b < 10 ∧ r2 = nI b := by
            rcases hr2 with q | ⟨x, q1, q2, -⟩
            · exact Or.inl q
            · exact Or.inr ⟨x, q1, q2⟩
          have hd6 : σ 6 i = -1 ∨ ∃ x, x < 10 ∧ σ 6 i = nI x := by
            rw [f6]
            by_cases h1 : nk N i = 1
            · rw [if_pos h1]; exact Or.inr ⟨_, g4, rfl⟩
            · rw [if_neg h1]; exact Or.inl rfl
          refine lv_istore_n (lv' := [(1, .int r2), (2, .int (nI i)), (0, .ref h)]) hx hb dX1_growSmallest_34 rfl hl (by decide) rfl (fun ls hl => ?_)
          refine lv_aload_n hx hb dX1_growSmallest_35 rfl (lv_at hl 2 rfl) ?_
          refine lv_iload_n hx hb dX1_growSmallest_36 rfl (lv_at hl 0 rfl) ?_
          refine kf_writesD X I (lv_at hl 2 rfl) dX1_growSmallest_37 dX1_growSmallest_38 ?_
          refine lv_iload_n hx hb dX1_growSmallest_41 rfl (lv_at hl 1 rfl) ?_
          refine kl_writesD X I i rfl (by omega) (v := σ 6 i) rfl dX1_growSmallest_42 ?_
          refine k_calli X I (rest := []) (metX1_smaller l D c1 c2 h ad A σ N w t rr hN hR r2 (σ 6 i) hbo3 hd6) (cwX1_smaller X.2.2.2.2.1 rfl rfl ⟨Nat.le_of_ble_eq_true rfl, Nat.le_of_ble_eq_true rfl⟩) rfl hl.1 rfl (Nat.le_of_ble_eq_true rfl) ⟨Nat.zero_le _, Nat.zero_le _⟩ dX1_growSmallest_43 (fun r3 σ1 H locs hu I => ?_)
          obtain ⟨hs, hu⟩ := hu
          rw [hs] at I
          refine lv_istore_n (lv' := [(1, .int r3), (2, .int (nI i)), (0, .ref h)]) hx hb dX1_growSmallest_46 rfl hl (by decide) rfl (fun ls hl => ?_)
          refine lv_iinc (v := nI (i + 1)) (lv' := [(2, .int (nI (i + 1))), (1, .int r3), (0, .ref h)]) hx hb dX1_growSmallest_47 hl (k := 1) rfl (nI_1 i) (by decide) rfl (fun ls hl => ?_)
          refine lv_goto (tgt := 4) hx hb dX1_growSmallest_50 (by decide) ?_
          exact ih (i + 1) r3 (by omega) (by omega) (by
            rcases hu with ⟨q, -⟩ | ⟨q, q2⟩
            · rw [q]; exact hr2
            · rw [q]; exact Or.inr q2) (fun z j hj hr => by
            have hk : r2 = -1 ∧ ¬ kCand N w t rr (σ 6 i) := by
              rcases hu with ⟨q, q2⟩ | ⟨q, q2⟩
              · exact ⟨q ▸ z, q2 (q ▸ z)⟩
              · obtain ⟨x, q3, q4, -⟩ := q2
                exact absurd ((q ▸ z : σ 6 i = -1).symm.trans q4) (m1_ne_nI (by omega))
            obtain ⟨hk1, hk2⟩ := hr3 hk.1
            rcases Nat.lt_succ_iff_lt_or_eq.mp hj with q | q
            · exact hdo hk1 j q hr
            · subst q
              exact ⟨hk2, fun h1 => by
                have := hk.2
                rwa [f6, if_pos h1] at this⟩) H locs I ls (lv_sub hl [0, 1, 2] rfl)
        · have hw := vB_eq0 hw b2
          refine lv_goto (tgt := 47) hx hb dX1_growSmallest_20 (by decide) ?_
          refine lv_iinc (v := nI (i + 1)) (lv' := [(2, .int (nI (i + 1))), (1, .int bo), (0, .ref h)]) hx hb dX1_growSmallest_47 hl (k := 0) rfl (nI_1 i) (by decide) rfl (fun ls hl => ?_)
          refine lv_goto (tgt := 4) hx hb dX1_growSmallest_50 (by decide) ?_
          exact ih (i + 1) bo (by omega) (by omega) hbo (fun z j hj hr => by
            rcases Nat.lt_succ_iff_lt_or_eq.mp hj with q | q
            · exact hdo z j q hr
            · subst q
              exact absurd hr hw) H locs I ls (lv_sub hl [0, 1, 2] rfl)
  refine lv_iconst (v := -1) hx hb dX1_growSmallest_0 (by decide) ?_
  refine lv_istore_n (lv' := [(1, .int (-1)), (0, .ref h)]) hx hb dX1_growSmallest_1 rfl hl (by decide) rfl (fun ls hl => ?_)
  refine lv_iconst (v := nI 0) hx hb dX1_growSmallest_2 (by decide) ?_
  refine lv_istore_n (lv' := [(2, .int (nI 0)), (1, .int (-1)), (0, .ref h)]) hx hb dX1_growSmallest_3 rfl hl (by decide) rfl (fun ls hl => ?_)
  exact loop (N.1 + 1) 0 (-1) (by omega) (by omega) (Or.inl rfl) (fun _ j hj => absurd hj (by omega)) _ _ I ls hl
end
section
set_option maxHeartbeats 4000000 in
set_option maxRecDepth 100000 in
theorem metX1_stepOne (l : Launch) (D : va_G) (c1 c2 : ClassId) (h : Nat) (ad : Nat → Nat) (A : Nat → Prop) (σ : KS) (k0 i y0 z0 w0 ph0 : Nat) (P0 v0 : Int32) (hi : i < 8) (hk : k0 = 1 ∨ k0 = 3 ∨ k0 = 4 ∨ k0 = 6 ∨ k0 = 7) (hy : y0 < 10) (hz : z0 < 10) (hwl : w0 < 20) (hph : ph0 ≤ 1) (f2 : σ 2 i = nI k0) (f5 : σ 5 i = nI y0) (f6 : k0 = 1 → σ 6 i = nI z0 ∧ z0 ≠ y0 ∧ σ 11 z0 = nI w0) (f7 : σ 7 i = P0) (f11 : σ 11 y0 = nI w0) (f15 : σ 15 i = nI ph0) :
    Met l yX1_stepOne (ws_ yX1_stepOne cX1_stepOne 5 none) ({ frames := 1, cells := 0, slots := 0, locals := 22 } : Room) (kP D c1 c2 h ad A σ [.int (nI i), .int v0]) (va_Qv (fun (σ' : KS) => σ' = kOneF k0 i y0 z0 w0 ph0 P0 v0 σ) (kB D c1 c2 h ad A) A) 0 0 A := by
  refine kM_of (by decide) rfl (Nat.le_of_ble_eq_true rfl) ?_
  intro p e s m args below meth c ls X hr hlocks I hl
  have hl : lv_has ls 5 [(0, .ref h), (1, .int (nI i)), (2, .int v0)] := hl
  have hx := X.1
  have hb := X.2.1
  refine kf_kinds X I (lv_at hl 0 rfl) dX1_stepOne_0 dX1_stepOne_1 ?_
  refine lv_iload_n hx hb dX1_stepOne_4 rfl (lv_at hl 1 rfl) ?_
  refine kl_kinds X I i rfl (by omega) (v := nI k0) f2 dX1_stepOne_5 ?_
  refine lv_istore_n (lv' := [(3, .int (nI k0)), (0, .ref h), (1, .int (nI i)), (2, .int v0)]) hx hb dX1_stepOne_6 rfl hl (by decide) rfl (fun ls hl => ?_)
  refine kf_writesC X I (lv_at hl 1 rfl) dX1_stepOne_7 dX1_stepOne_8 ?_
  refine lv_iload_n hx hb dX1_stepOne_11 rfl (lv_at hl 2 rfl) ?_
  refine kl_writesC X I i rfl (by omega) (v := nI y0) f5 dX1_stepOne_12 ?_
  refine lv_istore (lv' := [(4, .int (nI y0)), (3, .int (nI k0)), (0, .ref h), (1, .int (nI i)), (2, .int v0)]) hx hb dX1_stepOne_13 hl (by decide) rfl (fun ls hl => ?_)
  refine lv_iload_n hx hb dX1_stepOne_15 rfl (lv_at hl 1 rfl) ?_
  refine lv_iconst (v := nI 1) hx hb dX1_stepOne_16 (by decide) ?_
  refine lv_icmp_ne (tgt := 41) hx hb dX1_stepOne_17 (by decide) (fun b1 => ?_) (fun b1 => ?_)
  · have b1 : ¬ k0 = 1 := fun q => b1 ((nI_eq (a := k0) (b := 1) (by omega) (by omega)).mpr q)
    refine lv_iload_n hx hb dX1_stepOne_41 rfl (lv_at hl 1 rfl) ?_
    refine lv_iconst (v := nI 3) hx hb dX1_stepOne_42 (by decide) ?_
    refine lv_icmp_ne (tgt := 56) hx hb dX1_stepOne_43 (by decide) (fun b2 => ?_) (fun b2 => ?_)
    · have b2 : ¬ k0 = 3 := fun q => b2 ((nI_eq (a := k0) (b := 3) (by omega) (by omega)).mpr q)
      refine lv_iload_n hx hb dX1_stepOne_56 rfl (lv_at hl 1 rfl) ?_
      refine lv_iconst (v := nI 4) hx hb dX1_stepOne_57 (by decide) ?_
      refine lv_icmp_ne (tgt := 82) hx hb dX1_stepOne_58 (by decide) (fun b3 => ?_) (fun b3 => ?_)
      · have b3 : ¬ k0 = 4 := fun q => b3 ((nI_eq (a := k0) (b := 4) (by omega) (by omega)).mpr q)
        refine lv_iload_n hx hb dX1_stepOne_82 rfl (lv_at hl 1 rfl) ?_
        refine lv_bipush (v := nI 6) hx hb dX1_stepOne_83 (by decide) ?_
        refine lv_icmp_ne (tgt := 113) hx hb dX1_stepOne_85 (by decide) (fun b4 => ?_) (fun b4 => ?_)
        · have b4 : ¬ k0 = 6 := fun q => b4 ((nI_eq (a := k0) (b := 6) (by omega) (by omega)).mpr q)
          refine kf_phase X I (lv_at hl 2 rfl) dX1_stepOne_113 dX1_stepOne_114 ?_
          refine lv_iload_n hx hb dX1_stepOne_117 rfl (lv_at hl 3 rfl) ?_
          refine kl_phase X I i rfl (by omega) (v := nI ph0) f15 dX1_stepOne_118 ?_
          refine lv_if_ne (tgt := 139) hx hb dX1_stepOne_119 (by decide) (fun b5 => ?_) (fun b5 => ?_)
          · have b5 : ¬ ph0 = 0 := fun q => b5 ((nI_eq (a := ph0) (b := 0) (by omega) (by omega)).mpr q)
            refine kf_phase X I (lv_at hl 2 rfl) dX1_stepOne_139 dX1_stepOne_140 ?_
            refine lv_iload_n hx hb dX1_stepOne_143 rfl (lv_at hl 3 rfl) ?_
            refine lv_iconst (v := nI 0) hx hb dX1_stepOne_144 (by decide) ?_
            refine ks_phase X I i rfl (by omega) (n8_nI _ (by omega)) dX1_stepOne_145 (fun H locs I => ?_)
            refine lv_aload_n hx hb dX1_stepOne_146 rfl (lv_at hl 2 rfl) ?_
            refine lv_iload hx hb dX1_stepOne_147 (lv_at hl 0 rfl) ?_
            refine kf_memory X I (lv_at hl 2 rfl) dX1_stepOne_149 dX1_stepOne_150 ?_
            refine lv_iload_n hx hb dX1_stepOne_153 rfl (lv_at hl 3 rfl) ?_
            refine kl_memory X I i rfl (by omega) (v := σ 14 i) rfl dX1_stepOne_154 ?_
            refine lv_iload_n hx hb dX1_stepOne_155 rfl (lv_at hl 4 rfl) ?_
            refine lv_isub hx hb dX1_stepOne_156 ?_
            refine k_callv X I (rest := []) (metX1_put l D c1 c2 h ad A (su σ 15 i (nI 0)) y0 w0 ((σ 14 i) - v0) hy f11 hwl) (cwX1_put X.2.2.2.2.1 rfl rfl ⟨Nat.le_of_ble_eq_true rfl, Nat.le_of_ble_eq_true rfl⟩) rfl hl.1 rfl (Nat.le_of_ble_eq_true rfl) ⟨Nat.zero_le _, Nat.zero_le _⟩ dX1_stepOne_157 (fun σ1 H locs hw I => ?_)
            exact k_vret X I hr hlocks (by rw [hw, kOneF, if_neg b1, if_neg b2, if_neg b3, if_neg b4, if_neg b5]) dX1_stepOne_160
          · have b5 : ph0 = 0 := (nI_eq (a := ph0) (b := 0) (by omega) (by omega)).mp b5
            refine kf_phase X I (lv_at hl 2 rfl) dX1_stepOne_122 dX1_stepOne_123 ?_
            refine lv_iload_n hx hb dX1_stepOne_126 rfl (lv_at hl 3 rfl) ?_
            refine lv_iconst (v := nI 1) hx hb dX1_stepOne_127 (by decide) ?_
            refine ks_phase X I i rfl (by omega) (n8_nI _ (by omega)) dX1_stepOne_128 (fun H locs I => ?_)
            refine kf_memory X I (lv_at hl 2 rfl) dX1_stepOne_129 dX1_stepOne_130 ?_
            refine lv_iload_n hx hb dX1_stepOne_133 rfl (lv_at hl 3 rfl) ?_
            refine lv_iload_n hx hb dX1_stepOne_134 rfl (lv_at hl 4 rfl) ?_
            refine ks_memory X I i rfl (by omega) dX1_stepOne_135 (fun H locs I => ?_)
            refine lv_goto (tgt := 160) hx hb dX1_stepOne_136 (by decide) ?_
            exact k_vret X I hr hlocks (by rw [kOneF, if_neg b1, if_neg b2, if_neg b3, if_neg b4, if_pos b5]) dX1_stepOne_160
        · have b4 : k0 = 6 := (nI_eq (a := k0) (b := 6) (by omega) (by omega)).mp b4
          refine kf_memory X I (lv_at hl 2 rfl) dX1_stepOne_88 dX1_stepOne_89 ?_
          refine lv_iload_n hx hb dX1_stepOne_92 rfl (lv_at hl 3 rfl) ?_
          refine lv_dup2_11 hx hb dX1_stepOne_93 rfl rfl ?_
          refine kl_memory X I i rfl (by omega) (v := σ 14 i) rfl dX1_stepOne_94 ?_
          refine lv_iload_n hx hb dX1_stepOne_95 rfl (lv_at hl 4 rfl) ?_
          refine lv_iadd hx hb dX1_stepOne_96 ?_
          refine ks_memory X I i rfl (by omega) dX1_stepOne_97 (fun H locs I => ?_)
          refine lv_aload_n hx hb dX1_stepOne_98 rfl (lv_at hl 2 rfl) ?_
          refine lv_iload hx hb dX1_stepOne_99 (lv_at hl 0 rfl) ?_
          refine kf_memory X I (lv_at hl 2 rfl) dX1_stepOne_101 dX1_stepOne_102 ?_
          refine lv_iload_n hx hb dX1_stepOne_105 rfl (lv_at hl 3 rfl) ?_
          refine kl_memory X I i rfl (by omega) (v := (σ 14 i) + v0) (su_at σ 14 i ((σ 14 i) + v0)) dX1_stepOne_106 ?_
          refine k_callv X I (rest := []) (metX1_put l D c1 c2 h ad A (su σ 14 i ((σ 14 i) + v0)) y0 w0 ((σ 14 i) + v0) hy f11 hwl) (cwX1_put X.2.2.2.2.1 rfl rfl ⟨Nat.le_of_ble_eq_true rfl, Nat.le_of_ble_eq_true rfl⟩) rfl hl.1 rfl (Nat.le_of_ble_eq_true rfl) ⟨Nat.zero_le _, Nat.zero_le _⟩ dX1_stepOne_107 (fun σ1 H locs hw I => ?_)
          refine lv_goto (tgt := 160) hx hb dX1_stepOne_110 (by decide) ?_
          exact k_vret X I hr hlocks (by rw [hw, kOneF, if_neg b1, if_neg b2, if_neg b3, if_pos b4]) dX1_stepOne_160
      · have b3 : k0 = 4 := (nI_eq (a := k0) (b := 4) (by omega) (by omega)).mp b3
        refine lv_iload_n hx hb dX1_stepOne_61 rfl (lv_at hl 4 rfl) ?_
        refine kf_numberP X I (lv_at hl 2 rfl) dX1_stepOne_62 dX1_stepOne_63 ?_
        refine lv_iload_n hx hb dX1_stepOne_66 rfl (lv_at hl 3 rfl) ?_
        refine kl_numberP X I i rfl (by omega) (v := P0) f7 dX1_stepOne_67 ?_
        refine lv_iand hx hb dX1_stepOne_68 ?_
        refine lv_if_ne (tgt := 160) hx hb dX1_stepOne_69 (by decide) (fun b4 => ?_) (fun b4 => ?_)
        · exact k_vret X I hr hlocks (by rw [kOneF, if_neg b1, if_neg b2, if_pos b3, if_neg b4]) dX1_stepOne_160
        · refine lv_aload_n hx hb dX1_stepOne_72 rfl (lv_at hl 2 rfl) ?_
          refine lv_iload hx hb dX1_stepOne_73 (lv_at hl 0 rfl) ?_
          refine lv_iload_n hx hb dX1_stepOne_75 rfl (lv_at hl 4 rfl) ?_
          refine k_callv X I (rest := []) (metX1_put l D c1 c2 h ad A σ y0 w0 v0 hy f11 hwl) (cwX1_put X.2.2.2.2.1 rfl rfl ⟨Nat.le_of_ble_eq_true rfl, Nat.le_of_ble_eq_true rfl⟩) rfl hl.1 rfl (Nat.le_of_ble_eq_true rfl) ⟨Nat.zero_le _, Nat.zero_le _⟩ dX1_stepOne_76 (fun σ1 H locs hw I => ?_)
          refine lv_goto (tgt := 160) hx hb dX1_stepOne_79 (by decide) ?_
          exact k_vret X I hr hlocks (by rw [hw, kOneF, if_neg b1, if_neg b2, if_pos b3, if_pos b4]) dX1_stepOne_160
    · have b2 : k0 = 3 := (nI_eq (a := k0) (b := 3) (by omega) (by omega)).mp b2
      refine lv_aload_n hx hb dX1_stepOne_46 rfl (lv_at hl 2 rfl) ?_
      refine lv_iload hx hb dX1_stepOne_47 (lv_at hl 0 rfl) ?_
      refine lv_iload_n hx hb dX1_stepOne_49 rfl (lv_at hl 4 rfl) ?_
      refine k_callv X I (rest := []) (metX1_put l D c1 c2 h ad A σ y0 w0 v0 hy f11 hwl) (cwX1_put X.2.2.2.2.1 rfl rfl ⟨Nat.le_of_ble_eq_true rfl, Nat.le_of_ble_eq_true rfl⟩) rfl hl.1 rfl (Nat.le_of_ble_eq_true rfl) ⟨Nat.zero_le _, Nat.zero_le _⟩ dX1_stepOne_50 (fun σ1 H locs hw I => ?_)
      refine lv_goto (tgt := 160) hx hb dX1_stepOne_53 (by decide) ?_
      exact k_vret X I hr hlocks (by rw [hw, kOneF, if_neg b1, if_pos b2]) dX1_stepOne_160
  · have b1 : k0 = 1 := (nI_eq (a := k0) (b := 1) (by omega) (by omega)).mp b1
    obtain ⟨d1, d2, d3⟩ := f6 b1
    refine lv_aload_n hx hb dX1_stepOne_20 rfl (lv_at hl 2 rfl) ?_
    refine lv_iload hx hb dX1_stepOne_21 (lv_at hl 0 rfl) ?_
    refine lv_iload_n hx hb dX1_stepOne_23 rfl (lv_at hl 4 rfl) ?_
    refine k_callv X I (rest := []) (metX1_put l D c1 c2 h ad A σ y0 w0 v0 hy f11 hwl) (cwX1_put X.2.2.2.2.1 rfl rfl ⟨Nat.le_of_ble_eq_true rfl, Nat.le_of_ble_eq_true rfl⟩) rfl hl.1 rfl (Nat.le_of_ble_eq_true rfl) ⟨Nat.zero_le _, Nat.zero_le _⟩ dX1_stepOne_24 (fun σ1 H locs hw I => ?_)
    have e6 : σ1 6 i = nI z0 := by rw [hw]; exact d1
    have e11 : σ1 11 z0 = nI w0 := by rw [hw]; exact (su_ne d2).trans d3
    refine lv_aload_n hx hb dX1_stepOne_27 rfl (lv_at hl 2 rfl) ?_
    refine kf_writesD X I (lv_at hl 2 rfl) dX1_stepOne_28 dX1_stepOne_29 ?_
    refine lv_iload_n hx hb dX1_stepOne_32 rfl (lv_at hl 3 rfl) ?_
    refine kl_writesD X I i rfl (by omega) (v := nI z0) e6 dX1_stepOne_33 ?_
    refine lv_iload_n hx hb dX1_stepOne_34 rfl (lv_at hl 4 rfl) ?_
    refine k_callv X I (rest := []) (metX1_put l D c1 c2 h ad A σ1 z0 w0 v0 hz e11 hwl) (cwX1_put X.2.2.2.2.1 rfl rfl ⟨Nat.le_of_ble_eq_true rfl, Nat.le_of_ble_eq_true rfl⟩) rfl hl.1 rfl (Nat.le_of_ble_eq_true rfl) ⟨Nat.zero_le _, Nat.zero_le _⟩ dX1_stepOne_35 (fun σ2 H locs hv I => ?_)
    refine lv_goto (tgt := 160) hx hb dX1_stepOne_38 (by decide) ?_
    exact k_vret X I hr hlocks (by rw [hv, hw, kOneF, if_pos b1]) dX1_stepOne_160

set_option maxHeartbeats 4000000 in
set_option maxRecDepth 100000 in
theorem metX1_step (l : Launch) (D : va_G) (c1 c2 : ClassId) (h : Nat) (ad : Nat → Nat) (A : Nat → Prop) (σ : KS) (N : Net) (w t rr ph mm : Nat → Nat) (hN : kNet N σ) (hR : kRun σ w t rr) (hPr : kPro N σ ph mm) (hLk : ∀ j, j < N.1 → nk N j = 1 → w (nd N j) = w (nc N j)) (i : Nat) (hi : i < N.1) :
    Met l yX1_step (ws_ yX1_step cX1_step 6 (some .boolean)) ({ frames := 2, cells := 0, slots := 0, locals := 46 } : Room) (kP D c1 c2 h ad A σ [.int (nI i)]) (va_Qi (fun (r : Int32) (σ' : KS) => (r = 0 ∧ σ' = σ ∧ ¬ kCan N w t rr ph mm i) ∨ (r = 1 ∧ kCan N w t rr ph mm i ∧ σ' = kStF N w t ph mm i σ)) (kB D c1 c2 h ad A) A) 0 0 A := by
  refine kM_of (by decide) rfl (Nat.le_of_ble_eq_true rfl) ?_
  intro p e s m args below meth c ls X hr hlocks I hl
  have hl : lv_has ls 6 [(0, .ref h), (1, .int (nI i))] := hl
  have hx := X.1
  have hb := X.2.1
  obtain ⟨hOk, hn, -, hp⟩ := id hN
  obtain ⟨f2, f3, f4, f5, f6, f7, f8⟩ := hp i hi
  obtain ⟨g1, g2, g3, g4, g5, g6, g7, g8⟩ := hOk.2.1 i hi
  have hn8 := hOk.1
  obtain ⟨z1, z2, z3, z4, z5, z6⟩ := hR (nc N i) g3
  obtain ⟨a1, a2, a3, a4, a5, a6⟩ := hR (na N i) g2
  have fire : kCan N w t rr ph mm i → ∀ (H : Heap) (locs : List Loc), kI D c1 c2 h ad A s.heap σ H locs → ∀ ls : Array Slot, lv_has ls 6 [(3, .int (nI (nc N i))), (2, .int (nI (nk N i))), (0, .ref h), (1, .int (nI i))] → W p l e ({ frames := 2, cells := 0, slots := 0, locals := 46 } : Room) s m args below meth c H locs 0 0 (MQ below (va_Qi (fun (r : Int32) (σ' : KS) => (r = 0 ∧ σ' = σ ∧ ¬ kCan N w t rr ph mm i) ∨ (r = 1 ∧ kCan N w t rr ph mm i ∧ σ' = kStF N w t ph mm i σ)) (kB D c1 c2 h ad A) A) args s 0 0 A) (F0 m 61 ls []) := by
    intro hcan H locs I ls hl
    obtain ⟨⟨hc20, hr0, hr1⟩, hcr⟩ := id hcan
    refine lv_iload_n hx hb dX1_step_61 rfl (lv_at hl 1 rfl) ?_
    refine lv_if_ne (tgt := 114) hx hb dX1_step_62 (by decide) (fun b1 => ?_) (fun b1 => ?_)
    · have b1 : ¬ (nk N i) = 0 := fun q => b1 ((nI_eq (a := (nk N i)) (b := 0) (by omega) (by omega)).mpr q)
      obtain ⟨y1, y2⟩ := (hPr i hi).1 b1
      rw [if_neg b1] at f3
      have g6 := g6 b1
      have hr1 := hr1 b1
      obtain ⟨e1, e2, e3, e4, e5, e6⟩ := hR (nb N i) g6
      refine lv_iload_n hx hb dX1_step_114 rfl (lv_at hl 1 rfl) ?_
      refine lv_iconst (v := nI 3) hx hb dX1_step_115 (by decide) ?_
      refine lv_icmp_ne (tgt := 149) hx hb dX1_step_116 (by decide) (fun b2 => ?_) (fun b2 => ?_)
      · have b2 : ¬ (nk N i) = 3 := fun q => b2 ((nI_eq (a := (nk N i)) (b := 3) (by omega) (by omega)).mpr q)
        have hr2 := hr1.resolve_left (fun z => b2 z.1)
        refine lv_iload_n hx hb dX1_step_149 rfl (lv_at hl 1 rfl) ?_
        refine lv_iconst (v := nI 2) hx hb dX1_step_150 (by decide) ?_
        refine lv_icmp_ne (tgt := 191) hx hb dX1_step_151 (by decide) (fun v2 => ?_) (fun v2 => ?_)
        · have v2 : ¬ (nk N i) = 2 := fun q => v2 ((nI_eq (a := (nk N i)) (b := 2) (by omega) (by omega)).mpr q)
          refine lv_iload_n hx hb dX1_step_191 rfl (lv_at hl 1 rfl) ?_
          refine lv_iconst (v := nI 5) hx hb dX1_step_192 (by decide) ?_
          refine lv_icmp_ne (tgt := 262) hx hb dX1_step_193 (by decide) (fun v3 => ?_) (fun v3 => ?_)
          · have v3 : ¬ (nk N i) = 5 := fun q => v3 ((nI_eq (a := (nk N i)) (b := 5) (by omega) (by omega)).mpr q)
            refine lv_aload_n hx hb dX1_step_262 rfl (lv_at hl 2 rfl) ?_
            refine kf_readsA X I (lv_at hl 2 rfl) dX1_step_263 dX1_step_264 ?_
            refine lv_iload_n hx hb dX1_step_267 rfl (lv_at hl 3 rfl) ?_
            refine kl_readsA X I i rfl (by omega) (v := nI (na N i)) f3 dX1_step_268 ?_
            refine k_calli X I (rest := []) (metX1_take l D c1 c2 h ad A σ (na N i) (t (na N i)) g2 a2 (by omega)) (cwX1_take X.2.2.2.2.1 rfl rfl ⟨Nat.le_of_ble_eq_true rfl, Nat.le_of_ble_eq_true rfl⟩) rfl hl.1 rfl (Nat.le_of_ble_eq_true rfl) ⟨Nat.zero_le _, Nat.zero_le _⟩ dX1_step_269 (fun xa σ1 H locs hw I => ?_)
            obtain ⟨hs1, hxa⟩ := hw
            refine lv_istore (lv' := [(4, .int xa), (3, .int (nI (nc N i))), (2, .int (nI (nk N i))), (0, .ref h), (1, .int (nI i))]) hx hb dX1_step_272 hl (by decide) rfl (fun ls hl => ?_)
            refine lv_aload_n hx hb dX1_step_274 rfl (lv_at hl 3 rfl) ?_
            refine lv_iload_n hx hb dX1_step_275 rfl (lv_at hl 4 rfl) ?_
            refine lv_iload hx hb dX1_step_276 (lv_at hl 0 rfl) ?_
            refine k_callv X I (rest := []) (metX1_stepOne l D c1 c2 h ad A σ1 (nk N i) i (nc N i) (nd N i) (w (nc N i)) (ph i) (nP N i) xa (by omega) (by omega) g3 g4 hc20 y2 (by rw [hs1]; exact f2) (by rw [hs1]; exact f5) (fun q => by
                    rw [hs1]
                    exact ⟨f6.trans (if_pos q), fun z => g8 q z.symm, by
                      rw [← hLk i hi q]
                      exact (hR (nd N i) g4).1⟩) (by rw [hs1]; exact f7) (by rw [hs1]; exact z1) (by rw [hs1]; exact y1)) (cwX1_stepOne X.2.2.2.2.1 rfl rfl ⟨Nat.le_of_ble_eq_true rfl, Nat.le_of_ble_eq_true rfl⟩) rfl hl.1 rfl (Nat.le_of_ble_eq_true rfl) ⟨Nat.zero_le _, Nat.zero_le _⟩ dX1_step_278 (fun σ2 H locs hw I => ?_)
            refine lv_iconst (v := nI 1) hx hb dX1_step_281 (by decide) ?_
            exact k_zret X I hr hlocks rfl (Or.inr ⟨by decide, hcan, by
                rw [hw, kStF, if_neg b1, if_neg (fun z => b2 z.1), if_neg v2, if_neg v3, hs1, hxa]⟩) dX1_step_282
          · have v3 : (nk N i) = 5 := (nI_eq (a := (nk N i)) (b := 5) (by omega) (by omega)).mp v3
            have h2 : nTwo N i := Or.inr v3
            have hba := g7 h2
            rw [if_pos h2] at f4
            have hr3 := hr2.2 h2
            refine lv_aload_n hx hb dX1_step_196 rfl (lv_at hl 2 rfl) ?_
            refine kf_readsA X I (lv_at hl 2 rfl) dX1_step_197 dX1_step_198 ?_
            refine lv_iload_n hx hb dX1_step_201 rfl (lv_at hl 3 rfl) ?_
            refine kl_readsA X I i rfl (by omega) (v := nI (na N i)) f3 dX1_step_202 ?_
            refine k_calli X I (rest := []) (metX1_peek l D c1 c2 h ad A σ (na N i) (t (na N i)) g2 a2 (by omega)) (cwX1_peek X.2.2.2.2.1 rfl rfl ⟨Nat.le_of_ble_eq_true rfl, Nat.le_of_ble_eq_true rfl⟩) rfl hl.1 rfl (Nat.le_of_ble_eq_true rfl) ⟨Nat.zero_le _, Nat.zero_le _⟩ dX1_step_203 (fun xa σ1 H locs hxa I => ?_)
            obtain ⟨hs, hxa⟩ := hxa
            rw [hs] at I
            refine lv_aload_n hx hb dX1_step_206 rfl (lv_at hl 2 rfl) ?_
            refine kf_readsB X I (lv_at hl 2 rfl) dX1_step_207 dX1_step_208 ?_
            refine lv_iload_n hx hb dX1_step_211 rfl (lv_at hl 3 rfl) ?_
            refine kl_readsB X I i rfl (by omega) (v := nI (nb N i)) f4 dX1_step_212 ?_
            refine k_calli X I (rest := [.int xa]) (metX1_peek l D c1 c2 h ad A σ (nb N i) (t (nb N i)) g6 e2 (by omega)) (cwX1_peek X.2.2.2.2.1 rfl rfl ⟨Nat.le_of_ble_eq_true rfl, Nat.le_of_ble_eq_true rfl⟩) rfl hl.1 rfl (Nat.le_of_ble_eq_true rfl) ⟨Nat.zero_le _, Nat.zero_le _⟩ dX1_step_213 (fun xb σ1 H locs hxb I => ?_)
            obtain ⟨hs, hxb⟩ := hxb
            rw [hs] at I
            refine lv_icmp_gt (tgt := 223) hx hb dX1_step_216 (by decide) (fun v4 => ?_) (fun v4 => ?_)
            · refine lv_iconst (v := nI 0) hx hb dX1_step_223 (by decide) ?_
              refine lv_istore (lv' := [(4, .int (nI 0)), (3, .int (nI (nc N i))), (2, .int (nI (nk N i))), (0, .ref h), (1, .int (nI i))]) hx hb dX1_step_224 hl (by decide) rfl (fun ls hl => ?_)
              refine lv_aload_n hx hb dX1_step_226 rfl (lv_at hl 3 rfl) ?_
              refine lv_iload hx hb dX1_step_227 (lv_at hl 0 rfl) ?_
              refine lv_if_eq (tgt := 241) hx hb dX1_step_229 (by decide) (fun v5 => ?_) (fun v5 => ?_)
              · refine kf_readsB X I (lv_at hl 3 rfl) dX1_step_241 dX1_step_242 ?_
                refine lv_iload_n hx hb dX1_step_245 rfl (lv_at hl 4 rfl) ?_
                refine kl_readsB X I i rfl (by omega) (v := nI (nb N i)) f4 dX1_step_246 ?_
                refine k_calli X I (rest := []) (metX1_take l D c1 c2 h ad A σ (nb N i) (t (nb N i)) g6 e2 (by omega)) (cwX1_take X.2.2.2.2.1 rfl rfl ⟨Nat.le_of_ble_eq_true rfl, Nat.le_of_ble_eq_true rfl⟩) rfl hl.1 rfl (Nat.le_of_ble_eq_true rfl) ⟨Nat.zero_le _, Nat.zero_le _⟩ dX1_step_247 (fun xv σ2 H locs hw I => ?_)
                obtain ⟨hs2, hxv⟩ := hw
                have q11b : σ2 11 (nc N i) = nI (w (nc N i)) := by rw [hs2]; exact z1
                refine lv_istore (lv' := [(5, .int xv), (4, .int (nI 0)), (3, .int (nI (nc N i))), (2, .int (nI (nk N i))), (0, .ref h), (1, .int (nI i))]) hx hb dX1_step_250 hl (by decide) rfl (fun ls hl => ?_)
                refine lv_aload_n hx hb dX1_step_252 rfl (lv_at hl 4 rfl) ?_
                refine lv_iload_n hx hb dX1_step_253 rfl (lv_at hl 2 rfl) ?_
                refine lv_iload hx hb dX1_step_254 (lv_at hl 0 rfl) ?_
                refine k_callv X I (rest := []) (metX1_put l D c1 c2 h ad A σ2 (nc N i) (w (nc N i)) xv g3 q11b hc20) (cwX1_put X.2.2.2.2.1 rfl rfl ⟨Nat.le_of_ble_eq_true rfl, Nat.le_of_ble_eq_true rfl⟩) rfl hl.1 rfl (Nat.le_of_ble_eq_true rfl) ⟨Nat.zero_le _, Nat.zero_le _⟩ dX1_step_256 (fun σ3 H locs hw I => ?_)
                refine lv_goto (tgt := 281) hx hb dX1_step_259 (by decide) ?_
                refine lv_iconst (v := nI 1) hx hb dX1_step_281 (by decide) ?_
                exact k_zret X I hr hlocks rfl (Or.inr ⟨by decide, hcan, by
                    have hgt : ¬ σ 10 (20 * na N i + t (na N i)) ≤ σ 10 (20 * nb N i + t (nb N i)) := by
                      rw [← hxa, ← hxb]
                      exact Int32.not_le.mpr v4
                    rw [hw, kStF, if_neg b1, if_neg (fun z => b2 z.1), if_neg v2, if_pos v3, if_neg hgt, hs2, hxv]⟩) dX1_step_282
              · exact absurd (by decide) v5
            · refine lv_iconst (v := nI 1) hx hb dX1_step_219 (by decide) ?_
              refine lv_goto (tgt := 224) hx hb dX1_step_220 (by decide) ?_
              refine lv_istore (lv' := [(4, .int (nI 1)), (3, .int (nI (nc N i))), (2, .int (nI (nk N i))), (0, .ref h), (1, .int (nI i))]) hx hb dX1_step_224 hl (by decide) rfl (fun ls hl => ?_)
              refine lv_aload_n hx hb dX1_step_226 rfl (lv_at hl 3 rfl) ?_
              refine lv_iload hx hb dX1_step_227 (lv_at hl 0 rfl) ?_
              refine lv_if_eq (tgt := 241) hx hb dX1_step_229 (by decide) (fun v5 => ?_) (fun v5 => ?_)
              · exact absurd v5 (by decide)
              · refine kf_readsA X I (lv_at hl 3 rfl) dX1_step_232 dX1_step_233 ?_
                refine lv_iload_n hx hb dX1_step_236 rfl (lv_at hl 4 rfl) ?_
                refine kl_readsA X I i rfl (by omega) (v := nI (na N i)) f3 dX1_step_237 ?_
                refine lv_goto (tgt := 247) hx hb dX1_step_238 (by decide) ?_
                refine k_calli X I (rest := []) (metX1_take l D c1 c2 h ad A σ (na N i) (t (na N i)) g2 a2 (by omega)) (cwX1_take X.2.2.2.2.1 rfl rfl ⟨Nat.le_of_ble_eq_true rfl, Nat.le_of_ble_eq_true rfl⟩) rfl hl.1 rfl (Nat.le_of_ble_eq_true rfl) ⟨Nat.zero_le _, Nat.zero_le _⟩ dX1_step_247 (fun xv σ2 H locs hw I => ?_)
                obtain ⟨hs2, hxv⟩ := hw
                have q11b : σ2 11 (nc N i) = nI (w (nc N i)) := by rw [hs2]; exact z1
                refine lv_istore (lv' := [(5, .int xv), (4, .int (nI 1)), (3, .int (nI (nc N i))), (2, .int (nI (nk N i))), (0, .ref h), (1, .int (nI i))]) hx hb dX1_step_250 hl (by decide) rfl (fun ls hl => ?_)
                refine lv_aload_n hx hb dX1_step_252 rfl (lv_at hl 4 rfl) ?_
                refine lv_iload_n hx hb dX1_step_253 rfl (lv_at hl 2 rfl) ?_
                refine lv_iload hx hb dX1_step_254 (lv_at hl 0 rfl) ?_
                refine k_callv X I (rest := []) (metX1_put l D c1 c2 h ad A σ2 (nc N i) (w (nc N i)) xv g3 q11b hc20) (cwX1_put X.2.2.2.2.1 rfl rfl ⟨Nat.le_of_ble_eq_true rfl, Nat.le_of_ble_eq_true rfl⟩) rfl hl.1 rfl (Nat.le_of_ble_eq_true rfl) ⟨Nat.zero_le _, Nat.zero_le _⟩ dX1_step_256 (fun σ3 H locs hw I => ?_)
                refine lv_goto (tgt := 281) hx hb dX1_step_259 (by decide) ?_
                refine lv_iconst (v := nI 1) hx hb dX1_step_281 (by decide) ?_
                exact k_zret X I hr hlocks rfl (Or.inr ⟨by decide, hcan, by
                    have hgt : σ 10 (20 * na N i + t (na N i)) ≤ σ 10 (20 * nb N i + t (nb N i)) := by
                      rw [← hxa, ← hxb]
                      exact Int32.not_lt.mp v4
                    rw [hw, kStF, if_neg b1, if_neg (fun z => b2 z.1), if_neg v2, if_pos v3, if_pos hgt, hs2, hxv]⟩) dX1_step_282
        · have v2 : (nk N i) = 2 := (nI_eq (a := (nk N i)) (b := 2) (by omega) (by omega)).mp v2
          have h2 : nTwo N i := Or.inl v2
          have hba := g7 h2
          rw [if_pos h2] at f4
          have hr3 := hr2.2 h2
          refine lv_aload_n hx hb dX1_step_154 rfl (lv_at hl 2 rfl) ?_
          refine kf_readsA X I (lv_at hl 2 rfl) dX1_step_155 dX1_step_156 ?_
          refine lv_iload_n hx hb dX1_step_159 rfl (lv_at hl 3 rfl) ?_
          refine kl_readsA X I i rfl (by omega) (v := nI (na N i)) f3 dX1_step_160 ?_
          refine k_calli X I (rest := []) (metX1_take l D c1 c2 h ad A σ (na N i) (t (na N i)) g2 a2 (by omega)) (cwX1_take X.2.2.2.2.1 rfl rfl ⟨Nat.le_of_ble_eq_true rfl, Nat.le_of_ble_eq_true rfl⟩) rfl hl.1 rfl (Nat.le_of_ble_eq_true rfl) ⟨Nat.zero_le _, Nat.zero_le _⟩ dX1_step_161 (fun xa σ1 H locs hw I => ?_)
          obtain ⟨hs1, hxa⟩ := hw
          have q4 : σ1 4 i = nI (nb N i) := by rw [hs1]; exact f4
          have q12 : σ1 12 (nb N i) = nI (t (nb N i)) := by rw [hs1]; exact (su_ne (fun z => hba z.symm)).trans e2
          have q11 : σ1 11 (nc N i) = nI (w (nc N i)) := by rw [hs1]; exact z1
          refine lv_istore (lv' := [(4, .int xa), (3, .int (nI (nc N i))), (2, .int (nI (nk N i))), (0, .ref h), (1, .int (nI i))]) hx hb dX1_step_164 hl (by decide) rfl (fun ls hl => ?_)
          refine lv_aload_n hx hb dX1_step_166 rfl (lv_at hl 3 rfl) ?_
          refine kf_readsB X I (lv_at hl 3 rfl) dX1_step_167 dX1_step_168 ?_
          refine lv_iload_n hx hb dX1_step_171 rfl (lv_at hl 4 rfl) ?_
          refine kl_readsB X I i rfl (by omega) (v := nI (nb N i)) q4 dX1_step_172 ?_
          refine k_calli X I (rest := []) (metX1_take l D c1 c2 h ad A σ1 (nb N i) (t (nb N i)) g6 q12 (by omega)) (cwX1_take X.2.2.2.2.1 rfl rfl ⟨Nat.le_of_ble_eq_true rfl, Nat.le_of_ble_eq_true rfl⟩) rfl hl.1 rfl (Nat.le_of_ble_eq_true rfl) ⟨Nat.zero_le _, Nat.zero_le _⟩ dX1_step_173 (fun xb σ2 H locs hw I => ?_)
          obtain ⟨hs2, hxb⟩ := hw
          have q11b : σ2 11 (nc N i) = nI (w (nc N i)) := by rw [hs2]; exact q11
          refine lv_istore (lv' := [(5, .int xb), (4, .int xa), (3, .int (nI (nc N i))), (2, .int (nI (nk N i))), (0, .ref h), (1, .int (nI i))]) hx hb dX1_step_176 hl (by decide) rfl (fun ls hl => ?_)
          refine lv_aload_n hx hb dX1_step_178 rfl (lv_at hl 4 rfl) ?_
          refine lv_iload_n hx hb dX1_step_179 rfl (lv_at hl 2 rfl) ?_
          refine lv_iload hx hb dX1_step_180 (lv_at hl 1 rfl) ?_
          refine lv_iload hx hb dX1_step_182 (lv_at hl 0 rfl) ?_
          refine lv_iadd hx hb dX1_step_184 ?_
          refine k_callv X I (rest := []) (metX1_put l D c1 c2 h ad A σ2 (nc N i) (w (nc N i)) (xa + xb) g3 q11b hc20) (cwX1_put X.2.2.2.2.1 rfl rfl ⟨Nat.le_of_ble_eq_true rfl, Nat.le_of_ble_eq_true rfl⟩) rfl hl.1 rfl (Nat.le_of_ble_eq_true rfl) ⟨Nat.zero_le _, Nat.zero_le _⟩ dX1_step_185 (fun σ3 H locs hw I => ?_)
          refine lv_goto (tgt := 281) hx hb dX1_step_188 (by decide) ?_
          refine lv_iconst (v := nI 1) hx hb dX1_step_281 (by decide) ?_
          exact k_zret X I hr hlocks rfl (Or.inr ⟨by decide, hcan, by
              rw [hw, kStF, if_neg b1, if_neg (fun z => b2 z.1), if_pos v2, hs2, hxa, hxb, hs1]
              rfl⟩) dX1_step_282
      · have b2 : (nk N i) = 3 := (nI_eq (a := (nk N i)) (b := 3) (by omega) (by omega)).mp b2
        refine kf_phase X I (lv_at hl 2 rfl) dX1_step_119 dX1_step_120 ?_
        refine lv_iload_n hx hb dX1_step_123 rfl (lv_at hl 3 rfl) ?_
        refine kl_phase X I i rfl (by omega) (v := nI (ph i)) y1 dX1_step_124 ?_
        refine lv_if_ne (tgt := 149) hx hb dX1_step_125 (by decide) (fun b3 => ?_) (fun b3 => ?_)
        · have b3 : ¬ (ph i) = 0 := fun q => b3 ((nI_eq (a := (ph i)) (b := 0) (by omega) (by omega)).mpr q)
          have hr2 := hr1.resolve_left (fun z => b3 z.2)
          refine lv_iload_n hx hb dX1_step_149 rfl (lv_at hl 1 rfl) ?_
          refine lv_iconst (v := nI 2) hx hb dX1_step_150 (by decide) ?_
          refine lv_icmp_ne (tgt := 191) hx hb dX1_step_151 (by decide) (fun v2 => ?_) (fun v2 => ?_)
          · have v2 : ¬ (nk N i) = 2 := fun q => v2 ((nI_eq (a := (nk N i)) (b := 2) (by omega) (by omega)).mpr q)
            refine lv_iload_n hx hb dX1_step_191 rfl (lv_at hl 1 rfl) ?_
            refine lv_iconst (v := nI 5) hx hb dX1_step_192 (by decide) ?_
            refine lv_icmp_ne (tgt := 262) hx hb dX1_step_193 (by decide) (fun v3 => ?_) (fun v3 => ?_)
            · have v3 : ¬ (nk N i) = 5 := fun q => v3 ((nI_eq (a := (nk N i)) (b := 5) (by omega) (by omega)).mpr q)
              refine lv_aload_n hx hb dX1_step_262 rfl (lv_at hl 2 rfl) ?_
              refine kf_readsA X I (lv_at hl 2 rfl) dX1_step_263 dX1_step_264 ?_
              refine lv_iload_n hx hb dX1_step_267 rfl (lv_at hl 3 rfl) ?_
              refine kl_readsA X I i rfl (by omega) (v := nI (na N i)) f3 dX1_step_268 ?_
              refine k_calli X I (rest := []) (metX1_take l D c1 c2 h ad A σ (na N i) (t (na N i)) g2 a2 (by omega)) (cwX1_take X.2.2.2.2.1 rfl rfl ⟨Nat.le_of_ble_eq_true rfl, Nat.le_of_ble_eq_true rfl⟩) rfl hl.1 rfl (Nat.le_of_ble_eq_true rfl) ⟨Nat.zero_le _, Nat.zero_le _⟩ dX1_step_269 (fun xa σ1 H locs hw I => ?_)
              obtain ⟨hs1, hxa⟩ := hw
              refine lv_istore (lv' := [(4, .int xa), (3, .int (nI (nc N i))), (2, .int (nI (nk N i))), (0, .ref h), (1, .int (nI i))]) hx hb dX1_step_272 hl (by decide) rfl (fun ls hl => ?_)
              refine lv_aload_n hx hb dX1_step_274 rfl (lv_at hl 3 rfl) ?_
              refine lv_iload_n hx hb dX1_step_275 rfl (lv_at hl 4 rfl) ?_
              refine lv_iload hx hb dX1_step_276 (lv_at hl 0 rfl) ?_
              refine k_callv X I (rest := []) (metX1_stepOne l D c1 c2 h ad A σ1 (nk N i) i (nc N i) (nd N i) (w (nc N i)) (ph i) (nP N i) xa (by omega) (by omega) g3 g4 hc20 y2 (by rw [hs1]; exact f2) (by rw [hs1]; exact f5) (fun q => by
                      rw [hs1]
                      exact ⟨f6.trans (if_pos q), fun z => g8 q z.symm, by
                        rw [← hLk i hi q]
                        exact (hR (nd N i) g4).1⟩) (by rw [hs1]; exact f7) (by rw [hs1]; exact z1) (by rw [hs1]; exact y1)) (cwX1_stepOne X.2.2.2.2.1 rfl rfl ⟨Nat.le_of_ble_eq_true rfl, Nat.le_of_ble_eq_true rfl⟩) rfl hl.1 rfl (Nat.le_of_ble_eq_true rfl) ⟨Nat.zero_le _, Nat.zero_le _⟩ dX1_step_278 (fun σ2 H locs hw I => ?_)
              refine lv_iconst (v := nI 1) hx hb dX1_step_281 (by decide) ?_
              exact k_zret X I hr hlocks rfl (Or.inr ⟨by decide, hcan, by
                  rw [hw, kStF, if_neg b1, if_neg (fun z => b3 z.2), if_neg v2, if_neg v3, hs1, hxa]⟩) dX1_step_282
            · have v3 : (nk N i) = 5 := (nI_eq (a := (nk N i)) (b := 5) (by omega) (by omega)).mp v3
              have h2 : nTwo N i := Or.inr v3
              have hba := g7 h2
              rw [if_pos h2] at f4
              have hr3 := hr2.2 h2
              refine lv_aload_n hx hb dX1_step_196 rfl (lv_at hl 2 rfl) ?_
              refine kf_readsA X I (lv_at hl 2 rfl) dX1_step_197 dX1_step_198 ?_
              refine lv_iload_n hx hb dX1_step_201 rfl (lv_at hl 3 rfl) ?_
              refine kl_readsA X I i rfl (by omega) (v := nI (na N i)) f3 dX1_step_202 ?_
              refine k_calli X I (rest := []) (metX1_peek l D c1 c2 h ad A σ (na N i) (t (na N i)) g2 a2 (by omega)) (cwX1_peek X.2.2.2.2.1 rfl rfl ⟨Nat.le_of_ble_eq_true rfl, Nat.le_of_ble_eq_true rfl⟩) rfl hl.1 rfl (Nat.le_of_ble_eq_true rfl) ⟨Nat.zero_le _, Nat.zero_le _⟩ dX1_step_203 (fun xa σ1 H locs hxa I => ?_)
              obtain ⟨hs, hxa⟩ := hxa
              rw [hs] at I
              refine lv_aload_n hx hb dX1_step_206 rfl (lv_at hl 2 rfl) ?_
              refine kf_readsB X I (lv_at hl 2 rfl) dX1_step_207 dX1_step_208 ?_
              refine lv_iload_n hx hb dX1_step_211 rfl (lv_at hl 3 rfl) ?_
              refine kl_readsB X I i rfl (by omega) (v := nI (nb N i)) f4 dX1_step_212 ?_
              refine k_calli X I (rest := [.int xa]) (metX1_peek l D c1 c2 h ad A σ (nb N i) (t (nb N i)) g6 e2 (by omega)) (cwX1_peek X.2.2.2.2.1 rfl rfl ⟨Nat.le_of_ble_eq_true rfl, Nat.le_of_ble_eq_true rfl⟩) rfl hl.1 rfl (Nat.le_of_ble_eq_true rfl) ⟨Nat.zero_le _, Nat.zero_le _⟩ dX1_step_213 (fun xb σ1 H locs hxb I => ?_)
              obtain ⟨hs, hxb⟩ := hxb
              rw [hs] at I
              refine lv_icmp_gt (tgt := 223) hx hb dX1_step_216 (by decide) (fun v4 => ?_) (fun v4 => ?_)
              · refine lv_iconst (v := nI 0) hx hb dX1_step_223 (by decide) ?_
                refine lv_istore (lv' := [(4, .int (nI 0)), (3, .int (nI (nc N i))), (2, .int (nI (nk N i))), (0, .ref h), (1, .int (nI i))]) hx hb dX1_step_224 hl (by decide) rfl (fun ls hl => ?_)
                refine lv_aload_n hx hb dX1_step_226 rfl (lv_at hl 3 rfl) ?_
                refine lv_iload hx hb dX1_step_227 (lv_at hl 0 rfl) ?_
                refine lv_if_eq (tgt := 241) hx hb dX1_step_229 (by decide) (fun v5 => ?_) (fun v5 => ?_)
                · refine kf_readsB X I (lv_at hl 3 rfl) dX1_step_241 dX1_step_242 ?_
                  refine lv_iload_n hx hb dX1_step_245 rfl (lv_at hl 4 rfl) ?_
                  refine kl_readsB X I i rfl (by omega) (v := nI (nb N i)) f4 dX1_step_246 ?_
                  refine k_calli X I (rest := []) (metX1_take l D c1 c2 h ad A σ (nb N i) (t (nb N i)) g6 e2 (by omega)) (cwX1_take X.2.2.2.2.1 rfl rfl ⟨Nat.le_of_ble_eq_true rfl, Nat.le_of_ble_eq_true rfl⟩) rfl hl.1 rfl (Nat.le_of_ble_eq_true rfl) ⟨Nat.zero_le _, Nat.zero_le _⟩ dX1_step_247 (fun xv σ2 H locs hw I => ?_)
                  obtain ⟨hs2, hxv⟩ := hw
                  have q11b : σ2 11 (nc N i) = nI (w (nc N i)) := by rw [hs2]; exact z1
                  refine lv_istore (lv' := [(5, .int xv), (4, .int (nI 0)), (3, .int (nI (nc N i))), (2, .int (nI (nk N i))), (0, .ref h), (1, .int (nI i))]) hx hb dX1_step_250 hl (by decide) rfl (fun ls hl => ?_)
                  refine lv_aload_n hx hb dX1_step_252 rfl (lv_at hl 4 rfl) ?_
                  refine lv_iload_n hx hb dX1_step_253 rfl (lv_at hl 2 rfl) ?_
                  refine lv_iload hx hb dX1_step_254 (lv_at hl 0 rfl) ?_
                  refine k_callv X I (rest := []) (metX1_put l D c1 c2 h ad A σ2 (nc N i) (w (nc N i)) xv g3 q11b hc20) (cwX1_put X.2.2.2.2.1 rfl rfl ⟨Nat.le_of_ble_eq_true rfl, Nat.le_of_ble_eq_true rfl⟩) rfl hl.1 rfl (Nat.le_of_ble_eq_true rfl) ⟨Nat.zero_le _, Nat.zero_le _⟩ dX1_step_256 (fun σ3 H locs hw I => ?_)
                  refine lv_goto (tgt := 281) hx hb dX1_step_259 (by decide) ?_
                  refine lv_iconst (v := nI 1) hx hb dX1_step_281 (by decide) ?_
                  exact k_zret X I hr hlocks rfl (Or.inr ⟨by decide, hcan, by
                      have hgt : ¬ σ 10 (20 * na N i + t (na N i)) ≤ σ 10 (20 * nb N i + t (nb N i)) := by
                        rw [← hxa, ← hxb]
                        exact Int32.not_le.mpr v4
                      rw [hw, kStF, if_neg b1, if_neg (fun z => b3 z.2), if_neg v2, if_pos v3, if_neg hgt, hs2, hxv]⟩) dX1_step_282
                · exact absurd (by decide) v5
              · refine lv_iconst (v := nI 1) hx hb dX1_step_219 (by decide) ?_
                refine lv_goto (tgt := 224) hx hb dX1_step_220 (by decide) ?_
                refine lv_istore (lv' := [(4, .int (nI 1)), (3, .int (nI (nc N i))), (2, .int (nI (nk N i))), (0, .ref h), (1, .int (nI i))]) hx hb dX1_step_224 hl (by decide) rfl (fun ls hl => ?_)
                refine lv_aload_n hx hb dX1_step_226 rfl (lv_at hl 3 rfl) ?_
                refine lv_iload hx hb dX1_step_227 (lv_at hl 0 rfl) ?_
                refine lv_if_eq (tgt := 241) hx hb dX1_step_229 (by decide) (fun v5 => ?_) (fun v5 => ?_)
                · exact absurd v5 (by decide)
                · refine kf_readsA X I (lv_at hl 3 rfl) dX1_step_232 dX1_step_233 ?_
                  refine lv_iload_n hx hb dX1_step_236 rfl (lv_at hl 4 rfl) ?_
                  refine kl_readsA X I i rfl (by omega) (v := nI (na N i)) f3 dX1_step_237 ?_
                  refine lv_goto (tgt := 247) hx hb dX1_step_238 (by decide) ?_
                  refine k_calli X I (rest := []) (metX1_take l D c1 c2 h ad A σ (na N i) (t (na N i)) g2 a2 (by omega)) (cwX1_take X.2.2.2.2.1 rfl rfl ⟨Nat.le_of_ble_eq_true rfl, Nat.le_of_ble_eq_true rfl⟩) rfl hl.1 rfl (Nat.le_of_ble_eq_true rfl) ⟨Nat.zero_le _, Nat.zero_le _⟩ dX1_step_247 (fun xv σ2 H locs hw I => ?_)
                  obtain ⟨hs2, hxv⟩ := hw
                  have q11b : σ2 11 (nc N i) = nI (w (nc N i)) := by rw [hs2]; exact z1
                  refine lv_istore (lv' := [(5, .int xv), (4, .int (nI 1)), (3, .int (nI (nc N i))), (2, .int (nI (nk N i))), (0, .ref h), (1, .int (nI i))]) hx hb dX1_step_250 hl (by decide) rfl (fun ls hl => ?_)
                  refine lv_aload_n hx hb dX1_step_252 rfl (lv_at hl 4 rfl) ?_
                  refine lv_iload_n hx hb dX1_step_253 rfl (lv_at hl 2 rfl) ?_
                  refine lv_iload hx hb dX1_step_254 (lv_at hl 0 rfl) ?_
                  refine k_callv X I (rest := []) (metX1_put l D c1 c2 h ad A σ2 (nc N i) (w (nc N i)) xv g3 q11b hc20) (cwX1_put X.2.2.2.2.1 rfl rfl ⟨Nat.le_of_ble_eq_true rfl, Nat.le_of_ble_eq_true rfl⟩) rfl hl.1 rfl (Nat.le_of_ble_eq_true rfl) ⟨Nat.zero_le _, Nat.zero_le _⟩ dX1_step_256 (fun σ3 H locs hw I => ?_)
                  refine lv_goto (tgt := 281) hx hb dX1_step_259 (by decide) ?_
                  refine lv_iconst (v := nI 1) hx hb dX1_step_281 (by decide) ?_
                  exact k_zret X I hr hlocks rfl (Or.inr ⟨by decide, hcan, by
                      have hgt : σ 10 (20 * na N i + t (na N i)) ≤ σ 10 (20 * nb N i + t (nb N i)) := by
                        rw [← hxa, ← hxb]
                        exact Int32.not_lt.mp v4
                      rw [hw, kStF, if_neg b1, if_neg (fun z => b3 z.2), if_neg v2, if_pos v3, if_pos hgt, hs2, hxv]⟩) dX1_step_282
          · have v2 : (nk N i) = 2 := (nI_eq (a := (nk N i)) (b := 2) (by omega) (by omega)).mp v2
            have h2 : nTwo N i := Or.inl v2
            have hba := g7 h2
            rw [if_pos h2] at f4
            have hr3 := hr2.2 h2
            refine lv_aload_n hx hb dX1_step_154 rfl (lv_at hl 2 rfl) ?_
            refine kf_readsA X I (lv_at hl 2 rfl) dX1_step_155 dX1_step_156 ?_
            refine lv_iload_n hx hb dX1_step_159 rfl (lv_at hl 3 rfl) ?_
            refine kl_readsA X I i rfl (by omega) (v := nI (na N i)) f3 dX1_step_160 ?_
            refine k_calli X I (rest := []) (metX1_take l D c1 c2 h ad A σ (na N i) (t (na N i)) g2 a2 (by omega)) (cwX1_take X.2.2.2.2.1 rfl rfl ⟨Nat.le_of_ble_eq_true rfl, Nat.le_of_ble_eq_true rfl⟩) rfl hl.1 rfl (Nat.le_of_ble_eq_true rfl) ⟨Nat.zero_le _, Nat.zero_le _⟩ dX1_step_161 (fun xa σ1 H locs hw I => ?_)
            obtain ⟨hs1, hxa⟩ := hw
            have q4 : σ1 4 i = nI (nb N i) := by rw [hs1]; exact f4
            have q12 : σ1 12 (nb N i) = nI (t (nb N i)) := by rw [hs1]; exact (su_ne (fun z => hba z.symm)).trans e2
            have q11 : σ1 11 (nc N i) = nI (w (nc N i)) := by rw [hs1]; exact z1
            refine lv_istore (lv' := [(4, .int xa), (3, .int (nI (nc N i))), (2, .int (nI (nk N i))), (0, .ref h), (1, .int (nI i))]) hx hb dX1_step_164 hl (by decide) rfl (fun ls hl => ?_)
            refine lv_aload_n hx hb dX1_step_166 rfl (lv_at hl 3 rfl) ?_
            refine kf_readsB X I (lv_at hl 3 rfl) dX1_step_167 dX1_step_168 ?_
            refine lv_iload_n hx hb dX1_step_171 rfl (lv_at hl 4 rfl) ?_
            refine kl_readsB X I i rfl (by omega) (v := nI (nb N i)) q4 dX1_step_172 ?_
            refine k_calli X I (rest := []) (metX1_take l D c1 c2 h ad A σ1 (nb N i) (t (nb N i)) g6 q12 (by omega)) (cwX1_take X.2.2.2.2.1 rfl rfl ⟨Nat.le_of_ble_eq_true rfl, Nat.le_of_ble_eq_true rfl⟩) rfl hl.1 rfl (Nat.le_of_ble_eq_true rfl) ⟨Nat.zero_le _, Nat.zero_le _⟩ dX1_step_173 (fun xb σ2 H locs hw I => ?_)
            obtain ⟨hs2, hxb⟩ := hw
            have q11b : σ2 11 (nc N i) = nI (w (nc N i)) := by rw [hs2]; exact q11
            refine lv_istore (lv' := [(5, .int xb), (4, .int xa), (3, .int (nI (nc N i))), (2, .int (nI (nk N i))), (0, .ref h), (1, .int (nI i))]) hx hb dX1_step_176 hl (by decide) rfl (fun ls hl => ?_)
            refine lv_aload_n hx hb dX1_step_178 rfl (lv_at hl 4 rfl) ?_
            refine lv_iload_n hx hb dX1_step_179 rfl (lv_at hl 2 rfl) ?_
            refine lv_iload hx hb dX1_step_180 (lv_at hl 1 rfl) ?_
            refine lv_iload hx hb dX1_step_182 (lv_at hl 0 rfl) ?_
            refine lv_iadd hx hb dX1_step_184 ?_
            refine k_callv X I (rest := []) (metX1_put l D c1 c2 h ad A σ2 (nc N i) (w (nc N i)) (xa + xb) g3 q11b hc20) (cwX1_put X.2.2.2.2.1 rfl rfl ⟨Nat.le_of_ble_eq_true rfl, Nat.le_of_ble_eq_true rfl⟩) rfl hl.1 rfl (Nat.le_of_ble_eq_true rfl) ⟨Nat.zero_le _, Nat.zero_le _⟩ dX1_step_185 (fun σ3 H locs hw I => ?_)
            refine lv_goto (tgt := 281) hx hb dX1_step_188 (by decide) ?_
            refine lv_iconst (v := nI 1) hx hb dX1_step_281 (by decide) ?_
            exact k_zret X I hr hlocks rfl (Or.inr ⟨by decide, hcan, by
                rw [hw, kStF, if_neg b1, if_neg (fun z => b3 z.2), if_pos v2, hs2, hxa, hxb, hs1]
                rfl⟩) dX1_step_282
        · have b3 : (ph i) = 0 := (nI_eq (a := (ph i)) (b := 0) (by omega) (by omega)).mp b3
          refine kf_phase X I (lv_at hl 2 rfl) dX1_step_128 dX1_step_129 ?_
          refine lv_iload_n hx hb dX1_step_132 rfl (lv_at hl 3 rfl) ?_
          refine lv_iconst (v := nI 1) hx hb dX1_step_133 (by decide) ?_
          refine ks_phase X I i rfl (by omega) (n8_nI _ (by omega)) dX1_step_134 (fun H locs I => ?_)
          refine lv_aload_n hx hb dX1_step_135 rfl (lv_at hl 2 rfl) ?_
          refine lv_iload_n hx hb dX1_step_136 rfl (lv_at hl 0 rfl) ?_
          refine kf_numberP X I (lv_at hl 2 rfl) dX1_step_137 dX1_step_138 ?_
          refine lv_iload_n hx hb dX1_step_141 rfl (lv_at hl 3 rfl) ?_
          refine kl_numberP X I i rfl (by omega) (v := nP N i) f7 dX1_step_142 ?_
          refine k_callv X I (rest := []) (metX1_put l D c1 c2 h ad A (su σ 15 i (nI 1)) (nc N i) (w (nc N i)) (nP N i) g3 z1 hc20) (cwX1_put X.2.2.2.2.1 rfl rfl ⟨Nat.le_of_ble_eq_true rfl, Nat.le_of_ble_eq_true rfl⟩) rfl hl.1 rfl (Nat.le_of_ble_eq_true rfl) ⟨Nat.zero_le _, Nat.zero_le _⟩ dX1_step_143 (fun σ1 H locs hw I => ?_)
          refine lv_goto (tgt := 281) hx hb dX1_step_146 (by decide) ?_
          refine lv_iconst (v := nI 1) hx hb dX1_step_281 (by decide) ?_
          exact k_zret X I hr hlocks rfl (Or.inr ⟨by decide, hcan, by rw [hw, kStF, if_neg b1, if_pos ⟨b2, b3⟩]⟩) dX1_step_282
    · have b1 : (nk N i) = 0 := (nI_eq (a := (nk N i)) (b := 0) (by omega) (by omega)).mp b1
      obtain ⟨y1, y2⟩ := (hPr i hi).2 b1
      obtain ⟨f8a, f8b⟩ := f8 b1
      have hm0 := hr0 b1
      refine kf_phase X I (lv_at hl 2 rfl) dX1_step_65 dX1_step_66 ?_
      refine lv_iload_n hx hb dX1_step_69 rfl (lv_at hl 3 rfl) ?_
      refine kl_phase X I i rfl (by omega) (v := nI (nb N i)) f8b dX1_step_70 ?_
      refine kf_memory X I (lv_at hl 2 rfl) dX1_step_71 dX1_step_72 ?_
      refine lv_iload_n hx hb dX1_step_75 rfl (lv_at hl 3 rfl) ?_
      refine kl_memory X I i rfl (by omega) (v := nI (mm i)) y1 dX1_step_76 ?_
      refine lv_isub hx hb dX1_step_77 ?_
      refine kv_top (pk_sub y2) ?_
      refine lv_istore (lv' := [(4, .int (nI (nb N i - mm i))), (3, .int (nI (nc N i))), (2, .int (nI (nk N i))), (0, .ref h), (1, .int (nI i))]) hx hb dX1_step_78 hl (by decide) rfl (fun ls hl => ?_)
      refine kf_memory X I (lv_at hl 3 rfl) dX1_step_80 dX1_step_81 ?_
      refine lv_iload_n hx hb dX1_step_84 rfl (lv_at hl 4 rfl) ?_
      refine lv_dup2_11 hx hb dX1_step_85 rfl rfl ?_
      refine kl_memory X I i rfl (by omega) (v := nI (mm i)) y1 dX1_step_86 ?_
      refine lv_iconst (v := nI 1) hx hb dX1_step_87 (by decide) ?_
      refine lv_isub hx hb dX1_step_88 ?_
      refine kv_top (pk_sub hm0) ?_
      refine ks_memory X I i rfl (by omega) dX1_step_89 (fun H locs I => ?_)
      refine lv_aload_n hx hb dX1_step_90 rfl (lv_at hl 3 rfl) ?_
      refine lv_iload_n hx hb dX1_step_91 rfl (lv_at hl 1 rfl) ?_
      refine kf_numberP X I (lv_at hl 3 rfl) dX1_step_92 dX1_step_93 ?_
      refine lv_iload_n hx hb dX1_step_96 rfl (lv_at hl 4 rfl) ?_
      refine kl_numberP X I i rfl (by omega) (v := nP N i) f7 dX1_step_97 ?_
      refine lv_iload hx hb dX1_step_98 (lv_at hl 0 rfl) ?_
      refine kf_numberQ X I (lv_at hl 3 rfl) dX1_step_100 dX1_step_101 ?_
      refine lv_iload_n hx hb dX1_step_104 rfl (lv_at hl 4 rfl) ?_
      refine kl_numberQ X I i rfl (by omega) (v := nQ N i) f8a dX1_step_105 ?_
      refine lv_imul hx hb dX1_step_106 ?_
      refine lv_iadd hx hb dX1_step_107 ?_
      refine k_callv X I (rest := []) (metX1_put l D c1 c2 h ad A (su σ 14 i (nI (mm i - 1))) (nc N i) (w (nc N i)) ((nP N i) + ((nI (nb N i - mm i)) * (nQ N i))) g3 z1 hc20) (cwX1_put X.2.2.2.2.1 rfl rfl ⟨Nat.le_of_ble_eq_true rfl, Nat.le_of_ble_eq_true rfl⟩) rfl hl.1 rfl (Nat.le_of_ble_eq_true rfl) ⟨Nat.zero_le _, Nat.zero_le _⟩ dX1_step_108 (fun σ1 H locs hw I => ?_)
      refine lv_goto (tgt := 281) hx hb dX1_step_111 (by decide) ?_
      refine lv_iconst (v := nI 1) hx hb dX1_step_281 (by decide) ?_
      exact k_zret X I hr hlocks rfl (Or.inr ⟨by decide, hcan, by rw [hw, kStF, if_pos b1]⟩) dX1_step_282
  refine lv_aload_n hx hb dX1_step_0 rfl (lv_at hl 0 rfl) ?_
  refine lv_iload_n hx hb dX1_step_1 rfl (lv_at hl 1 rfl) ?_
  refine k_calli X I (rest := []) (metX1_isReady l D c1 c2 h ad A σ N w t rr ph mm hN hR hPr i hi) (cwX1_isReady X.2.2.2.2.1 rfl rfl ⟨Nat.le_of_ble_eq_true rfl, Nat.le_of_ble_eq_true rfl⟩) rfl hl.1 rfl (Nat.le_of_ble_eq_true rfl) ⟨Nat.zero_le _, Nat.zero_le _⟩ dX1_step_2 (fun r1 σ1 H locs hw I => ?_)
  obtain ⟨hs, hw⟩ := hw
  rw [hs] at I
  refine lv_if_eq (tgt := 21) hx hb dX1_step_5 (by decide) (fun b1 => ?_) (fun b1 => ?_)
  · refine lv_iconst (v := nI 0) hx hb dX1_step_21 (by decide) ?_
    exact k_zret X I hr hlocks rfl (Or.inl ⟨by decide, rfl, fun q => vB_eq0 hw b1 q.1⟩) dX1_step_22
  · have hw := vB_ne0 hw b1
    refine lv_aload_n hx hb dX1_step_8 rfl (lv_at hl 0 rfl) ?_
    refine kf_writesC X I (lv_at hl 0 rfl) dX1_step_9 dX1_step_10 ?_
    refine lv_iload_n hx hb dX1_step_13 rfl (lv_at hl 1 rfl) ?_
    refine kl_writesC X I i rfl (by omega) (v := nI (nc N i)) f5 dX1_step_14 ?_
    refine k_calli X I (rest := []) (metX1_hasRoom l D c1 c2 h ad A σ N w t rr hN hR (nc N i) g3) (cwX1_hasRoom X.2.2.2.2.1 rfl rfl ⟨Nat.le_of_ble_eq_true rfl, Nat.le_of_ble_eq_true rfl⟩) rfl hl.1 rfl (Nat.le_of_ble_eq_true rfl) ⟨Nat.zero_le _, Nat.zero_le _⟩ dX1_step_15 (fun r2 σ1 H locs hv I => ?_)
    obtain ⟨hs, hv⟩ := hv
    rw [hs] at I
    refine lv_if_ne (tgt := 23) hx hb dX1_step_18 (by decide) (fun b2 => ?_) (fun b2 => ?_)
    · have hv := vB_ne0 hv b2
      by_cases h1 : nk N i = 1
      · rw [if_pos h1] at f6
        refine kf_writesD X I (lv_at hl 0 rfl) dX1_step_23 dX1_step_24 ?_
        refine lv_iload_n hx hb dX1_step_27 rfl (lv_at hl 1 rfl) ?_
        refine kl_writesD X I i rfl (by omega) (v := nI (nd N i)) f6 dX1_step_28 ?_
        refine lv_if_lt (tgt := 47) hx hb dX1_step_29 (by decide) (fun b3 => ?_) (fun b3 => ?_)
        · exact absurd b3 (nI_pos (by omega))
        · refine lv_aload_n hx hb dX1_step_32 rfl (lv_at hl 0 rfl) ?_
          refine kf_writesD X I (lv_at hl 0 rfl) dX1_step_33 dX1_step_34 ?_
          refine lv_iload_n hx hb dX1_step_37 rfl (lv_at hl 1 rfl) ?_
          refine kl_writesD X I i rfl (by omega) (v := nI (nd N i)) f6 dX1_step_38 ?_
          refine k_calli X I (rest := []) (metX1_hasRoom l D c1 c2 h ad A σ N w t rr hN hR (nd N i) g4) (cwX1_hasRoom X.2.2.2.2.1 rfl rfl ⟨Nat.le_of_ble_eq_true rfl, Nat.le_of_ble_eq_true rfl⟩) rfl hl.1 rfl (Nat.le_of_ble_eq_true rfl) ⟨Nat.zero_le _, Nat.zero_le _⟩ dX1_step_39 (fun r3 σ1 H locs hu I => ?_)
          obtain ⟨hs, hu⟩ := hu
          rw [hs] at I
          refine lv_if_ne (tgt := 47) hx hb dX1_step_42 (by decide) (fun b4 => ?_) (fun b4 => ?_)
          · refine kf_kinds X I (lv_at hl 0 rfl) dX1_step_47 dX1_step_48 ?_
            refine lv_iload_n hx hb dX1_step_51 rfl (lv_at hl 1 rfl) ?_
            refine kl_kinds X I i rfl (by omega) (v := nI (nk N i)) f2 dX1_step_52 ?_
            refine lv_istore_n (lv' := [(2, .int (nI (nk N i))), (0, .ref h), (1, .int (nI i))]) hx hb dX1_step_53 rfl hl (by decide) rfl (fun ls hl => ?_)
            refine kf_writesC X I (lv_at hl 1 rfl) dX1_step_54 dX1_step_55 ?_
            refine lv_iload_n hx hb dX1_step_58 rfl (lv_at hl 2 rfl) ?_
            refine kl_writesC X I i rfl (by omega) (v := nI (nc N i)) f5 dX1_step_59 ?_
            refine lv_istore_n (lv' := [(3, .int (nI (nc N i))), (2, .int (nI (nk N i))), (0, .ref h), (1, .int (nI i))]) hx hb dX1_step_60 rfl hl (by decide) rfl (fun ls hl => ?_)
            exact fire ⟨hw, hv, fun _ => vB_ne0 hu b4⟩ _ _ I ls hl
          · refine lv_iconst (v := nI 0) hx hb dX1_step_45 (by decide) ?_
            exact k_zret X I hr hlocks rfl (Or.inl ⟨by decide, rfl, fun q => vB_eq0 hu b4 (q.2.2 h1)⟩) dX1_step_46
      · rw [if_neg h1] at f6
        refine kf_writesD X I (lv_at hl 0 rfl) dX1_step_23 dX1_step_24 ?_
        refine lv_iload_n hx hb dX1_step_27 rfl (lv_at hl 1 rfl) ?_
        refine kl_writesD X I i rfl (by omega) (v := -1) f6 dX1_step_28 ?_
        refine lv_if_lt (tgt := 47) hx hb dX1_step_29 (by decide) (fun b3 => ?_) (fun b3 => ?_)
        · refine kf_kinds X I (lv_at hl 0 rfl) dX1_step_47 dX1_step_48 ?_
          refine lv_iload_n hx hb dX1_step_51 rfl (lv_at hl 1 rfl) ?_
          refine kl_kinds X I i rfl (by omega) (v := nI (nk N i)) f2 dX1_step_52 ?_
          refine lv_istore_n (lv' := [(2, .int (nI (nk N i))), (0, .ref h), (1, .int (nI i))]) hx hb dX1_step_53 rfl hl (by decide) rfl (fun ls hl => ?_)
          refine kf_writesC X I (lv_at hl 1 rfl) dX1_step_54 dX1_step_55 ?_
          refine lv_iload_n hx hb dX1_step_58 rfl (lv_at hl 2 rfl) ?_
          refine kl_writesC X I i rfl (by omega) (v := nI (nc N i)) f5 dX1_step_59 ?_
          refine lv_istore_n (lv' := [(3, .int (nI (nc N i))), (2, .int (nI (nk N i))), (0, .ref h), (1, .int (nI i))]) hx hb dX1_step_60 rfl hl (by decide) rfl (fun ls hl => ?_)
          exact fire ⟨hw, hv, fun q => absurd q h1⟩ _ _ I ls hl
        · exact absurd (by decide) b3
    · refine lv_iconst (v := nI 0) hx hb dX1_step_21 (by decide) ?_
      exact k_zret X I hr hlocks rfl (Or.inl ⟨by decide, rfl, fun q => vB_eq0 hv b2 q.2.1⟩) dX1_step_22
end
section
/-! one step of the class's run keeps the run's invariant (no program in sight) -/
def ks_sum (f : Nat → Nat) : Nat → Nat
  | 0 => 0
  | n + 1 => ks_sum f n + f n
theorem ks_sum_le {f g : Nat → Nat} : ∀ {n : Nat}, (∀ x, x < n → f x ≤ g x) → ks_sum f n ≤ ks_sum g n
  | 0, _ => Nat.le_refl _
  | n + 1, h => Nat.add_le_add (ks_sum_le (fun x hx => h x (by omega))) (h n (by omega))
theorem ks_sum_lt {f g : Nat → Nat} : ∀ {n : Nat}, (∀ x, x < n → f x ≤ g x) → (∃ x, x < n ∧ f x < g x) → ks_sum f n < ks_sum g n
  | 0, _, ⟨x, hx, _⟩ => absurd hx (by omega)
  | n + 1, h, ⟨x, hx, hlt⟩ => by
    show ks_sum f n + f n < ks_sum g n + g n
    have h1 := h n (by omega)
    by_cases hxn : x = n
    · subst hxn
      have := ks_sum_le (n := x) (fun y hy => h y (by omega))
      omega
    · have := ks_sum_lt (n := n) (fun y hy => h y (by omega)) ⟨x, by omega, hlt⟩
      omega
def kMu (w t rr : Nat → Nat) : Nat := ks_sum (fun x => (20 - w x) + (20 - t x) + (20 - rr x)) 10
/-- the streams that the cells hold -/
def kS (σ : KS) (w : Nat → Nat) : Str := fun x => (List.range (w x)).map (fun k => σ 10 (20 * x + k))
theorem kS_len (σ : KS) (w : Nat → Nat) (x : Nat) : (kS σ w x).length = w x := by simp [kS]
theorem kS_get {σ : KS} {w : Nat → Nat} {x k : Nat} (h : k < (kS σ w x).length) : (kS σ w x)[k] = σ 10 (20 * x + k) := by simp [kS]
theorem kS_congr {σ σ' : KS} {w w' : Nat → Nat} {x : Nat} (hw : w' x = w x) (h : ∀ k, k < w x → σ' 10 (20 * x + k) = σ 10 (20 * x + k)) : kS σ' w' x = kS σ w x := by
  unfold kS
  rw [hw]
  refine List.map_congr_left (fun k hk => h k (List.mem_range.mp hk))
theorem kS_snoc {σ σ' : KS} {w w' : Nat → Nat} {x : Nat} {v : Int32} (hw : w' x = w x + 1) (h : ∀ k, k < w x → σ' 10 (20 * x + k) = σ 10 (20 * x + k)) (hv : σ' 10 (20 * x + w x) = v) : kS σ' w' x = kS σ w x ++ [v] := by
  unfold kS
  rw [hw, List.range_succ, List.map_append]
  congr 1
  · exact List.map_congr_left (fun k hk => h k (List.mem_range.mp hk))
  · simp [hv]
def kInv (N : Net) (σ : KS) (w t rr ph mm : Nat → Nat) : Prop := kNet N σ ∧ kRun σ w t rr ∧ kPro N σ ph mm ∧ pl_RK N (kS σ w) t (σ 14) ph
theorem kInv_lock {N : Net} {σ : KS} {w t rr ph mm : Nat → Nat} (h : kInv N σ w t rr ph mm) : ∀ j, j < N.1 → nk N j = 1 → w (nd N j) = w (nc N j) := by
  intro j hj h1
  have := congrArg List.length (h.2.2.2.2.2.2.1 j hj h1)
  rwa [kS_len, kS_len] at this
theorem kDrop {σ : KS} {w : Nat → Nat} {X : Str} (hL : pl_Le (kS σ w) X) {x t : Nat} (hx : x < 10) (ht : t < w x) : (X x).drop t = σ 10 (20 * x + t) :: (X x).drop (t + 1) := by
  have hp := hL x hx
  have hl : t < (kS σ w x).length := by rw [kS_len]; exact ht
  have hl2 : t < (X x).length := Nat.lt_of_lt_of_le hl hp.length_le
  rw [List.drop_eq_getElem_cons hl2, ← hp.getElem hl, kS_get hl]
theorem kInv_go {N : Net} {σ σ' : KS} {w t rr ph mm w' t' ph' mm' : Nat → Nat} (h : kInv N σ w t rr ph mm) {i : Nat} (hi : i < N.1) (em : List Int32)
    (hF : ∀ f, f ≠ 10 → f ≠ 11 → f ≠ 12 → f ≠ 14 → f ≠ 15 → σ' f = σ f) (h15 : ∀ j, j < N.1 → (j ≠ i ∨ nk N i = 0) → σ' 15 j = σ 15 j) (h14 : ∀ j, j < N.1 → j ≠ i → σ' 14 j = σ 14 j)
    (hw : ∀ x, x < 10 → σ' 11 x = nI (w' x)) (ht : ∀ x, x < 10 → σ' 12 x = nI (t' x))
    (hww : ∀ x, x < 10 → nWr N i x → w' x = w x + em.length) (hwo : ∀ x, x < 10 → ¬ nWr N i x → w' x = w x)
    (hSw : ∀ x, x < 10 → nWr N i x → kS σ' w' x = kS σ w x ++ em) (hSo : ∀ x, x < 10 → ¬ nWr N i x → kS σ' w' x = kS σ w x)
    (hto : ∀ x, x < 10 → ¬ nRd N i x → t' x = t x) (htl : ∀ x, x < 10 → t x ≤ t' x ∧ t' x ≤ w x)
    (hph : ∀ j, j < N.1 → j ≠ i → ph' j = ph j) (hmm : ∀ j, j < N.1 → j ≠ i → mm' j = mm j)
    (hpi : nk N i ≠ 0 → σ' 15 i = nI (ph' i) ∧ ph' i ≤ 1) (hmi : nk N i = 0 → σ' 14 i = nI (mm' i) ∧ mm' i ≤ nb N i)
    (hlen : w (nc N i) + em.length ≤ 20)
    (hr : ∀ X, pl_Le (kS σ w) X → pl_res N i (σ 14 i) (ph i) X t = em ++ pl_res N i (σ' 14 i) (ph' i) X t')
    (hpg : em ≠ [] ∨ ∃ x, x < 10 ∧ t x < t' x) : kInv N σ' w' t' rr ph' mm' ∧ kMu w' t' rr < kMu w t rr ∧ σ' 9 = σ 9 := by
  have hlk := kInv_lock h
  obtain ⟨hN, hR, hP, hK⟩ := h
  obtain ⟨hOk, hn, hfb, hpr⟩ := hN
  have hN1 := hOk.2.1
  obtain ⟨-, -, hc, hd, -⟩ := hN1 i hi
  have hwle : ∀ x, x < 10 → w' x ≤ 20 ∧ w x ≤ w' x := by
    intro x hx
    by_cases hq : nWr N i x
    · rw [hww x hx hq]
      have : w x = w (nc N i) := by
        rcases hq with e | ⟨e1, e2⟩
        · rw [e]
        · rw [← e2]; exact hlk i hi e1
      omega
    · rw [hwo x hx hq]
      exact ⟨(hR x hx).2.2.2.2.1, Nat.le_refl _⟩
  refine ⟨⟨⟨hOk, ?_, ?_, fun j hj => ?_⟩, fun x hx => ?_, fun j hj => ?_, ?_⟩, ?_, hF 9 (by decide) (by decide) (by decide) (by decide) (by decide)⟩
  · rw [hF 1 (by decide) (by decide) (by decide) (by decide) (by decide)]; exact hn
  · rw [hF 0 (by decide) (by decide) (by decide) (by decide) (by decide)]; exact hfb
  · rw [hF 2 (by decide) (by decide) (by decide) (by decide) (by decide), hF 3 (by decide) (by decide) (by decide) (by decide) (by decide), hF 4 (by decide) (by decide) (by decide) (by decide) (by decide), hF 5 (by decide) (by decide) (by decide) (by decide) (by decide), hF 6 (by decide) (by decide) (by decide) (by decide) (by decide), hF 7 (by decide) (by decide) (by decide) (by decide) (by decide), hF 8 (by decide) (by decide) (by decide) (by decide) (by decide)]
    obtain ⟨f2, f3, f4, f5, f6, f7, f8⟩ := hpr j hj
    refine ⟨f2, f3, f4, f5, f6, f7, fun h0 => ⟨(f8 h0).1, ?_⟩⟩
    rw [h15 j hj (by
      by_cases hji : j = i
      · subst hji; exact Or.inr h0
      · exact Or.inl hji)]
    exact (f8 h0).2
  · obtain ⟨r1, r2, r3, r4, r5, r6⟩ := hR x hx
    refine ⟨hw x hx, ht x hx, ?_, ?_, (hwle x hx).1, r6⟩
    · rw [hF 13 (by decide) (by decide) (by decide) (by decide) (by decide)]; exact r3
    · have := (htl x hx).2
      have := (hwle x hx).2
      omega
  · by_cases hji : j = i
    · subst hji
      exact ⟨hpi, hmi⟩
    · rw [h15 j hj (Or.inl hji), h14 j hj hji, hph j hj hji, hmm j hj hji]
      exact hP j hj
  · refine pl_RK_step hOk hK hi em (by rw [kS_len]; exact hlen) hSw hSo hto (fun x hx => by rw [kS_len]; exact (htl x hx).2) (fun j hj hji => h14 j hj hji) (fun j hj hji _ => hph j hj hji) hr
  · refine ks_sum_lt (fun x hx => ?_) ?_
    · have := (htl x hx).1
      have := (hwle x hx).2
      omega
    · rcases hpg with q | ⟨x, hx, q⟩
      · refine ⟨nc N i, hc, ?_⟩
        have h1 := hww _ hc (Or.inl rfl)
        have h2 := (hwle _ hc).1
        have h3 := (htl _ hc).1
        have h4 : 0 < em.length := List.length_pos_iff.mpr q
        omega
      · refine ⟨x, hx, ?_⟩
        have h1 := (htl x hx).2
        have h2 := (hwle x hx).2
        have h3 := (hR x hx).2.2.2.2.1
        omega
/-- what a step does to the inner cells, ahead of what it writes -/
def kIn (N : Net) (σ σ1 : KS) (w t ph mm t' ph' mm' : Nat → Nat) (i : Nat) : Prop :=
  (∀ f, f ≠ 12 → f ≠ 14 → f ≠ 15 → σ1 f = σ f) ∧ (∀ j, j < N.1 → (j ≠ i ∨ nk N i = 0) → σ1 15 j = σ 15 j) ∧ (∀ j, j < N.1 → j ≠ i → σ1 14 j = σ 14 j) ∧ (∀ x, x < 10 → σ1 12 x = nI (t' x)) ∧ (∀ x, x < 10 → ¬ nRd N i x → t' x = t x) ∧ (∀ x, x < 10 → t x ≤ t' x ∧ t' x ≤ w x) ∧ (∀ j, j < N.1 → j ≠ i → ph' j = ph j) ∧ (∀ j, j < N.1 → j ≠ i → mm' j = mm j) ∧ (nk N i ≠ 0 → σ1 15 i = nI (ph' i) ∧ ph' i ≤ 1) ∧ (nk N i = 0 → σ1 14 i = nI (mm' i) ∧ mm' i ≤ nb N i)
def kRes (N : Net) (σ : KS) (w t ph : Nat → Nat) (i : Nat) (em : List Int32) (σ1 : KS) (ph' t' : Nat → Nat) : Prop := ∀ X, pl_Le (kS σ w) X → pl_res N i (σ 14 i) (ph i) X t = em ++ pl_res N i (σ1 14 i) (ph' i) X t'
theorem kgo_no {N : Net} {σ σ1 : KS} {w t rr ph mm t' ph' mm' : Nat → Nat} {i : Nat} (h : kInv N σ w t rr ph mm) (hi : i < N.1) (hI : kIn N σ σ1 w t ph mm t' ph' mm' i) (hr : kRes N σ w t ph i [] σ1 ph' t') (hpg : ∃ x, x < 10 ∧ t x < t' x) : kInv N σ1 w t' rr ph' mm' ∧ kMu w t' rr < kMu w t rr ∧ σ1 9 = σ 9 := by
  obtain ⟨hF, h15, h14, ht, hto, htl, hph, hmm, hpi, hmi⟩ := hI
  have hR := h.2.1
  have hS : ∀ x, x < 10 → kS σ1 w x = kS σ w x := fun x _ => kS_congr rfl (fun k _ => by rw [hF 10 (by decide) (by decide) (by decide)])
  exact kInv_go h hi [] (fun f _ _ a b c => hF f a b c) h15 h14 (fun x hx => by rw [hF 11 (by decide) (by decide) (by decide)]; exact (hR x hx).1) ht (fun _ _ _ => rfl) (fun _ _ _ => rfl) (fun x hx _ => by rw [hS x hx, List.append_nil]) (fun x hx _ => hS x hx) hto htl hph hmm hpi hmi (hR _ (h.1.1.2.1 i hi).2.2.1).2.2.2.2.1 hr (Or.inr hpg)
theorem kgo_put {N : Net} {σ σ1 : KS} {w t rr ph mm t' ph' mm' : Nat → Nat} {i : Nat} {v : Int32} (h : kInv N σ w t rr ph mm) (hi : i < N.1) (h1 : nk N i ≠ 1) (hc20 : w (nc N i) < 20) (hI : kIn N σ σ1 w t ph mm t' ph' mm' i) (hr : kRes N σ w t ph i [v] σ1 ph' t') : ∃ w', kInv N (kPut σ1 (nc N i) (w (nc N i)) v) w' t' rr ph' mm' ∧ kMu w' t' rr < kMu w t rr ∧ (kPut σ1 (nc N i) (w (nc N i)) v) 9 = σ 9 := by
  obtain ⟨hF, h15, h14, ht, hto, htl, hph, hmm, hpi, hmi⟩ := hI
  have hR := h.2.1
  have hc := (h.1.1.2.1 i hi).2.2.1
  have hiff : ∀ x, nWr N i x ↔ nc N i = x := fun x => ⟨fun q => q.elim id (fun z => absurd z.1 h1), Or.inl⟩
  have hw11 : σ1 11 = σ 11 := hF 11 (by decide) (by decide) (by decide)
  have hw10 : σ1 10 = σ 10 := hF 10 (by decide) (by decide) (by decide)
  refine ⟨fun x => if nc N i = x then w x + 1 else w x, ?_⟩
  have hst : ∀ k, k ≠ 20 * nc N i + w (nc N i) → (kPut σ1 (nc N i) (w (nc N i)) v) 10 k = σ 10 k := by
    intro k hk
    show upd (σ1 10) (20 * nc N i + w (nc N i)) v k = σ 10 k
    rw [pk_un hk, hw10]
  have hst2 : (kPut σ1 (nc N i) (w (nc N i)) v) 10 (20 * nc N i + w (nc N i)) = v := su_at σ1 10 _ v
  refine kInv_go h hi [v] (fun f a b c d e => ?_) h15 h14 (fun x hx => ?_) ht (fun x hx hq => ?_) (fun x hx hq => ?_) (fun x hx hq => ?_) (fun x hx hq => ?_) hto htl hph hmm hpi hmi hc20 hr (Or.inl (by simp))
  · unfold kPut
    rw [su_other b, su_other a]
    exact hF f c d e
  · by_cases hq : nc N i = x
    · subst hq
      rw [if_pos rfl]
      exact su_at _ _ _ _
    · rw [if_neg hq]
      show upd (σ1 11) (nc N i) (nI (w (nc N i) + 1)) x = _
      rw [pk_un (fun z => hq z.symm), hw11]
      exact (hR x hx).1
  · rw [if_pos ((hiff x).mp hq)]
    rfl
  · rw [if_neg (fun z => hq ((hiff x).mpr z))]
  · have e := (hiff x).mp hq
    subst e
    exact kS_snoc (if_pos rfl) (fun k hk => hst _ (by omega)) hst2
  · have e : ¬ nc N i = x := fun z => hq ((hiff x).mpr z)
    have := (hR x hx).2.2.2.2.1
    exact kS_congr (if_neg e) (fun k hk => hst _ (by omega))
theorem kgo_copy {N : Net} {σ σ1 : KS} {w t rr ph mm t' ph' mm' : Nat → Nat} {i : Nat} {v : Int32} (h : kInv N σ w t rr ph mm) (hi : i < N.1) (h1 : nk N i = 1) (hc20 : w (nc N i) < 20) (hI : kIn N σ σ1 w t ph mm t' ph' mm' i) (hr : kRes N σ w t ph i [v] σ1 ph' t') : ∃ w', kInv N (kPut (kPut σ1 (nc N i) (w (nc N i)) v) (nd N i) (w (nc N i)) v) w' t' rr ph' mm' ∧ kMu w' t' rr < kMu w t rr ∧ (kPut (kPut σ1 (nc N i) (w (nc N i)) v) (nd N i) (w (nc N i)) v) 9 = σ 9 := by
  have hlk := kInv_lock h i hi h1
  obtain ⟨hF, h15, h14, ht, hto, htl, hph, hmm, hpi, hmi⟩ := hI
  have hR := h.2.1
  obtain ⟨-, -, hc, hd, -, -, -, hcd⟩ := h.1.1.2.1 i hi
  have hcd := hcd h1
  have hiff : ∀ x, nWr N i x ↔ nc N i = x ∨ nd N i = x := fun x => ⟨fun q => q.elim Or.inl (fun z => Or.inr z.2), fun q => q.elim Or.inl (fun z => Or.inr ⟨h1, z⟩)⟩
  have hw11 : σ1 11 = σ 11 := hF 11 (by decide) (by decide) (by decide)
  have hw10 : σ1 10 = σ 10 := hF 10 (by decide) (by decide) (by decide)
  refine ⟨fun x => if nc N i = x ∨ nd N i = x then w x + 1 else w x, ?_⟩
  have e10 : (kPut (kPut σ1 (nc N i) (w (nc N i)) v) (nd N i) (w (nc N i)) v) 10 = upd (upd (σ1 10) (20 * nc N i + w (nc N i)) v) (20 * nd N i + w (nc N i)) v := rfl
  have hst : ∀ k, k ≠ 20 * nc N i + w (nc N i) → k ≠ 20 * nd N i + w (nc N i) → (kPut (kPut σ1 (nc N i) (w (nc N i)) v) (nd N i) (w (nc N i)) v) 10 k = σ 10 k := by
    intro k hk hk2
    rw [e10, pk_un hk2, pk_un hk, hw10]
  have hst2 : (kPut (kPut σ1 (nc N i) (w (nc N i)) v) (nd N i) (w (nc N i)) v) 10 (20 * nc N i + w (nc N i)) = v := by
    rw [e10, pk_un (by omega), pk_us]
  have hst3 : (kPut (kPut σ1 (nc N i) (w (nc N i)) v) (nd N i) (w (nc N i)) v) 10 (20 * nd N i + w (nd N i)) = v := by
    rw [hlk, e10, pk_us]
  have e11 : (kPut (kPut σ1 (nc N i) (w (nc N i)) v) (nd N i) (w (nc N i)) v) 11 = upd (upd (σ1 11) (nc N i) (nI (w (nc N i) + 1))) (nd N i) (nI (w (nc N i) + 1)) := rfl
  refine kInv_go h hi [v] (fun f a b c d e => ?_) h15 h14 (fun x hx => ?_) ht (fun x hx hq => ?_) (fun x hx hq => ?_) (fun x hx hq => ?_) (fun x hx hq => ?_) hto htl hph hmm hpi hmi hc20 hr (Or.inl (by simp))
  · unfold kPut
    rw [su_other b, su_other a, su_other b, su_other a]
    exact hF f c d e
  · rw [e11]
    by_cases hq : nd N i = x
    · subst hq
      rw [if_pos (Or.inr rfl), pk_us, hlk]
    · by_cases hq2 : nc N i = x
      · subst hq2
        rw [if_pos (Or.inl rfl), pk_un (fun z => hq z.symm), pk_us]
      · rw [if_neg (fun z => z.elim hq2 hq), pk_un (fun z => hq z.symm), pk_un (fun z => hq2 z.symm), hw11]
        exact (hR x hx).1
  · rw [if_pos ((hiff x).mp hq)]
    rfl
  · rw [if_neg (fun z => hq ((hiff x).mpr z))]
  · have hwx := (hR x hx).2.2.2.2.1
    rcases (hiff x).mp hq with e | e
    · subst e
      exact kS_snoc (if_pos (Or.inl rfl)) (fun k hk => hst _ (by omega) (by omega)) hst2
    · subst e
      exact kS_snoc (if_pos (Or.inr rfl)) (fun k hk => hst _ (by omega) (by omega)) hst3
  · have e : ¬ (nc N i = x ∨ nd N i = x) := fun z => hq ((hiff x).mpr z)
    have := (hR x hx).2.2.2.2.1
    exact kS_congr (if_neg e) (fun k hk => hst _ (by omega) (by omega))
/-! the residues, kind by kind -/
theorem res0 {N : Net} {i : Nat} {m : Int32} {ph : Nat} {X : Str} {t : Nat → Nat} (h : nk N i = 0) : pl_res N i m ph X t = pl_src (nP N i) (nQ N i) (nb N i - m.toNatClampNeg) m.toNatClampNeg := by
  unfold pl_res
  rw [h]
  rfl
theorem res_xs {N : Net} {i : Nat} {X : Str} {t : Nat → Nat} (h : nk N i ≠ 0) : pl_xs N i X t = (X (na N i)).drop (t (na N i)) := if_neg h
theorem res_ys {N : Net} {i : Nat} {X : Str} {t : Nat → Nat} (h : nTwo N i) : pl_ys N i X t = (X (nb N i)).drop (t (nb N i)) := if_pos h
theorem res1 {N : Net} {i : Nat} {m : Int32} {ph : Nat} {X : Str} {t : Nat → Nat} (h : nk N i = 1) : pl_res N i m ph X t = (X (na N i)).drop (t (na N i)) := by
  unfold pl_res
  rw [res_xs (by omega), h]
  rfl
theorem res2 {N : Net} {i : Nat} {m : Int32} {ph : Nat} {X : Str} {t : Nat → Nat} (h : nk N i = 2) : pl_res N i m ph X t = List.zipWith (fun x y => x + y) ((X (na N i)).drop (t (na N i))) ((X (nb N i)).drop (t (nb N i))) := by
  unfold pl_res
  rw [res_xs (by omega), res_ys (Or.inl h), h]
  rfl
theorem res3 {N : Net} {i : Nat} {m : Int32} {ph : Nat} {X : Str} {t : Nat → Nat} (h : nk N i = 3) : pl_res N i m ph X t = if ph = 0 then nP N i :: (X (na N i)).drop (t (na N i)) else (X (na N i)).drop (t (na N i)) := by
  unfold pl_res
  rw [res_xs (by omega), h]
  rfl
theorem res4 {N : Net} {i : Nat} {m : Int32} {ph : Nat} {X : Str} {t : Nat → Nat} (h : nk N i = 4) : pl_res N i m ph X t = ((X (na N i)).drop (t (na N i))).filter (fun x => decide (x &&& nP N i = 0)) := by
  unfold pl_res
  rw [res_xs (by omega), h]
  rfl
theorem res5 {N : Net} {i : Nat} {m : Int32} {ph : Nat} {X : Str} {t : Nat → Nat} (h : nk N i = 5) : pl_res N i m ph X t = pl_jn ((X (na N i)).drop (t (na N i))) ((X (nb N i)).drop (t (nb N i))) := by
  unfold pl_res
  rw [res_xs (by omega), res_ys (Or.inr h), h]
  rfl
theorem res6 {N : Net} {i : Nat} {m : Int32} {ph : Nat} {X : Str} {t : Nat → Nat} (h : nk N i = 6) : pl_res N i m ph X t = pl_sums m ((X (na N i)).drop (t (na N i))) := by
  unfold pl_res
  rw [res_xs (by omega), h]
  rfl
theorem res7 {N : Net} {i : Nat} {m : Int32} {ph : Nat} {X : Str} {t : Nat → Nat} (h : nk N i = 7) : pl_res N i m ph X t = pl_prs ph m ((X (na N i)).drop (t (na N i))) := by
  unfold pl_res
  rw [res_xs (by omega), h]
  rfl
end
section
/-! the step's cases -/
def nt1 (t : Nat → Nat) (a : Nat) : Nat → Nat := fun x => if x = a then t x + 1 else t x
def nup (t : Nat → Nat) (a v : Nat) : Nat → Nat := fun x => if x = a then v else t x
theorem nt1_at (t : Nat → Nat) (a : Nat) : nt1 t a a = t a + 1 := if_pos rfl
theorem nt1_ne {t : Nat → Nat} {a x : Nat} (h : x ≠ a) : nt1 t a x = t x := if_neg h
theorem nup_at (t : Nat → Nat) (a v : Nat) : nup t a v a = v := if_pos rfl
theorem nup_ne {t : Nat → Nat} {a v x : Nat} (h : x ≠ a) : nup t a v x = t x := if_neg h
theorem nt1_12 {f : Nat → Int32} {t : Nat → Nat} {a : Nat} (hR : ∀ x, x < 10 → f x = nI (t x)) : ∀ x, x < 10 → upd f a (nI (t a + 1)) x = nI (nt1 t a x) := by
  intro x hx
  by_cases hxa : x = a
  · subst hxa
    rw [nt1_at, pk_us]
  · rw [nt1_ne hxa, pk_un hxa, hR x hx]
theorem nt1_le {w t : Nat → Nat} {a : Nat} (h : ∀ x, x < 10 → t x ≤ w x) (ha : t a < w a) : ∀ x, x < 10 → t x ≤ nt1 t a x ∧ nt1 t a x ≤ w x := by
  intro x hx
  by_cases hxa : x = a
  · subst hxa
    rw [nt1_at]
    omega
  · rw [nt1_ne hxa]
    exact ⟨Nat.le_refl _, h x hx⟩
/-- a step that takes from a alone -/
theorem kIn_one {N : Net} {σ : KS} {w t rr ph mm : Nat → Nat} (h : kInv N σ w t rr ph mm) {i : Nat} (hi : i < N.1) (h0 : nk N i ≠ 0) {a : Nat} (hta : t a < w a) (hra : nRd N i a) (σ1 : KS) (ph' : Nat → Nat) (h12 : σ1 12 = upd (σ 12) a (nI (t a + 1))) (hF : ∀ f, f ≠ 12 → f ≠ 14 → f ≠ 15 → σ1 f = σ f) (h15 : ∀ j, j ≠ i → σ1 15 j = σ 15 j) (h14 : ∀ j, j ≠ i → σ1 14 j = σ 14 j) (hph : ∀ j, j ≠ i → ph' j = ph j) (hpi : σ1 15 i = nI (ph' i) ∧ ph' i ≤ 1) : kIn N σ σ1 w t ph mm (nt1 t a) ph' mm i := by
  have hR := h.2.1
  refine ⟨hF, fun j _ hj => h15 j (hj.resolve_right h0), fun j _ hj => h14 j hj, ?_, fun x hx hnr => nt1_ne (fun q => hnr (q ▸ hra)), nt1_le (fun x hx => (hR x hx).2.2.2.1) hta, fun j _ hj => hph j hj, fun _ _ _ => rfl, fun _ => hpi, fun q => absurd q h0⟩
  rw [h12]
  exact nt1_12 (fun x hx => (hR x hx).2.1)
theorem kInv_step {N : Net} {σ : KS} {w t rr ph mm : Nat → Nat} (h : kInv N σ w t rr ph mm) {i : Nat} (hi : i < N.1) (hc : kRdy N w t ph mm i) :
    ∃ w' t' ph' mm', kInv N (kStF N w t ph mm i σ) w' t' rr ph' mm' ∧ kMu w' t' rr < kMu w t rr ∧ (kStF N w t ph mm i σ) 9 = σ 9 := by
  obtain ⟨hc20, hr0, hr1⟩ := hc
  have hR := h.2.1
  have hP := h.2.2.1
  obtain ⟨g1, g2, g3, g4, g5, g6, g7, g8⟩ := h.1.1.2.1 i hi
  by_cases k0 : nk N i = 0
  · have e : kStF N w t ph mm i σ = kPut (su σ 14 i (nI (mm i - 1))) (nc N i) (w (nc N i)) (nP N i + nI (nb N i - mm i) * nQ N i) := by rw [kStF, if_pos k0]
    rw [e]
    obtain ⟨m1, m2⟩ := (hP i hi).2 k0
    have m3 := hr0 k0
    obtain ⟨w', hw'⟩ := kgo_put (σ1 := su σ 14 i (nI (mm i - 1))) (t' := t) (ph' := ph) (mm' := nup mm i (mm i - 1)) (v := nP N i + nI (nb N i - mm i) * nQ N i) h hi (by omega) hc20
      ⟨fun f _ q _ => su_other q, fun _ _ _ => rfl, fun j _ hj => su_ne hj, fun x hx => (hR x hx).2.1, fun _ _ _ => rfl, fun x hx => ⟨Nat.le_refl _, (hR x hx).2.2.2.1⟩, fun _ _ _ => rfl, fun j _ hj => nup_ne hj, fun q => absurd k0 q, fun _ => by
        rw [nup_at, su_at]
        exact ⟨rfl, by omega⟩⟩ (fun X hX => by
        rw [res0 k0, res0 k0, m1, su_at, nI_clamp (by omega), nI_clamp (by omega)]
        obtain ⟨m, hm⟩ : ∃ m, mm i = m + 1 := ⟨mm i - 1, by omega⟩
        rw [hm, Nat.add_sub_cancel, show nb N i - m = nb N i - (m + 1) + 1 from by omega]
        rfl)
    exact ⟨w', t, ph, _, hw'⟩
  have hr1 := hr1 k0
  obtain ⟨p1, p2⟩ := (hP i hi).1 k0
  have g6 := g6 k0
  by_cases k3 : nk N i = 3 ∧ ph i = 0
  · have e : kStF N w t ph mm i σ = kPut (su σ 15 i (nI 1)) (nc N i) (w (nc N i)) (nP N i) := by rw [kStF, if_neg k0, if_pos k3]
    rw [e]
    obtain ⟨w', hw'⟩ := kgo_put (σ1 := su σ 15 i (nI 1)) (t' := t) (ph' := nup ph i 1) (mm' := mm) (v := nP N i) h hi (by omega) hc20
      ⟨fun f _ _ q => su_other q, fun j _ hj => su_ne (hj.resolve_right k0), fun _ _ _ => rfl, fun x hx => (hR x hx).2.1, fun _ _ _ => rfl, fun x hx => ⟨Nat.le_refl _, (hR x hx).2.2.2.1⟩, fun j _ hj => nup_ne hj, fun _ _ _ => rfl, fun _ => by
        rw [nup_at, su_at]
        exact ⟨rfl, Nat.le_refl _⟩, fun q => absurd q k0⟩ (fun X hX => by
        rw [res3 k3.1, res3 k3.1, nup_at, if_pos k3.2, if_neg (by decide)]
        rfl)
    exact ⟨w', t, _, mm, hw'⟩
  have hr2 := hr1.resolve_left k3
  have hra : nRd N i (na N i) := ⟨k0, Or.inl rfl⟩
  have hta := hr2.1
  by_cases k2 : nk N i = 2
  · have h2 : nTwo N i := Or.inl k2
    have hab := g7 h2
    have htb := hr2.2 h2
    have e : kStF N w t ph mm i σ = kPut (kTk (kTk σ (na N i) (t (na N i))) (nb N i) (t (nb N i))) (nc N i) (w (nc N i)) (σ 10 (20 * na N i + t (na N i)) + σ 10 (20 * nb N i + t (nb N i))) := by rw [kStF, if_neg k0, if_neg k3, if_pos k2]
    rw [e]
    have hb1 : nt1 t (na N i) (nb N i) = t (nb N i) := nt1_ne (fun q => hab q.symm)
    obtain ⟨w', hw'⟩ := kgo_put (σ1 := kTk (kTk σ (na N i) (t (na N i))) (nb N i) (t (nb N i))) (t' := nt1 (nt1 t (na N i)) (nb N i)) (ph' := ph) (mm' := mm) (v := σ 10 (20 * na N i + t (na N i)) + σ 10 (20 * nb N i + t (nb N i))) h hi (by omega) hc20
      ⟨fun f q _ _ => by unfold kTk; rw [su_other q, su_other q], fun _ _ _ => rfl, fun _ _ _ => rfl, by
        have q1 := nt1_12 (f := σ 12) (t := t) (a := na N i) (fun x hx => (hR x hx).2.1)
        have q2 := nt1_12 (f := upd (σ 12) (na N i) (nI (t (na N i) + 1))) (t := nt1 t (na N i)) (a := nb N i) q1
        rw [hb1] at q2
        exact q2, fun x hx hnr => by
        rw [nt1_ne (fun q => hnr ⟨k0, Or.inr ⟨h2, q.symm⟩⟩), nt1_ne (fun q => hnr ⟨k0, Or.inl q.symm⟩)], fun x hx => by
        have q1 := nt1_le (fun x hx => (hR x hx).2.2.2.1) hta x hx
        have q2 := nt1_le (w := w) (t := nt1 t (na N i)) (a := nb N i) (fun x hx => (nt1_le (fun x hx => (hR x hx).2.2.2.1) hta x hx).2) (by rw [hb1]; exact htb) x hx
        omega, fun _ _ _ => rfl, fun _ _ _ => rfl, fun _ => ⟨p1, p2⟩, fun q => absurd q k0⟩ (fun X hX => by
        rw [res2 k2, res2 k2, kDrop hX g2 hta, kDrop hX g6 htb, nt1_at, hb1, nt1_ne hab, nt1_at]
        rfl)
    exact ⟨w', _, ph, mm, hw'⟩
  by_cases k5 : nk N i = 5
  · have h2 : nTwo N i := Or.inr k5
    have hab := g7 h2
    have htb := hr2.2 h2
    have hrb : nRd N i (nb N i) := ⟨k0, Or.inr ⟨h2, rfl⟩⟩
    by_cases hle : σ 10 (20 * na N i + t (na N i)) ≤ σ 10 (20 * nb N i + t (nb N i))
    · have e : kStF N w t ph mm i σ = kPut (kTk σ (na N i) (t (na N i))) (nc N i) (w (nc N i)) (σ 10 (20 * na N i + t (na N i))) := by rw [kStF, if_neg k0, if_neg k3, if_neg k2, if_pos k5, if_pos hle]
      rw [e]
      obtain ⟨w', hw'⟩ := kgo_put (v := σ 10 (20 * na N i + t (na N i))) h hi (by omega) hc20 (kIn_one h hi k0 hta hra (kTk σ (na N i) (t (na N i))) ph rfl (fun f q _ _ => su_other q) (fun _ _ => rfl) (fun _ _ => rfl) (fun _ _ => rfl) ⟨p1, p2⟩) (fun X hX => by
        rw [res5 k5, res5 k5, kDrop hX g2 hta, kDrop hX g6 htb, nt1_at, nt1_ne (fun q => hab q.symm), kDrop hX g6 htb, pl_jn_le hle]
        rfl)
      exact ⟨w', _, ph, mm, hw'⟩
    · have e : kStF N w t ph mm i σ = kPut (kTk σ (nb N i) (t (nb N i))) (nc N i) (w (nc N i)) (σ 10 (20 * nb N i + t (nb N i))) := by rw [kStF, if_neg k0, if_neg k3, if_neg k2, if_pos k5, if_neg hle]
      rw [e]
      obtain ⟨w', hw'⟩ := kgo_put (v := σ 10 (20 * nb N i + t (nb N i))) h hi (by omega) hc20 (kIn_one h hi k0 htb hrb (kTk σ (nb N i) (t (nb N i))) ph rfl (fun f q _ _ => su_other q) (fun _ _ => rfl) (fun _ _ => rfl) (fun _ _ => rfl) ⟨p1, p2⟩) (fun X hX => by
        rw [res5 k5, res5 k5, kDrop hX g2 hta, kDrop hX g6 htb, nt1_at, nt1_ne hab, kDrop hX g2 hta, pl_jn_gt hle]
        rfl)
      exact ⟨w', _, ph, mm, hw'⟩
  have e : kStF N w t ph mm i σ = kOneF (nk N i) i (nc N i) (nd N i) (w (nc N i)) (ph i) (nP N i) (σ 10 (20 * na N i + t (na N i))) (kTk σ (na N i) (t (na N i))) := by rw [kStF, if_neg k0, if_neg k3, if_neg k2, if_neg k5]
  rw [e]
  have hI1 := kIn_one h hi k0 hta hra (kTk σ (na N i) (t (na N i))) ph rfl (fun f q _ _ => su_other q) (fun _ _ => rfl) (fun _ _ => rfl) (fun _ _ => rfl) ⟨p1, p2⟩
  have hpg : ∃ x, x < 10 ∧ t x < nt1 t (na N i) x := ⟨na N i, g2, by rw [nt1_at]; omega⟩
  by_cases k1 : nk N i = 1
  · rw [kOneF, if_pos k1]
    obtain ⟨w', hw'⟩ := kgo_copy (v := σ 10 (20 * na N i + t (na N i))) h hi k1 hc20 hI1 (fun X hX => by
        rw [res1 k1, res1 k1, kDrop hX g2 hta, nt1_at]
        rfl)
    exact ⟨w', _, ph, mm, hw'⟩
  rw [kOneF, if_neg k1]
  by_cases k3b : nk N i = 3
  · have hph : ¬ ph i = 0 := fun q => k3 ⟨k3b, q⟩
    rw [if_pos k3b]
    obtain ⟨w', hw'⟩ := kgo_put (v := σ 10 (20 * na N i + t (na N i))) h hi k1 hc20 hI1 (fun X hX => by
        rw [res3 k3b, res3 k3b, if_neg hph, if_neg hph, kDrop hX g2 hta, nt1_at]
        rfl)
    exact ⟨w', _, ph, mm, hw'⟩
  rw [if_neg k3b]
  by_cases k4 : nk N i = 4
  · rw [if_pos k4]
    by_cases hx : σ 10 (20 * na N i + t (na N i)) &&& nP N i = 0
    · rw [if_pos hx]
      obtain ⟨w', hw'⟩ := kgo_put (v := σ 10 (20 * na N i + t (na N i))) h hi k1 hc20 hI1 (fun X hX => by
        rw [res4 k4, res4 k4, kDrop hX g2 hta, nt1_at, List.filter_cons_of_pos (by simp [hx])]
        rfl)
      exact ⟨w', _, ph, mm, hw'⟩
    · rw [if_neg hx]
      exact ⟨w, _, ph, mm, kgo_no h hi hI1 (fun X hX => by
        rw [res4 k4, res4 k4, kDrop hX g2 hta, nt1_at, List.filter_cons_of_neg (by simp [hx])]
        rfl) hpg⟩
  rw [if_neg k4]
  by_cases k6 : nk N i = 6
  · rw [if_pos k6]
    obtain ⟨w', hw'⟩ := kgo_put (v := σ 14 i + σ 10 (20 * na N i + t (na N i))) h hi k1 hc20 (kIn_one h hi k0 hta hra (su (kTk σ (na N i) (t (na N i))) 14 i (σ 14 i + σ 10 (20 * na N i + t (na N i)))) ph rfl (fun f q r _ => by unfold kTk; rw [su_other r, su_other q]) (fun _ _ => rfl) (fun j hj => su_ne hj) (fun _ _ => rfl) ⟨p1, p2⟩) (fun X hX => by
        rw [res6 k6, res6 k6, kDrop hX g2 hta, nt1_at, su_at]
        rfl)
    exact ⟨w', _, ph, mm, hw'⟩
  rw [if_neg k6]
  have k7 : nk N i = 7 := by omega
  by_cases hph : ph i = 0
  · rw [if_pos hph]
    exact ⟨w, _, nup ph i 1, mm, kgo_no h hi (kIn_one h hi k0 hta hra (su (su (kTk σ (na N i) (t (na N i))) 15 i (nI 1)) 14 i (σ 10 (20 * na N i + t (na N i)))) (nup ph i 1) rfl (fun f q r z => by unfold kTk; rw [su_other r, su_other z, su_other q]) (fun j hj => su_ne (σ := kTk σ (na N i) (t (na N i))) (f := 15) hj) (fun j hj => su_ne hj) (fun j hj => nup_ne hj) (by
        rw [nup_at]
        exact ⟨su_at (kTk σ (na N i) (t (na N i))) 15 i (nI 1), Nat.le_refl _⟩)) (fun X hX => by
        rw [res7 k7, res7 k7, kDrop hX g2 hta, nt1_at, su_at, nup_at, hph]
        rfl) hpg⟩
  · rw [if_neg hph]
    have hph1 : ph i = 1 := by omega
    obtain ⟨w', hw'⟩ := kgo_put (v := σ 14 i - σ 10 (20 * na N i + t (na N i))) h hi k1 hc20 (kIn_one h hi k0 hta hra (su (kTk σ (na N i) (t (na N i))) 15 i (nI 0)) (nup ph i 0) rfl (fun f q _ z => by unfold kTk; rw [su_other z, su_other q]) (fun j hj => su_ne hj) (fun _ _ => rfl) (fun j hj => nup_ne hj) (by
        rw [nup_at, su_at]
        exact ⟨rfl, Nat.zero_le _⟩)) (fun X hX => by
        rw [res7 k7, res7 k7, kDrop hX g2 hta, nt1_at, nup_at, hph1]
        rfl)
    exact ⟨w', _, _, mm, hw'⟩
theorem kS_drop_nil {σ : KS} {w : Nat → Nat} {x t : Nat} (h : w x ≤ t) : (kS σ w x).drop t = [] := List.drop_eq_nil_of_le (by rw [kS_len]; exact h)
theorem pl_zip_nil_r (xs : List Int32) : List.zipWith (fun x y : Int32 => x + y) xs [] = [] := by cases xs <;> rfl
theorem kInv_done {N : Net} {σ : KS} {w t rr ph mm : Nat → Nat} (h : kInv N σ w t rr ph mm) (hd : ∀ i, i < N.1 → ¬ kRdy N w t ph mm i) : pl_Lfp N (kS σ w) := by
  have hR := h.2.1
  have hP := h.2.2.1
  refine pl_RK_done h.2.2.2 h.1.1 (fun i hi => ?_)
  obtain ⟨g1, g2, g3, g4, g5, g6, g7, g8⟩ := h.1.1.2.1 i hi
  have hw := (hR _ g3).2.2.2.2.1
  rw [kS_len]
  by_cases hc : w (nc N i) = 20
  · exact Or.inl hc
  right
  have hnr := hd i hi
  by_cases k0 : nk N i = 0
  · obtain ⟨m1, m2⟩ := (hP i hi).2 k0
    have m3 : mm i = 0 := by
      rcases Nat.eq_zero_or_pos (mm i) with q | q
      · exact q
      · exact absurd ⟨by omega, fun _ => q, fun q => absurd k0 q⟩ hnr
    rw [res0 k0, m1, m3]
    rfl
  have g6 := g6 k0
  have hno : ¬ ((nk N i = 3 ∧ ph i = 0) ∨ (t (na N i) < w (na N i) ∧ (nTwo N i → t (nb N i) < w (nb N i)))) := fun q => hnr ⟨by omega, fun z => absurd z k0, fun _ => q⟩
  have h3 : ¬ (nk N i = 3 ∧ ph i = 0) := fun q => hno (Or.inl q)
  have hab : (kS σ w (na N i)).drop (t (na N i)) = [] ∨ (nTwo N i ∧ (kS σ w (nb N i)).drop (t (nb N i)) = []) := by
    by_cases q : t (na N i) < w (na N i)
    · right
      by_cases h2 : nTwo N i
      · refine ⟨h2, kS_drop_nil ?_⟩
        rcases Nat.lt_or_ge (t (nb N i)) (w (nb N i)) with z | z
        · exact absurd (Or.inr ⟨q, fun _ => z⟩) hno
        · exact z
      · exact absurd (Or.inr ⟨q, fun z => absurd z h2⟩) hno
    · exact Or.inl (kS_drop_nil (by omega))
  have hk : nk N i = 1 ∨ nk N i = 2 ∨ nk N i = 3 ∨ nk N i = 4 ∨ nk N i = 5 ∨ nk N i = 6 ∨ nk N i = 7 := by omega
  rcases hk with k | k | k | k | k | k | k
  · rw [res1 k]
    rcases hab with q | ⟨q, -⟩
    · exact q
    · omega
  · rw [res2 k]
    rcases hab with q | ⟨-, q⟩
    · rw [q]; rfl
    · rw [q, pl_zip_nil_r]
  · rw [res3 k, if_neg (fun z => h3 ⟨k, z⟩)]
    rcases hab with q | ⟨q, -⟩
    · exact q
    · omega
  · rw [res4 k]
    rcases hab with q | ⟨q, -⟩
    · rw [q]; rfl
    · omega
  · rw [res5 k]
    rcases hab with q | ⟨-, q⟩
    · rw [q, pl_jn_nil_l]
    · rw [q, pl_jn_nil_r]
  · rw [res6 k]
    rcases hab with q | ⟨q, -⟩
    · rw [q]; rfl
    · omega
  · rw [res7 k]
    rcases hab with q | ⟨q, -⟩
    · rw [q]; cases ph i <;> rfl
    · omega
end
section
/-! the run's start, a wider channel, and what a finished run means -/
def kDone (N : Net) (σ : KS) : Prop := ∃ w : Nat → Nat, (∀ x, x < 10 → σ 11 x = nI (w x) ∧ w x ≤ 20) ∧ pl_Lfp N (kS σ w)
theorem kNet_congr {N : Net} {σ σ' : KS} (h : kNet N σ) (hF : ∀ f, f < 9 → σ' f = σ f) (h15 : ∀ j, j < N.1 → nk N j = 0 → σ' 15 j = nI (nb N j)) : kNet N σ' := by
  obtain ⟨hOk, hn, hfb, hp⟩ := h
  refine ⟨hOk, by rw [hF 1 (by decide)]; exact hn, by rw [hF 0 (by decide)]; exact hfb, fun j hj => ?_⟩
  rw [hF 2 (by decide), hF 3 (by decide), hF 4 (by decide), hF 5 (by decide), hF 6 (by decide), hF 7 (by decide), hF 8 (by decide)]
  obtain ⟨f2, f3, f4, f5, f6, f7, f8⟩ := hp j hj
  exact ⟨f2, f3, f4, f5, f6, f7, fun h0 => ⟨(f8 h0).1, h15 j hj h0⟩⟩
theorem kInv_start {N : Net} {σ : KS} {fb : Nat} (hN : kNet N σ) (hfb : fb ≤ 6) (hR : ∀ x, x < 10 → σ 11 x = nI 0 ∧ σ 12 x = nI 0 ∧ σ 13 x = nI fb) (hP : ∀ j, j < N.1 → σ 14 j = pl_m0 N j ∧ (nk N j ≠ 0 → σ 15 j = nI 0)) : kInv N σ (fun _ => 0) (fun _ => 0) (fun _ => fb) (fun _ => 0) (fun j => nb N j) := by
  refine ⟨hN, fun x hx => ?_, fun j hj => ⟨fun h0 => ⟨(hP j hj).2 h0, Nat.zero_le _⟩, fun h0 => ⟨?_, Nat.le_refl _⟩⟩, ?_⟩
  · obtain ⟨r1, r2, r3⟩ := hR x hx
    exact ⟨r1, r2, r3, Nat.le_refl _, Nat.zero_le _, by show fb ≤ 20; omega⟩
  · rw [(hP j hj).1, pl_m0, if_pos h0]
  · exact pl_RK_start (fun x _ => rfl) hN.1 (fun _ _ => rfl) (fun j hj => (hP j hj).1) (fun _ _ _ => rfl)
theorem kInv_grow {N : Net} {σ : KS} {w t rr ph mm : Nat → Nat} (h : kInv N σ w t rr ph mm) {x : Nat} (hx : x < 10) (hr : rr x < 20) : kInv N (su σ 13 x (nI (rr x + 1))) w t (nt1 rr x) ph mm ∧ kMu w t (nt1 rr x) < kMu w t rr := by
  obtain ⟨hN, hR, hP, hK⟩ := h
  refine ⟨⟨kNet_congr hN (fun f hf => su_other (by omega)) (fun j hj h0 => ((hN.2.2.2 j hj).2.2.2.2.2.2 h0).2), fun y hy => ?_, hP, hK⟩, ?_⟩
  · obtain ⟨r1, r2, r3, r4, r5, r6⟩ := hR y hy
    refine ⟨r1, r2, ?_, r4, r5, ?_⟩
    · exact nt1_12 (f := σ 13) (t := rr) (a := x) (fun z hz => (hR z hz).2.2.1) y hy
    · by_cases e : y = x
      · subst e
        rw [nt1_at]
        omega
      · rw [nt1_ne e]
        exact r6
  · refine ks_sum_lt (fun y _ => ?_) ⟨x, hx, ?_⟩
    · by_cases e : y = x
      · subst e
        rw [nt1_at]
        omega
      · rw [nt1_ne e]
        exact Nat.le_refl _
    · rw [nt1_at]
      omega
theorem kRdy_none {N : Net} {σ : KS} {w t rr ph mm : Nat → Nat} (h : kInv N σ w t rr ph mm) (hc : ∀ j, j < N.1 → ¬ kCan N w t rr ph mm j) (hg : ∀ j, j < N.1 → kRdy N w t ph mm j → ¬ kCand N w t rr (nI (nc N j)) ∧ (nk N j = 1 → ¬ kCand N w t rr (nI (nd N j)))) : ∀ j, j < N.1 → ¬ kRdy N w t ph mm j := by
  intro j hj hr
  obtain ⟨g1, g2, g3, g4, -⟩ := h.1.1.2.1 j hj
  obtain ⟨q1, q2⟩ := hg j hj hr
  refine hc j hj ⟨hr, ?_, fun h1 => ?_⟩
  · by_cases z : kRoom N w t rr (nc N j)
    · exact z
    · exact absurd ⟨nc N j, g3, rfl, hr.1, z⟩ q1
  · by_cases z : kRoom N w t rr (nd N j)
    · exact z
    · exact absurd ⟨nd N j, g4, rfl, by rw [kInv_lock h j hj h1]; exact hr.1, z⟩ (q2 h1)
end
section
set_option maxHeartbeats 4000000 in
set_option maxRecDepth 100000 in
theorem metX1_runAll (l : Launch) (D : va_G) (c1 c2 : ClassId) (h : Nat) (ad : Nat → Nat) (A : Nat → Prop) (σ : KS) (N : Net) (hN : kNet N σ) (hD : σ 9 0 = 0 ∨ (σ 9 0 = 1 ∧ kDone N σ)) :
    Met l yX1_runAll (ws_ yX1_runAll cX1_runAll 3 none) ({ frames := 4, cells := 0, slots := 0, locals := 87 } : Room) (kP D c1 c2 h ad A σ []) (va_Qv (fun (σ' : KS) => kNet N σ' ∧ σ' 9 0 = 1 ∧ kDone N σ') (kB D c1 c2 h ad A) A) 0 0 A := by
  refine kM_of (by decide) rfl (Nat.le_of_ble_eq_true rfl) ?_
  intro p e s m args below meth c ls X hr hlocks I hl
  have hl : lv_has ls 3 [(0, .ref h)] := hl
  have hx := X.1
  have hb := X.2.1
  have hn8 := hN.1.1
  have fin : ∀ (σ1 : KS) (w t rr ph mm : Nat → Nat) (g : Int32), kInv N σ1 w t rr ph mm → σ1 9 0 = 1 → g = 0 → (∀ j, j < N.1 → ¬ kRdy N w t ph mm j) → ∀ (H : Heap) (locs : List Loc), kI D c1 c2 h ad A s.heap σ1 H locs → ∀ ls : Array Slot, lv_has ls 3 [(1, .int g), (0, .ref h)] → W p l e ({ frames := 4, cells := 0, slots := 0, locals := 87 } : Room) s m args below meth c H locs 0 0 (MQ below (va_Qv (fun (σ' : KS) => kNet N σ' ∧ σ' 9 0 = 1 ∧ kDone N σ') (kB D c1 c2 h ad A) A) args s 0 0 A) (F0 m 108 ls []) := by
    intro σ1 w t rr ph mm g hK h9 hg hd H locs I ls hl
    refine lv_iload_n hx hb dX1_runAll_108 rfl (lv_at hl 0 rfl) ?_
    refine lv_if_eq (tgt := 152) hx hb dX1_runAll_109 (by decide) (fun b1 => ?_) (fun b1 => ?_)
    · exact k_vret X I hr hlocks ⟨hK.1, h9, w, fun x hx => ⟨(hK.2.1 x hx).1, (hK.2.1 x hx).2.2.2.2.1⟩, kInv_done hK hd⟩ dX1_runAll_152
    · exact absurd hg b1
  have main : ∀ (f : Nat) (σ1 : KS) (w t rr ph mm : Nat → Nat), kInv N σ1 w t rr ph mm → σ1 9 0 = 1 → kMu w t rr < f → ∀ (H : Heap) (locs : List Loc), kI D c1 c2 h ad A s.heap σ1 H locs → ∀ ls : Array Slot, lv_has ls 3 [(1, .int (nI 1)), (0, .ref h)] → W p l e ({ frames := 4, cells := 0, slots := 0, locals := 87 } : Room) s m args below meth c H locs 0 0 (MQ below (va_Qv (fun (σ' : KS) => kNet N σ' ∧ σ' 9 0 = 1 ∧ kDone N σ') (kB D c1 c2 h ad A) A) args s 0 0 A) (F0 m 108 ls []) := by
    intro f
    induction f with
    | zero =>
      intro σ1 w t rr ph mm hK h9 hf
      exact absurd hf (by omega)
    | succ f ih =>
      intro σ1 w t rr ph mm hK h9 hf H locs I ls hl
      have inner : ∀ (f2 i : Nat) (g : Int32) (σ2 : KS) (w2 t2 ph2 mm2 : Nat → Nat), N.1 - i < f2 → i ≤ N.1 → kInv N σ2 w2 t2 rr ph2 mm2 → σ2 9 0 = 1 → ((g = nI 0 ∧ (∀ j, j < i → ¬ kCan N w2 t2 rr ph2 mm2 j) ∧ kMu w2 t2 rr ≤ kMu w t rr) ∨ (g = nI 1 ∧ kMu w2 t2 rr < kMu w t rr)) → ∀ (H : Heap) (locs : List Loc), kI D c1 c2 h ad A s.heap σ2 H locs → ∀ ls : Array Slot, lv_has ls 3 [(2, .int (nI i)), (1, .int g), (0, .ref h)] → W p l e ({ frames := 4, cells := 0, slots := 0, locals := 87 } : Room) s m args below meth c H locs 0 0 (MQ below (va_Qv (fun (σ' : KS) => kNet N σ' ∧ σ' 9 0 = 1 ∧ kDone N σ') (kB D c1 c2 h ad A) A) args s 0 0 A) (F0 m 116 ls []) := by
        intro f2
        induction f2 with
        | zero =>
          intro i g σ2 w2 t2 ph2 mm2 h1
          exact absurd h1 (by omega)
        | succ f2 ih2 =>
          intro i g σ2 w2 t2 ph2 mm2 hf2 hi hK2 h92 hg H locs I ls hl
          have hn := hK2.1.2.1
          refine lv_iload_n hx hb dX1_runAll_116 rfl (lv_at hl 0 rfl) ?_
          refine kf_processCount X I (v := nI N.1) hn (lv_at hl 2 rfl) dX1_runAll_117 dX1_runAll_118 ?_
          refine lv_icmp_ge (tgt := 140) hx hb dX1_runAll_121 (by decide) (fun b1 => ?_) (fun b1 => ?_)
          · have b1 : N.1 ≤ i := (nI_leI (a := N.1) (b := i) (by omega) (by omega)).mp b1
            refine lv_iload_n hx hb dX1_runAll_140 rfl (lv_at hl 1 rfl) ?_
            refine lv_if_ne (tgt := 108) hx hb dX1_runAll_141 (by decide) (fun b2 => ?_) (fun b2 => ?_)
            · rcases hg with ⟨q1, -, -⟩ | ⟨q1, q2⟩
              · exact absurd (q1.trans (by decide)) b2
              · subst q1
                exact ih σ2 w2 t2 rr ph2 mm2 hK2 h92 (by omega) H locs I ls (lv_sub hl [1, 2] rfl)
            · have hc : (∀ j, j < N.1 → ¬ kCan N w2 t2 rr ph2 mm2 j) ∧ kMu w2 t2 rr ≤ kMu w t rr := by
                rcases hg with ⟨-, q2, q3⟩ | ⟨q1, -⟩
                · exact ⟨fun j hj => q2 j (by omega), q3⟩
                · exact absurd (q1.symm.trans b2) (by decide)
              refine lv_aload_n hx hb dX1_runAll_144 rfl (lv_at hl 2 rfl) ?_
              refine k_calli X I (rest := []) (metX1_growSmallest l D c1 c2 h ad A σ2 N w2 t2 rr ph2 mm2 hK2.1 hK2.2.1 hK2.2.2.1) (cwX1_growSmallest X.2.2.2.2.1 rfl rfl ⟨Nat.le_of_ble_eq_true rfl, Nat.le_of_ble_eq_true rfl⟩) rfl hl.1 rfl (Nat.le_of_ble_eq_true rfl) ⟨Nat.zero_le _, Nat.zero_le _⟩ dX1_runAll_145 (fun r3 σ3 H locs hv I => ?_)
              refine lv_istore_n (lv' := [(1, .int r3), (2, .int (nI i)), (0, .ref h)]) hx hb dX1_runAll_148 rfl hl (by decide) rfl (fun ls hl => ?_)
              refine lv_goto (tgt := 108) hx hb dX1_runAll_149 (by decide) ?_
              rcases hv with ⟨v1, v2, v3⟩ | ⟨v1, x, v2, v3, v4⟩
              · rw [v2] at I
                exact fin σ2 w2 t2 rr ph2 mm2 r3 hK2 h92 v1 (kRdy_none hK2 hc.1 v3) H locs I ls (lv_sub hl [0, 2] rfl)
              · obtain ⟨k1, k2⟩ := kInv_grow hK2 v2 v3
                rw [v4] at I
                subst v1
                exact ih _ w2 t2 _ ph2 mm2 k1 h92 (by omega) H locs I ls (lv_sub hl [0, 2] rfl)
          · have b1 : ¬ N.1 ≤ i := fun q => b1 ((nI_leI (a := N.1) (b := i) (by omega) (by omega)).mpr q)
            refine lv_aload_n hx hb dX1_runAll_124 rfl (lv_at hl 2 rfl) ?_
            refine lv_iload_n hx hb dX1_runAll_125 rfl (lv_at hl 0 rfl) ?_
            refine k_calli X I (rest := []) (metX1_step l D c1 c2 h ad A σ2 N w2 t2 rr ph2 mm2 hK2.1 hK2.2.1 hK2.2.2.1 (kInv_lock hK2) i (by omega)) (cwX1_step X.2.2.2.2.1 rfl rfl ⟨Nat.le_of_ble_eq_true rfl, Nat.le_of_ble_eq_true rfl⟩) rfl hl.1 rfl (Nat.le_of_ble_eq_true rfl) ⟨Nat.zero_le _, Nat.zero_le _⟩ dX1_runAll_126 (fun r3 σ3 H locs hv I => ?_)
            refine lv_if_eq (tgt := 134) hx hb dX1_runAll_129 (by decide) (fun b2 => ?_) (fun b2 => ?_)
            · obtain ⟨v1, v2⟩ : σ3 = σ2 ∧ ¬ kCan N w2 t2 rr ph2 mm2 i := by
                rcases hv with ⟨-, q1, q2⟩ | ⟨q1, -⟩
                · exact ⟨q1, q2⟩
                · exact absurd (q1.symm.trans b2) (by decide)
              rw [v1] at I
              refine lv_iinc (v := nI (i + 1)) (lv' := [(2, .int (nI (i + 1))), (1, .int g), (0, .ref h)]) hx hb dX1_runAll_134 hl (k := 0) rfl (nI_1 i) (by decide) rfl (fun ls hl => ?_)
              refine lv_goto (tgt := 116) hx hb dX1_runAll_137 (by decide) ?_
              exact ih2 (i + 1) g σ2 w2 t2 ph2 mm2 (by omega) (by omega) hK2 h92 (by
                rcases hg with ⟨q1, q2, q3⟩ | q
                · refine Or.inl ⟨q1, fun j hj => ?_, q3⟩
                  rcases Nat.lt_succ_iff_lt_or_eq.mp hj with z | z
                  · exact q2 j z
                  · subst z
                    exact v2
                · exact Or.inr q) H locs I ls (lv_sub hl [0, 1, 2] rfl)
            · obtain ⟨v1, v2⟩ : kCan N w2 t2 rr ph2 mm2 i ∧ σ3 = kStF N w2 t2 ph2 mm2 i σ2 := by
                rcases hv with ⟨q1, -⟩ | ⟨-, q1, q2⟩
                · exact absurd q1 b2
                · exact ⟨q1, q2⟩
              obtain ⟨w3, t3, ph3, mm3, k1, k2, k3⟩ := kInv_step hK2 (by omega) v1.1
              rw [v2] at I
              have k4 : kMu w2 t2 rr ≤ kMu w t rr := by
                rcases hg with ⟨-, -, q⟩ | ⟨-, q⟩
                · exact q
                · omega
              refine lv_iconst (v := nI 1) hx hb dX1_runAll_132 (by decide) ?_
              refine lv_istore_n (lv' := [(1, .int (nI 1)), (2, .int (nI i)), (0, .ref h)]) hx hb dX1_runAll_133 rfl hl (by decide) rfl (fun ls hl => ?_)
              refine lv_iinc (v := nI (i + 1)) (lv' := [(2, .int (nI (i + 1))), (1, .int (nI 1)), (0, .ref h)]) hx hb dX1_runAll_134 hl (k := 1) rfl (nI_1 i) (by decide) rfl (fun ls hl => ?_)
              refine lv_goto (tgt := 116) hx hb dX1_runAll_137 (by decide) ?_
              exact ih2 (i + 1) (nI 1) _ w3 t3 ph3 mm3 (by omega) (by omega) k1 ((congrFun k3 0).trans h92) (Or.inr ⟨rfl, by omega⟩) H locs I ls (lv_sub hl [0, 1, 2] rfl)
      refine lv_iload_n hx hb dX1_runAll_108 rfl (lv_at hl 0 rfl) ?_
      refine lv_if_eq (tgt := 152) hx hb dX1_runAll_109 (by decide) (fun b1 => ?_) (fun b1 => ?_)
      · have b1 : 1 = 0 := (nI_eq (a := 1) (b := 0) (by omega) (by omega)).mp b1
        exact absurd b1 (by omega)
      · have b1 : ¬ 1 = 0 := fun q => b1 ((nI_eq (a := 1) (b := 0) (by omega) (by omega)).mpr q)
        refine lv_iconst (v := nI 0) hx hb dX1_runAll_112 (by decide) ?_
        refine lv_istore_n (lv' := [(1, .int (nI 0)), (0, .ref h)]) hx hb dX1_runAll_113 rfl hl (by decide) rfl (fun ls hl => ?_)
        refine lv_iconst (v := nI 0) hx hb dX1_runAll_114 (by decide) ?_
        refine lv_istore_n (lv' := [(2, .int (nI 0)), (1, .int (nI 0)), (0, .ref h)]) hx hb dX1_runAll_115 rfl hl (by decide) rfl (fun ls hl => ?_)
        exact inner (N.1 + 1) 0 (nI 0) σ1 w t ph mm (by omega) (by omega) hK h9 (Or.inl ⟨rfl, fun j hj => absurd hj (by omega), Nat.le_refl _⟩) H locs I ls hl
  have loop2 : ∀ (fb : Nat), fb ≤ 6 → ∀ (f i : Nat) (σ1 : KS), N.1 - i < f → i ≤ N.1 → kNet N σ1 → σ1 9 0 = 1 → (∀ x, x < 10 → σ1 11 x = nI 0 ∧ σ1 12 x = nI 0 ∧ σ1 13 x = nI fb) → (∀ j, j < i → σ1 14 j = pl_m0 N j ∧ (nk N j ≠ 0 → σ1 15 j = nI 0)) → ∀ (H : Heap) (locs : List Loc), kI D c1 c2 h ad A s.heap σ1 H locs → ∀ ls : Array Slot, lv_has ls 3 [(1, .int (nI i)), (0, .ref h)] → W p l e ({ frames := 4, cells := 0, slots := 0, locals := 87 } : Room) s m args below meth c H locs 0 0 (MQ below (va_Qv (fun (σ' : KS) => kNet N σ' ∧ σ' 9 0 = 1 ∧ kDone N σ') (kB D c1 c2 h ad A) A) args s 0 0 A) (F0 m 54 ls []) := by
    intro fb hfb f
    induction f with
    | zero =>
      intro i σ1 h1
      exact absurd h1 (by omega)
    | succ f ih =>
      intro i σ1 hf hi hK h9 hR hP H locs I ls hl
      have hn := hK.2.1
      refine lv_iload_n hx hb dX1_runAll_54 rfl (lv_at hl 0 rfl) ?_
      refine kf_processCount X I (v := nI N.1) hn (lv_at hl 1 rfl) dX1_runAll_55 dX1_runAll_56 ?_
      refine lv_icmp_ge (tgt := 106) hx hb dX1_runAll_59 (by decide) (fun b1 => ?_) (fun b1 => ?_)
      · have b1 : N.1 ≤ i := (nI_leI (a := N.1) (b := i) (by omega) (by omega)).mp b1
        refine lv_iconst (v := nI 1) hx hb dX1_runAll_106 (by decide) ?_
        refine lv_istore_n (lv' := [(1, .int (nI 1)), (0, .ref h)]) hx hb dX1_runAll_107 rfl hl (by decide) rfl (fun ls hl => ?_)
        exact main _ σ1 _ _ _ _ _ (kInv_start hK hfb hR (fun j hj => hP j (by omega))) h9 (Nat.lt_succ_self _) H locs I ls (lv_sub hl [0, 1] rfl)
      · have b1 : ¬ N.1 ≤ i := fun q => b1 ((nI_leI (a := N.1) (b := i) (by omega) (by omega)).mpr q)
        obtain ⟨f2, f3, f4, f5, f6, f7, f8⟩ := hK.2.2.2 i (by omega)
        obtain ⟨g1, -⟩ := hK.1.2.1 i (by omega)
        refine kf_memory X I (lv_at hl 1 rfl) dX1_runAll_62 dX1_runAll_63 ?_
        refine lv_iload_n hx hb dX1_runAll_66 rfl (lv_at hl 0 rfl) ?_
        refine lv_iconst (v := nI 0) hx hb dX1_runAll_67 (by decide) ?_
        refine ks_memory X I i rfl (by omega) dX1_runAll_68 (fun H locs I => ?_)
        refine kf_kinds X I (lv_at hl 1 rfl) dX1_runAll_69 dX1_runAll_70 ?_
        refine lv_iload_n hx hb dX1_runAll_73 rfl (lv_at hl 0 rfl) ?_
        refine kl_kinds X I i rfl (by omega) (v := nI (nk N i)) f2 dX1_runAll_74 ?_
        refine lv_if_eq (tgt := 88) hx hb dX1_runAll_75 (by decide) (fun b2 => ?_) (fun b2 => ?_)
        · have b2 : (nk N i) = 0 := (nI_eq (a := (nk N i)) (b := 0) (by omega) (by omega)).mp b2
          obtain ⟨-, f8⟩ := f8 b2
          refine kf_memory X I (lv_at hl 1 rfl) dX1_runAll_88 dX1_runAll_89 ?_
          refine lv_iload_n hx hb dX1_runAll_92 rfl (lv_at hl 0 rfl) ?_
          refine kf_phase X I (lv_at hl 1 rfl) dX1_runAll_93 dX1_runAll_94 ?_
          refine lv_iload_n hx hb dX1_runAll_97 rfl (lv_at hl 0 rfl) ?_
          refine kl_phase X I i rfl (by omega) (v := nI (nb N i)) f8 dX1_runAll_98 ?_
          refine ks_memory X I i rfl (by omega) dX1_runAll_99 (fun H locs I => ?_)
          refine lv_iinc (v := nI (i + 1)) (lv' := [(1, .int (nI (i + 1))), (0, .ref h)]) hx hb dX1_runAll_100 hl (k := 0) rfl (nI_1 i) (by decide) rfl (fun ls hl => ?_)
          refine lv_goto (tgt := 54) hx hb dX1_runAll_103 (by decide) ?_
          have e14 : ∀ j, j ≠ i → (su (su σ1 14 i (nI 0)) 14 i (nI (nb N i))) 14 j = σ1 14 j := fun j hj => (su_ne hj).trans (su_ne hj)
          exact ih (i + 1) (su (su σ1 14 i (nI 0)) 14 i (nI (nb N i))) (by omega) (by omega) hK h9 hR (fun j hj => by
            rcases Nat.lt_succ_iff_lt_or_eq.mp hj with z | z
            · obtain ⟨q1, q2⟩ := hP j z
              exact ⟨(e14 j (by omega)).trans q1, q2⟩
            · subst z
              refine ⟨?_, fun q => absurd b2 q⟩
              rw [su_at, pl_m0, if_pos b2]) H locs I ls hl
        · have b2 : ¬ (nk N i) = 0 := fun q => b2 ((nI_eq (a := (nk N i)) (b := 0) (by omega) (by omega)).mpr q)
          refine kf_phase X I (lv_at hl 1 rfl) dX1_runAll_78 dX1_runAll_79 ?_
          refine lv_iload_n hx hb dX1_runAll_82 rfl (lv_at hl 0 rfl) ?_
          refine lv_iconst (v := nI 0) hx hb dX1_runAll_83 (by decide) ?_
          refine ks_phase X I i rfl (by omega) (n8_nI _ (by omega)) dX1_runAll_84 (fun H locs I => ?_)
          refine lv_goto (tgt := 100) hx hb dX1_runAll_85 (by decide) ?_
          refine lv_iinc (v := nI (i + 1)) (lv' := [(1, .int (nI (i + 1))), (0, .ref h)]) hx hb dX1_runAll_100 hl (k := 0) rfl (nI_1 i) (by decide) rfl (fun ls hl => ?_)
          refine lv_goto (tgt := 54) hx hb dX1_runAll_103 (by decide) ?_
          have hi2 : i < N.1 := by omega
          have e15 : ∀ j, j ≠ i → (su (su σ1 14 i (nI 0)) 15 i (nI 0)) 15 j = σ1 15 j := fun j hj => su_ne hj
          exact ih (i + 1) (su (su σ1 14 i (nI 0)) 15 i (nI 0)) (by omega) (by omega) (kNet_congr hK (fun f hf => (su_other (by omega)).trans (su_other (by omega))) (fun j hj h0 => by
            rw [e15 j (fun q => b2 (q ▸ h0))]
            exact ((hK.2.2.2 j hj).2.2.2.2.2.2 h0).2)) h9 hR (fun j hj => by
            rcases Nat.lt_succ_iff_lt_or_eq.mp hj with z | z
            · obtain ⟨q1, q2⟩ := hP j z
              exact ⟨(su_ne (σ := σ1) (f := 14) (by omega)).trans q1, fun q => (e15 j (by omega)).trans (q2 q)⟩
            · subst z
              refine ⟨?_, fun _ => su_at _ _ _ _⟩
              refine (su_at σ1 14 j (nI 0)).trans ?_
              rw [pl_m0, if_neg b2]
              rfl) H locs I ls hl
  have loop1 : ∀ (fb : Nat), fb ≤ 6 → ∀ (f i : Nat) (σ1 : KS), 10 - i < f → i ≤ 10 → kNet N σ1 → σ1 0 0 = nI fb → σ1 9 0 = 1 → (∀ x, x < i → σ1 11 x = nI 0 ∧ σ1 12 x = nI 0 ∧ σ1 13 x = nI fb) → ∀ (H : Heap) (locs : List Loc), kI D c1 c2 h ad A s.heap σ1 H locs → ∀ ls : Array Slot, lv_has ls 3 [(1, .int (nI i)), (0, .ref h)] → W p l e ({ frames := 4, cells := 0, slots := 0, locals := 87 } : Room) s m args below meth c H locs 0 0 (MQ below (va_Qv (fun (σ' : KS) => kNet N σ' ∧ σ' 9 0 = 1 ∧ kDone N σ') (kB D c1 c2 h ad A) A) args s 0 0 A) (F0 m 15 ls []) := by
    intro fb hfb f
    induction f with
    | zero =>
      intro i σ1 h1
      exact absurd h1 (by omega)
    | succ f ih =>
      intro i σ1 hf hi hK h0 h9 hR H locs I ls hl
      refine lv_iload_n hx hb dX1_runAll_15 rfl (lv_at hl 0 rfl) ?_
      refine lv_bipush (v := nI 10) hx hb dX1_runAll_16 (by decide) ?_
      refine lv_icmp_ge (tgt := 52) hx hb dX1_runAll_18 (by decide) (fun b1 => ?_) (fun b1 => ?_)
      · have b1 : 10 ≤ i := (nI_leI (a := 10) (b := i) (by omega) (by omega)).mp b1
        refine lv_iconst (v := nI 0) hx hb dX1_runAll_52 (by decide) ?_
        refine lv_istore_n (lv' := [(1, .int (nI 0)), (0, .ref h)]) hx hb dX1_runAll_53 rfl hl (by decide) rfl (fun ls hl => ?_)
        exact loop2 fb hfb (N.1 + 1) 0 σ1 (by omega) (by omega) hK h9 (fun x hx => hR x (by omega)) (fun j hj => absurd hj (by omega)) H locs I ls (lv_sub hl [0, 1] rfl)
      · have b1 : ¬ 10 ≤ i := fun q => b1 ((nI_leI (a := 10) (b := i) (by omega) (by omega)).mpr q)
        refine kf_written X I (lv_at hl 1 rfl) dX1_runAll_21 dX1_runAll_22 ?_
        refine lv_iload_n hx hb dX1_runAll_25 rfl (lv_at hl 0 rfl) ?_
        refine lv_iconst (v := nI 0) hx hb dX1_runAll_26 (by decide) ?_
        refine ks_written X I i rfl (by omega) (n8_nI _ (by omega)) dX1_runAll_27 (fun H locs I => ?_)
        refine kf_taken X I (lv_at hl 1 rfl) dX1_runAll_28 dX1_runAll_29 ?_
        refine lv_iload_n hx hb dX1_runAll_32 rfl (lv_at hl 0 rfl) ?_
        refine lv_iconst (v := nI 0) hx hb dX1_runAll_33 (by decide) ?_
        refine ks_taken X I i rfl (by omega) (n8_nI _ (by omega)) dX1_runAll_34 (fun H locs I => ?_)
        refine kf_room X I (lv_at hl 1 rfl) dX1_runAll_35 dX1_runAll_36 ?_
        refine lv_iload_n hx hb dX1_runAll_39 rfl (lv_at hl 0 rfl) ?_
        refine kf_firstBuffer X I (v := nI fb) h0 (lv_at hl 1 rfl) dX1_runAll_40 dX1_runAll_41 ?_
        refine lv_i2b (v := nI fb) hx hb dX1_runAll_44 (b8_nI _ (by omega)) ?_
        refine ks_room X I i rfl (by omega) (n8_nI _ (by omega)) dX1_runAll_45 (fun H locs I => ?_)
        refine lv_iinc (v := nI (i + 1)) (lv' := [(1, .int (nI (i + 1))), (0, .ref h)]) hx hb dX1_runAll_46 hl (k := 0) rfl (nI_1 i) (by decide) rfl (fun ls hl => ?_)
        refine lv_goto (tgt := 15) hx hb dX1_runAll_49 (by decide) ?_
        exact ih (i + 1) (su (su (su σ1 11 i (nI 0)) 12 i (nI 0)) 13 i (nI fb)) (by omega) (by omega) (kNet_congr hK (fun f hf => ((su_other (by omega)).trans (su_other (by omega))).trans (su_other (by omega))) (fun j hj h0 => ((hK.2.2.2 j hj).2.2.2.2.2.2 h0).2)) h0 h9 (fun x hx => by
          rcases Nat.lt_succ_iff_lt_or_eq.mp hx with z | z
          · obtain ⟨q1, q2, q3⟩ := hR x z
            exact ⟨(su_ne (σ := σ1) (f := 11) (by omega)).trans q1, (su_ne (σ := su σ1 11 i (nI 0)) (f := 12) (by omega)).trans q2, (su_ne (f := 13) (by omega)).trans q3⟩
          · subst z
            exact ⟨su_at σ1 11 x (nI 0), su_at (su σ1 11 x (nI 0)) 12 x (nI 0), su_at _ _ _ _⟩) H locs I ls hl
  refine kf_hasRun X I (v := σ 9 0) rfl (lv_at hl 0 rfl) dX1_runAll_0 dX1_runAll_1 ?_
  refine lv_if_eq (tgt := 8) hx hb dX1_runAll_4 (by decide) (fun b1 => ?_) (fun b1 => ?_)
  · obtain ⟨fb, q1, q2, q3⟩ := hN.2.2.1
    refine lv_aload_n hx hb dX1_runAll_8 rfl (lv_at hl 0 rfl) ?_
    refine lv_iconst (v := nI 1) hx hb dX1_runAll_9 (by decide) ?_
    refine kp_hasRun X I rfl rfl dX1_runAll_10 (fun H locs I => ?_)
    refine lv_iconst (v := nI 0) hx hb dX1_runAll_13 (by decide) ?_
    refine lv_istore_n (lv' := [(1, .int (nI 0)), (0, .ref h)]) hx hb dX1_runAll_14 rfl hl (by decide) rfl (fun ls hl => ?_)
    exact loop1 fb q2 11 0 (su σ 9 0 (nI 1)) (by omega) (by omega) (kNet_congr hN (fun f hf => su_other (by omega)) (fun j hj h0 => ((hN.2.2.2 j hj).2.2.2.2.2.2 h0).2)) q3 (su_at _ _ _ _) (fun x hx => absurd hx (by omega)) H locs I ls hl
  · exact k_vret X I hr hlocks ⟨hN, (hD.resolve_left b1).1, (hD.resolve_left b1).2⟩ dX1_runAll_7
end
section
/-! what the answers are, for the class and the reference alike; each fixes its answer -/
def sBad (x : Int32) : Prop := x < 0 ∨ nI 9 < x
def sLen (N : Net) (x r : Int32) : Prop := (sBad x ∧ r = -1) ∨ ∃ (c : Nat) (S : Str), c < 10 ∧ x = nI c ∧ pl_Lfp N S ∧ r = nI (S c).length
def sAt (N : Net) (x k r : Int32) : Prop := (sBad x ∧ r = nI 0) ∨ ∃ (c : Nat) (S : Str), c < 10 ∧ x = nI c ∧ pl_Lfp N S ∧ (S c).length ≤ 20 ∧ ((∃ j, j < (S c).length ∧ k = nI j ∧ (S c)[j]? = some r) ∨ ((k < 0 ∨ nI (S c).length ≤ k) ∧ r = nI 0))
def sTot (N : Net) (r : Int32) : Prop := ∃ S : Str, pl_Lfp N S ∧ r = nI (ks_sum (fun x => (S x).length) 10)
def sDif (N : Net) (x y r : Int32) : Prop := ((sBad x ∨ sBad y) ∧ r = -2) ∨ ∃ (c d : Nat) (S : Str), c < 10 ∧ d < 10 ∧ x = nI c ∧ y = nI d ∧ pl_Lfp N S ∧ ((r = -1 ∧ ∀ j : Nat, (S c)[j]? = (S d)[j]?) ∨ ∃ k : Nat, k ≤ 20 ∧ r = nI k ∧ (∀ j : Nat, j < k → (S c)[j]? = (S d)[j]?) ∧ ¬ (S c)[k]? = (S d)[k]?)
theorem sBad_no {c : Nat} (h : c < 10) : ¬ sBad (nI c) := by
  rintro (q | q)
  · exact nI_pos (by omega) q
  · have := (nI_ltI (by omega) (by omega)).mp q
    omega
theorem ks_sum_congr {f g : Nat → Nat} : ∀ {n : Nat}, (∀ x, x < n → f x = g x) → ks_sum f n = ks_sum g n
  | 0, _ => rfl
  | n + 1, h => by
    show ks_sum f n + f n = ks_sum g n + g n
    rw [ks_sum_congr (n := n) (fun x hx => h x (by omega)), h n (by omega)]
theorem sLen_eq {N : Net} {x r r' : Int32} (h : sLen N x r) (h' : sLen N x r') : r = r' := by
  rcases h with ⟨hb, e⟩ | ⟨c, S, hc, e, hL, er⟩ <;> rcases h' with ⟨hb', e'⟩ | ⟨c', S', hc', e', hL', er'⟩
  · rw [e, e']
  · rw [e'] at hb
    exact absurd hb (sBad_no hc')
  · rw [e] at hb'
    exact absurd hb' (sBad_no hc)
  · have hcc : c = c' := (nI_eq (by omega) (by omega)).mp (e.symm.trans e')
    subst hcc
    rw [er, er', pl_Lfp_eq hL hL' hc]
theorem sAt_eq {N : Net} {x k r r' : Int32} (h : sAt N x k r) (h' : sAt N x k r') : r = r' := by
  rcases h with ⟨hb, e⟩ | ⟨c, S, hc, e, hL, h20, hr⟩ <;> rcases h' with ⟨hb', e'⟩ | ⟨c', S', hc', e', hL', h20', hr'⟩
  · rw [e, e']
  · rw [e'] at hb
    exact absurd hb (sBad_no hc')
  · rw [e] at hb'
    exact absurd hb' (sBad_no hc)
  · have hcc : c = c' := (nI_eq (by omega) (by omega)).mp (e.symm.trans e')
    subst hcc
    rw [← pl_Lfp_eq hL hL' hc] at hr' h20'
    have key : ∀ j, j < (S c).length → k = nI j → ¬ (k < 0 ∨ nI (S c).length ≤ k) := by
      intro j hj ek z
      rw [ek] at z
      rcases z with z | z
      · exact nI_pos (by omega) z
      · have := (nI_leI (by omega) (by omega)).mp z
        omega
    rcases hr with ⟨j, hj, ek, er⟩ | ⟨hk, er⟩ <;> rcases hr' with ⟨j', hj', ek', er'⟩ | ⟨hk', er'⟩
    · have hjj : j = j' := (nI_eq (by omega) (by omega)).mp (ek.symm.trans ek')
      subst hjj
      exact Option.some.inj (er.symm.trans er')
    · exact absurd hk' (key j hj ek)
    · exact absurd hk (key j' hj' ek')
    · rw [er, er']
theorem sTot_eq {N : Net} {r r' : Int32} (h : sTot N r) (h' : sTot N r') : r = r' := by
  obtain ⟨S, hL, e⟩ := h
  obtain ⟨S', hL', e'⟩ := h'
  rw [e, e', ks_sum_congr (fun x hx => by rw [pl_Lfp_eq hL hL' hx])]
theorem sDif_eq {N : Net} {x y r r' : Int32} (h : sDif N x y r) (h' : sDif N x y r') : r = r' := by
  rcases h with ⟨hb, e⟩ | ⟨c, d, S, hc, hd, e, f, hL, hr⟩ <;> rcases h' with ⟨hb', e'⟩ | ⟨c', d', S', hc', hd', e', f', hL', hr'⟩
  · rw [e, e']
  · rw [e', f'] at hb
    exact absurd hb (fun q => q.elim (sBad_no hc') (sBad_no hd'))
  · rw [e, f] at hb'
    exact absurd hb' (fun q => q.elim (sBad_no hc) (sBad_no hd))
  · have hcc : c = c' := (nI_eq (by omega) (by omega)).mp (e.symm.trans e')
    have hdd : d = d' := (nI_eq (by omega) (by omega)).mp (f.symm.trans f')
    subst hcc
    subst hdd
    rw [← pl_Lfp_eq hL hL' hc, ← pl_Lfp_eq hL hL' hd] at hr'
    rcases hr with ⟨er, h1⟩ | ⟨k, hk, er, h1, h2⟩ <;> rcases hr' with ⟨er', h1'⟩ | ⟨k', hk', er', h1', h2'⟩
    · rw [er, er']
    · exact absurd (h1 k') h2'
    · exact absurd (h1' k) h2
    · have hkk : k = k' := by
        rcases Nat.lt_trichotomy k k' with q | q | q
        · exact absurd (h1' k q) h2
        · exact q
        · exact absurd (h1 k' q) h2'
      rw [er, er', hkk]
theorem kS_get? {σ : KS} {w : Nat → Nat} {x j : Nat} (h : j < w x) : (kS σ w x)[j]? = some (σ 10 (20 * x + j)) := by
  rw [List.getElem?_eq_getElem (by rw [kS_len]; exact h), kS_get]
theorem kS_none {σ : KS} {w : Nat → Nat} {x j : Nat} (h : w x ≤ j) : (kS σ w x)[j]? = none := List.getElem?_eq_none (by rw [kS_len]; exact h)
def kObj (N : Net) (σ : KS) : Prop := kNet N σ ∧ (σ 9 0 = 0 ∨ (σ 9 0 = 1 ∧ kDone N σ))
theorem kObj_of {N : Net} {σ : KS} {w : Nat → Nat} (h1 : kNet N σ) (h2 : σ 9 0 = 1) (h3 : ∀ x, x < 10 → σ 11 x = nI (w x) ∧ w x ≤ 20) (h4 : pl_Lfp N (kS σ w)) : kObj N σ := ⟨h1, Or.inr ⟨h2, w, h3, h4⟩⟩
theorem sIn {x : Int32} (h1 : ¬ x < 0) (h2 : x ≤ nI 9) : ∃ c : Nat, c < 10 ∧ x = nI c := by
  obtain ⟨j, hj, e⟩ := nI_of2 (M := nI 9) (n := 9) (by decide) h1 h2
  exact ⟨j, by omega, e⟩
/-! building -/
def nAdd (N : Net) (k a b c d : Nat) (p q : Int32) : Net := (N.1 + 1, fun f i => if i = N.1 then (match f with | 0 => k | 1 => a | 2 => b | 3 => c | _ => d) else N.2.1 f i, fun i => if i = N.1 then p else N.2.2.1 i, fun i => if i = N.1 then q else N.2.2.2 i)
theorem nAdd_nk {N : Net} {k a b c d : Nat} {p q : Int32} : nk (nAdd N k a b c d p q) N.1 = k ∧ na (nAdd N k a b c d p q) N.1 = a ∧ nb (nAdd N k a b c d p q) N.1 = b ∧ nc (nAdd N k a b c d p q) N.1 = c ∧ nd (nAdd N k a b c d p q) N.1 = d ∧ nP (nAdd N k a b c d p q) N.1 = p ∧ nQ (nAdd N k a b c d p q) N.1 = q := ⟨if_pos rfl, if_pos rfl, if_pos rfl, if_pos rfl, if_pos rfl, if_pos rfl, if_pos rfl⟩
theorem nAdd_old {N : Net} {k a b c d : Nat} {p q : Int32} {i : Nat} (h : i < N.1) : nk (nAdd N k a b c d p q) i = nk N i ∧ na (nAdd N k a b c d p q) i = na N i ∧ nb (nAdd N k a b c d p q) i = nb N i ∧ nc (nAdd N k a b c d p q) i = nc N i ∧ nd (nAdd N k a b c d p q) i = nd N i ∧ nP (nAdd N k a b c d p q) i = nP N i ∧ nQ (nAdd N k a b c d p q) i = nQ N i := by
  have h2 : ¬ i = N.1 := by omega
  exact ⟨if_neg h2, if_neg h2, if_neg h2, if_neg h2, if_neg h2, if_neg h2, if_neg h2⟩
theorem nAdd_rd {N : Net} {k a b c d : Nat} {p q : Int32} {i x : Nat} (h : i < N.1) : nRd (nAdd N k a b c d p q) i x ↔ nRd N i x := by
  obtain ⟨e1, e2, e3, -⟩ := nAdd_old (k := k) (a := a) (b := b) (c := c) (d := d) (p := p) (q := q) h
  unfold nRd nTwo
  rw [e1, e2, e3]
theorem nAdd_wr {N : Net} {k a b c d : Nat} {p q : Int32} {i x : Nat} (h : i < N.1) : nWr (nAdd N k a b c d p q) i x ↔ nWr N i x := by
  obtain ⟨e1, e2, e3, e4, e5, -⟩ := nAdd_old (k := k) (a := a) (b := b) (c := c) (d := d) (p := p) (q := q) h
  unfold nWr
  rw [e1, e4, e5]
theorem nAdd_rdN {N : Net} {k a b c d : Nat} {p q : Int32} {x : Nat} : nRd (nAdd N k a b c d p q) N.1 x ↔ k ≠ 0 ∧ (a = x ∨ ((k = 2 ∨ k = 5) ∧ b = x)) := by
  obtain ⟨e1, e2, e3, -⟩ := nAdd_nk (N := N) (k := k) (a := a) (b := b) (c := c) (d := d) (p := p) (q := q)
  unfold nRd nTwo
  rw [e1, e2, e3]
theorem nAdd_wrN {N : Net} {k a b c d : Nat} {p q : Int32} {x : Nat} : nWr (nAdd N k a b c d p q) N.1 x ↔ c = x ∨ (k = 1 ∧ d = x) := by
  obtain ⟨e1, e2, e3, e4, e5, -⟩ := nAdd_nk (N := N) (k := k) (a := a) (b := b) (c := c) (d := d) (p := p) (q := q)
  unfold nWr
  rw [e1, e4, e5]
theorem nOk_add {N : Net} {k a b c d : Nat} {p q : Int32} (hN : nOk N) (h8 : N.1 < 8) (h : k ≤ 7 ∧ a < 10 ∧ c < 10 ∧ d < 10 ∧ b ≤ 12 ∧ (k ≠ 0 → b < 10) ∧ ((k = 2 ∨ k = 5) → a ≠ b) ∧ (k = 1 → c ≠ d))
    (hra : k ≠ 0 → ¬ ∃ i, i < N.1 ∧ nRd N i a) (hrb : (k = 2 ∨ k = 5) → ¬ ∃ i, i < N.1 ∧ nRd N i b) (hwc : ¬ ∃ i, i < N.1 ∧ nWr N i c) (hwd : k = 1 → ¬ ∃ i, i < N.1 ∧ nWr N i d) : nOk (nAdd N k a b c d p q) := by
  obtain ⟨-, hN1, hNr, hNw⟩ := hN
  have hR : ∀ i x, i < N.1 → nRd N i x → ¬ nRd (nAdd N k a b c d p q) N.1 x := by
    intro i x hi hq z
    obtain ⟨z1, z2⟩ := nAdd_rdN.mp z
    rcases z2 with e | ⟨z3, e⟩
    · exact hra z1 ⟨i, hi, e ▸ hq⟩
    · exact hrb z3 ⟨i, hi, e ▸ hq⟩
  have hW : ∀ i x, i < N.1 → nWr N i x → ¬ nWr (nAdd N k a b c d p q) N.1 x := by
    intro i x hi hq z
    rcases nAdd_wrN.mp z with e | ⟨z3, e⟩
    · exact hwc ⟨i, hi, e ▸ hq⟩
    · exact hwd z3 ⟨i, hi, e ▸ hq⟩
  have hlt : ∀ i, i < (nAdd N k a b c d p q).1 → i < N.1 ∨ i = N.1 := fun i hi => by
    have : i < N.1 + 1 := hi
    omega
  refine ⟨?_, fun i hi => ?_, fun i j x hi hj h1 h2 => ?_, fun i j x hi hj h1 h2 => ?_⟩
  · show N.1 + 1 ≤ 8
    omega
  · rcases hlt i hi with u | u
    · obtain ⟨e1, e2, e3, e4, e5, -⟩ := nAdd_old (k := k) (a := a) (b := b) (c := c) (d := d) (p := p) (q := q) u
      unfold nTwo
      rw [e1, e2, e3, e4, e5]
      exact hN1 i u
    · subst u
      obtain ⟨e1, e2, e3, e4, e5, -⟩ := nAdd_nk (N := N) (k := k) (a := a) (b := b) (c := c) (d := d) (p := p) (q := q)
      unfold nTwo
      rw [e1, e2, e3, e4, e5]
      exact h
  · rcases hlt i hi with u | u <;> rcases hlt j hj with v | v
    · exact hNr i j x u v ((nAdd_rd u).mp h1) ((nAdd_rd v).mp h2)
    · subst v
      exact absurd h2 (hR i x u ((nAdd_rd u).mp h1))
    · subst u
      exact absurd h1 (hR j x v ((nAdd_rd v).mp h2))
    · omega
  · rcases hlt i hi with u | u <;> rcases hlt j hj with v | v
    · exact hNw i j x u v ((nAdd_wr u).mp h1) ((nAdd_wr v).mp h2)
    · subst v
      exact absurd h2 (hW i x u ((nAdd_wr u).mp h1))
    · subst u
      exact absurd h1 (hW j x v ((nAdd_wr v).mp h2))
    · omega
theorem kNet_add {N : Net} {k a b c d : Nat} {p q : Int32} {σ σ' : KS} (hN : kNet N σ) (hok : nOk (nAdd N k a b c d p q)) (h0 : σ' 0 = σ 0) (h1 : σ' 1 0 = nI (N.1 + 1)) (hold : ∀ f, 2 ≤ f → f ≠ 9 → ∀ i, i < N.1 → σ' f i = σ f i)
    (n2 : σ' 2 N.1 = nI k) (n3 : σ' 3 N.1 = if k = 0 then -1 else nI a) (n4 : σ' 4 N.1 = if k = 2 ∨ k = 5 then nI b else -1) (n5 : σ' 5 N.1 = nI c) (n6 : σ' 6 N.1 = if k = 1 then nI d else -1) (n7 : σ' 7 N.1 = p) (n8 : k = 0 → σ' 8 N.1 = q ∧ σ' 15 N.1 = nI b) : kNet (nAdd N k a b c d p q) σ' := by
  obtain ⟨hOk, hn, hfb, hp⟩ := hN
  refine ⟨hok, h1, by rw [h0]; exact hfb, fun i hi => ?_⟩
  have hi2 : i < N.1 + 1 := hi
  by_cases u : i < N.1
  · obtain ⟨e1, e2, e3, e4, e5, e6, e7⟩ := nAdd_old (k := k) (a := a) (b := b) (c := c) (d := d) (p := p) (q := q) u
    unfold nTwo
    rw [e1, e2, e3, e4, e5, e6, e7, hold 2 (by decide) (by decide) i u, hold 3 (by decide) (by decide) i u, hold 4 (by decide) (by decide) i u, hold 5 (by decide) (by decide) i u, hold 6 (by decide) (by decide) i u, hold 7 (by decide) (by decide) i u, hold 8 (by decide) (by decide) i u, hold 15 (by decide) (by decide) i u]
    exact hp i u
  · have e : i = N.1 := by omega
    subst e
    obtain ⟨e1, e2, e3, e4, e5, e6, e7⟩ := nAdd_nk (N := N) (k := k) (a := a) (b := b) (c := c) (d := d) (p := p) (q := q)
    unfold nTwo
    rw [e1, e2, e3, e4, e5, e6, e7]
    exact ⟨n2, n3, n4, n5, n6, n7, n8⟩
theorem su_nj {σ : KS} {f g i j : Nat} {v : Int32} (h : j ≠ i) : su σ f i v g j = σ g j := by
  by_cases hg : g = f
  · subst hg
    exact su_ne h
  · rw [su_other hg]
def sWr (N : Net) (x : Nat) : Prop := ∃ i, i < N.1 ∧ nWr N i x
def sRd (N : Net) (x : Nat) : Prop := ∃ i, i < N.1 ∧ nRd N i x
def sSrc (N : Net) (x p q r : Int32) (N' : Net) : Prop := (8 ≤ N.1 ∧ r = -2 ∧ N' = N) ∨ (N.1 < 8 ∧ (x < 0 ∨ ∃ k, k < 2 ^ 31 ∧ x = nI k ∧ (9 < k / 16 ∨ 12 < k % 16)) ∧ r = -1 ∧ N' = N) ∨ (N.1 < 8 ∧ ∃ k, k < 2 ^ 31 ∧ x = nI k ∧ k / 16 ≤ 9 ∧ k % 16 ≤ 12 ∧ ((sWr N (k / 16) ∧ r = -3 ∧ N' = N) ∨ (¬ sWr N (k / 16) ∧ r = nI N.1 ∧ N' = nAdd N 0 0 (k % 16) (k / 16) 0 p q)))
def sTkn (N : Net) (k a b c d : Nat) : Prop := sRd N a ∨ ((k = 2 ∨ k = 5) ∧ sRd N b) ∨ sWr N c ∨ (k = 1 ∧ sWr N d) ∨ ((k = 2 ∨ k = 5) ∧ a = b) ∨ (k = 1 ∧ c = d)
def sPrc (N : Net) (x y z r : Int32) (N' : Net) : Prop := (8 ≤ N.1 ∧ r = -2 ∧ N' = N) ∨ (N.1 < 8 ∧ (x < nI 1 ∨ nI 7 < x ∨ y < 0 ∨ nI 9999 < y) ∧ r = -1 ∧ N' = N) ∨ (N.1 < 8 ∧ ∃ k p, x = nI k ∧ y = nI p ∧ 1 ≤ k ∧ k ≤ 7 ∧ p ≤ 9999 ∧ ((sTkn N k (p / 1000) (p / 100 % 10) (p / 10 % 10) (p % 10) ∧ r = -3 ∧ N' = N) ∨ (¬ sTkn N k (p / 1000) (p / 100 % 10) (p / 10 % 10) (p % 10) ∧ r = nI N.1 ∧ N' = nAdd N k (p / 1000) (p / 100 % 10) (p / 10 % 10) (p % 10) z 0)))
theorem sSrc_eq {N N1 N2 : Net} {x p q r r' : Int32} (h : sSrc N x p q r N1) (h' : sSrc N x p q r' N2) : r = r' ∧ N1 = N2 := by
  have hno : ∀ k, k < 2 ^ 31 → x = nI k → k / 16 ≤ 9 → k % 16 ≤ 12 → ¬ (x < 0 ∨ ∃ k, k < 2 ^ 31 ∧ x = nI k ∧ (9 < k / 16 ∨ 12 < k % 16)) := by
    intro k hk e h1 h2 z
    rcases z with z | ⟨k', hk', e', z⟩
    · rw [e] at z
      exact nI_pos hk z
    · have : k = k' := (nI_eq hk hk').mp (e.symm.trans e')
      subst this
      omega
  rcases h with ⟨a1, a2, a3⟩ | ⟨a1, a4, a2, a3⟩ | ⟨a1, k, a4, a5, a6, a7, a8⟩ <;> rcases h' with ⟨b1, b2, b3⟩ | ⟨b1, b4, b2, b3⟩ | ⟨b1, k', b4, b5, b6, b7, b8⟩
  · exact ⟨a2.trans b2.symm, a3.trans b3.symm⟩
  · omega
  · omega
  · omega
  · exact ⟨a2.trans b2.symm, a3.trans b3.symm⟩
  · exact absurd a4 (hno k' b4 b5 b6 b7)
  · omega
  · exact absurd b4 (hno k a4 a5 a6 a7)
  · have : k = k' := (nI_eq a4 b4).mp (a5.symm.trans b5)
    subst this
    rcases a8 with ⟨c1, c2, c3⟩ | ⟨c1, c2, c3⟩ <;> rcases b8 with ⟨d1, d2, d3⟩ | ⟨d1, d2, d3⟩
    · exact ⟨c2.trans d2.symm, c3.trans d3.symm⟩
    · exact absurd c1 d1
    · exact absurd d1 c1
    · exact ⟨c2.trans d2.symm, c3.trans d3.symm⟩
theorem sPrc_eq {N N1 N2 : Net} {x y z r r' : Int32} (h : sPrc N x y z r N1) (h' : sPrc N x y z r' N2) : r = r' ∧ N1 = N2 := by
  have hno : ∀ k p, x = nI k → y = nI p → 1 ≤ k → k ≤ 7 → p ≤ 9999 → ¬ (x < nI 1 ∨ nI 7 < x ∨ y < 0 ∨ nI 9999 < y) := by
    intro k p e e' h1 h2 h3 z
    rw [e, e'] at z
    rcases z with z | z | z | z
    · have := (nI_ltI (by omega) (by omega)).mp z
      omega
    · have := (nI_ltI (by omega) (by omega)).mp z
      omega
    · exact nI_pos (by omega) z
    · have := (nI_ltI (by omega) (by omega)).mp z
      omega
  rcases h with ⟨a1, a2, a3⟩ | ⟨a1, a4, a2, a3⟩ | ⟨a1, k, p, a4, a5, a6, a7, a8, a9⟩ <;> rcases h' with ⟨b1, b2, b3⟩ | ⟨b1, b4, b2, b3⟩ | ⟨b1, k', p', b4, b5, b6, b7, b8, b9⟩
  · exact ⟨a2.trans b2.symm, a3.trans b3.symm⟩
  · omega
  · omega
  · omega
  · exact ⟨a2.trans b2.symm, a3.trans b3.symm⟩
  · exact absurd a4 (hno k' p' b4 b5 b6 b7 b8)
  · omega
  · exact absurd b4 (hno k p a4 a5 a6 a7 a8)
  · have : k = k' := (nI_eq (by omega) (by omega)).mp (a4.symm.trans b4)
    subst this
    have : p = p' := (nI_eq (by omega) (by omega)).mp (a5.symm.trans b5)
    subst this
    rcases a9 with ⟨c1, c2, c3⟩ | ⟨c1, c2, c3⟩ <;> rcases b9 with ⟨d1, d2, d3⟩ | ⟨d1, d2, d3⟩
    · exact ⟨c2.trans d2.symm, c3.trans d3.symm⟩
    · exact absurd c1 d1
    · exact absurd d1 c1
    · exact ⟨c2.trans d2.symm, c3.trans d3.symm⟩
theorem nOk_zero (N : Net) : nOk (0, N.2) := ⟨Nat.zero_le _, fun i hi => absurd hi (Nat.not_lt_zero i), fun i j x hi => absurd hi (Nat.not_lt_zero i), fun i j x hi => absurd hi (Nat.not_lt_zero i)⟩
end
section
set_option maxHeartbeats 4000000 in
set_option maxRecDepth 100000 in
theorem metX1_length (l : Launch) (D : va_G) (c1 c2 : ClassId) (h : Nat) (ad : Nat → Nat) (A : Nat → Prop) (σ : KS) (N : Net) (hO : kObj N σ) (x0 : Int32) :
    Met l yX1_length (ws_ yX1_length cX1_length 2 (some .int)) ({ frames := 5, cells := 0, slots := 0, locals := 109 } : Room) (kP D c1 c2 h ad A σ [.int x0]) (va_Qi (fun (r : Int32) (σ' : KS) => kObj N σ' ∧ sLen N x0 r) (kB D c1 c2 h ad A) A) 0 0 A := by
  refine kM_of (by decide) rfl (Nat.le_of_ble_eq_true rfl) ?_
  intro p e s m args below meth c ls X hr hlocks I hl
  have hl : lv_has ls 2 [(0, .ref h), (1, .int x0)] := hl
  have hx := X.1
  have hb := X.2.1
  refine lv_iload_n hx hb dX1_length_0 rfl (lv_at hl 1 rfl) ?_
  refine lv_if_lt (tgt := 10) hx hb dX1_length_1 (by decide) (fun b1 => ?_) (fun b1 => ?_)
  · refine lv_iconst (v := -1) hx hb dX1_length_10 (by decide) ?_
    exact k_iret X I hr hlocks ⟨hO, Or.inl ⟨Or.inl b1, rfl⟩⟩ dX1_length_11
  · refine lv_iload_n hx hb dX1_length_4 rfl (lv_at hl 1 rfl) ?_
    refine lv_bipush (v := nI 9) hx hb dX1_length_5 (by decide) ?_
    refine lv_icmp_le (tgt := 12) hx hb dX1_length_7 (by decide) (fun b2 => ?_) (fun b2 => ?_)
    · obtain ⟨c0, hc0, rfl⟩ := sIn b1 b2
      refine lv_aload_n hx hb dX1_length_12 rfl (lv_at hl 0 rfl) ?_
      refine k_callv X I (rest := []) (metX1_runAll l D c1 c2 h ad A σ N hO.1 hO.2) (cwX1_runAll X.2.2.2.2.1 rfl rfl ⟨Nat.le_of_ble_eq_true rfl, Nat.le_of_ble_eq_true rfl⟩) rfl hl.1 rfl (Nat.le_of_ble_eq_true rfl) ⟨Nat.zero_le _, Nat.zero_le _⟩ dX1_length_13 (fun σ1 H locs hw I => ?_)
      obtain ⟨k1, k2, w, k3, k4⟩ := hw
      refine kf_written X I (lv_at hl 0 rfl) dX1_length_16 dX1_length_17 ?_
      refine lv_iload_n hx hb dX1_length_20 rfl (lv_at hl 1 rfl) ?_
      refine kl_written X I c0 rfl (by omega) (v := nI (w c0)) (k3 c0 hc0).1 dX1_length_21 ?_
      exact k_iret X I hr hlocks ⟨kObj_of k1 k2 k3 k4, Or.inr ⟨c0, kS σ1 w, hc0, rfl, k4, by rw [kS_len]⟩⟩ dX1_length_22
    · refine lv_iconst (v := -1) hx hb dX1_length_10 (by decide) ?_
      exact k_iret X I hr hlocks ⟨hO, Or.inl ⟨Or.inr (Int32.not_le.mp b2), rfl⟩⟩ dX1_length_11

set_option maxHeartbeats 4000000 in
set_option maxRecDepth 100000 in
theorem metX1_at (l : Launch) (D : va_G) (c1 c2 : ClassId) (h : Nat) (ad : Nat → Nat) (A : Nat → Prop) (σ : KS) (N : Net) (hO : kObj N σ) (x0 x1 : Int32) :
    Met l yX1_at (ws_ yX1_at cX1_at 3 (some .int)) ({ frames := 5, cells := 0, slots := 0, locals := 109 } : Room) (kP D c1 c2 h ad A σ [.int x0, .int x1]) (va_Qi (fun (r : Int32) (σ' : KS) => kObj N σ' ∧ sAt N x0 x1 r) (kB D c1 c2 h ad A) A) 0 0 A := by
  refine kM_of (by decide) rfl (Nat.le_of_ble_eq_true rfl) ?_
  intro p e s m args below meth c ls X hr hlocks I hl
  have hl : lv_has ls 3 [(0, .ref h), (1, .int x0), (2, .int x1)] := hl
  have hx := X.1
  have hb := X.2.1
  refine lv_iload_n hx hb dX1_at_0 rfl (lv_at hl 1 rfl) ?_
  refine lv_if_lt (tgt := 10) hx hb dX1_at_1 (by decide) (fun b1 => ?_) (fun b1 => ?_)
  · refine lv_iconst (v := nI 0) hx hb dX1_at_10 (by decide) ?_
    exact k_iret X I hr hlocks ⟨hO, Or.inl ⟨Or.inl b1, rfl⟩⟩ dX1_at_11
  · refine lv_iload_n hx hb dX1_at_4 rfl (lv_at hl 1 rfl) ?_
    refine lv_bipush (v := nI 9) hx hb dX1_at_5 (by decide) ?_
    refine lv_icmp_le (tgt := 12) hx hb dX1_at_7 (by decide) (fun b2 => ?_) (fun b2 => ?_)
    · obtain ⟨c0, hc0, rfl⟩ := sIn b1 b2
      refine lv_aload_n hx hb dX1_at_12 rfl (lv_at hl 0 rfl) ?_
      refine k_callv X I (rest := []) (metX1_runAll l D c1 c2 h ad A σ N hO.1 hO.2) (cwX1_runAll X.2.2.2.2.1 rfl rfl ⟨Nat.le_of_ble_eq_true rfl, Nat.le_of_ble_eq_true rfl⟩) rfl hl.1 rfl (Nat.le_of_ble_eq_true rfl) ⟨Nat.zero_le _, Nat.zero_le _⟩ dX1_at_13 (fun σ1 H locs hw I => ?_)
      obtain ⟨k1, k2, w, k3, k4⟩ := hw
      obtain ⟨k5, k6⟩ := k3 c0 hc0
      refine lv_iload_n hx hb dX1_at_16 rfl (lv_at hl 2 rfl) ?_
      refine lv_if_lt (tgt := 30) hx hb dX1_at_17 (by decide) (fun b3 => ?_) (fun b3 => ?_)
      · refine lv_iconst (v := nI 0) hx hb dX1_at_30 (by decide) ?_
        refine lv_goto (tgt := 45) hx hb dX1_at_31 (by decide) ?_
        exact k_iret X I hr hlocks ⟨kObj_of k1 k2 k3 k4, Or.inr ⟨c0, kS σ1 w, hc0, rfl, k4, by rw [kS_len]; exact k6, Or.inr ⟨Or.inl b3, rfl⟩⟩⟩ dX1_at_45
      · refine lv_iload_n hx hb dX1_at_20 rfl (lv_at hl 2 rfl) ?_
        refine kf_written X I (lv_at hl 0 rfl) dX1_at_21 dX1_at_22 ?_
        refine lv_iload_n hx hb dX1_at_25 rfl (lv_at hl 1 rfl) ?_
        refine kl_written X I c0 rfl (by omega) (v := nI (w c0)) k5 dX1_at_26 ?_
        refine lv_icmp_lt (tgt := 34) hx hb dX1_at_27 (by decide) (fun b4 => ?_) (fun b4 => ?_)
        · obtain ⟨j0, hj0, rfl⟩ := nI_of b3
          have b4 : j0 < w c0 := (nI_ltI (by omega) (by omega)).mp b4
          refine kf_stream X I (lv_at hl 0 rfl) dX1_at_34 dX1_at_35 ?_
          refine lv_bipush (v := nI 20) hx hb dX1_at_38 (by decide) ?_
          refine lv_iload_n hx hb dX1_at_40 rfl (lv_at hl 1 rfl) ?_
          refine lv_imul hx hb dX1_at_41 ?_
          refine kv_top (pk_mul _ _) ?_
          refine lv_iload_n hx hb dX1_at_42 rfl (lv_at hl 2 rfl) ?_
          refine lv_iadd hx hb dX1_at_43 ?_
          refine kv_top (nI_add _ _) ?_
          refine kl_stream X I ((20 * c0) + j0) rfl (by omega) (v := σ1 10 ((20 * c0) + j0)) rfl dX1_at_44 ?_
          exact k_iret X I hr hlocks ⟨kObj_of k1 k2 k3 k4, Or.inr ⟨c0, kS σ1 w, hc0, rfl, k4, by rw [kS_len]; exact k6, Or.inl ⟨j0, by rw [kS_len]; exact b4, rfl, kS_get? b4⟩⟩⟩ dX1_at_45
        · refine lv_iconst (v := nI 0) hx hb dX1_at_30 (by decide) ?_
          refine lv_goto (tgt := 45) hx hb dX1_at_31 (by decide) ?_
          exact k_iret X I hr hlocks ⟨kObj_of k1 k2 k3 k4, Or.inr ⟨c0, kS σ1 w, hc0, rfl, k4, by rw [kS_len]; exact k6, Or.inr ⟨Or.inr (by rw [kS_len]; exact Int32.not_lt.mp b4), rfl⟩⟩⟩ dX1_at_45
    · refine lv_iconst (v := nI 0) hx hb dX1_at_10 (by decide) ?_
      exact k_iret X I hr hlocks ⟨hO, Or.inl ⟨Or.inr (Int32.not_le.mp b2), rfl⟩⟩ dX1_at_11

set_option maxHeartbeats 4000000 in
set_option maxRecDepth 100000 in
theorem metX1_processes (l : Launch) (D : va_G) (c1 c2 : ClassId) (h : Nat) (ad : Nat → Nat) (A : Nat → Prop) (σ : KS) (N : Net) (hO : kObj N σ) :
    Met l yX1_processes (ws_ yX1_processes cX1_processes 1 (some .int)) ({ frames := 0, cells := 0, slots := 0, locals := 0 } : Room) (kP D c1 c2 h ad A σ []) (va_Qi (fun (r : Int32) (σ' : KS) => kObj N σ' ∧ r = nI N.1) (kB D c1 c2 h ad A) A) 0 0 A := by
  refine kM_of (by decide) rfl (Nat.le_of_ble_eq_true rfl) ?_
  intro p e s m args below meth c ls X hr hlocks I hl
  have hl : lv_has ls 1 [(0, .ref h)] := hl
  have hx := X.1
  have hb := X.2.1
  refine kf_processCount X I (v := nI N.1) hO.1.2.1 (lv_at hl 0 rfl) dX1_processes_0 dX1_processes_1 ?_
  exact k_iret X I hr hlocks ⟨hO, rfl⟩ dX1_processes_4

set_option maxHeartbeats 4000000 in
set_option maxRecDepth 100000 in
theorem metX1_clear (l : Launch) (D : va_G) (c1 c2 : ClassId) (h : Nat) (ad : Nat → Nat) (A : Nat → Prop) (σ : KS) (N : Net) (hO : kObj N σ) :
    Met l yX1_clear (ws_ yX1_clear cX1_clear 2 (some .int)) ({ frames := 0, cells := 0, slots := 0, locals := 0 } : Room) (kP D c1 c2 h ad A σ []) (va_Qi (fun (r : Int32) (σ' : KS) => kObj (0, N.2) σ' ∧ r = nI N.1) (kB D c1 c2 h ad A) A) 0 0 A := by
  refine kM_of (by decide) rfl (Nat.le_of_ble_eq_true rfl) ?_
  intro p e s m args below meth c ls X hr hlocks I hl
  have hl : lv_has ls 2 [(0, .ref h)] := hl
  have hx := X.1
  have hb := X.2.1
  refine kf_processCount X I (v := nI N.1) hO.1.2.1 (lv_at hl 0 rfl) dX1_clear_0 dX1_clear_1 ?_
  refine lv_istore_n (lv' := [(1, .int (nI N.1)), (0, .ref h)]) hx hb dX1_clear_4 rfl hl (by decide) rfl (fun ls hl => ?_)
  refine lv_aload_n hx hb dX1_clear_5 rfl (lv_at hl 1 rfl) ?_
  refine lv_iconst (v := nI 0) hx hb dX1_clear_6 (by decide) ?_
  refine kp_processCount X I dX1_clear_7 (fun H locs I => ?_)
  refine lv_aload_n hx hb dX1_clear_10 rfl (lv_at hl 1 rfl) ?_
  refine lv_iconst (v := nI 0) hx hb dX1_clear_11 (by decide) ?_
  refine kp_hasRun X I rfl rfl dX1_clear_12 (fun H locs I => ?_)
  refine lv_iload_n hx hb dX1_clear_15 rfl (lv_at hl 0 rfl) ?_
  exact k_iret X I hr hlocks ⟨⟨⟨nOk_zero N, rfl, hO.1.2.2.1, fun i hi => absurd hi (Nat.not_lt_zero i)⟩, Or.inl rfl⟩, rfl⟩ dX1_clear_16

set_option maxHeartbeats 4000000 in
set_option maxRecDepth 100000 in
theorem metX1_total (l : Launch) (D : va_G) (c1 c2 : ClassId) (h : Nat) (ad : Nat → Nat) (A : Nat → Prop) (σ : KS) (N : Net) (hO : kObj N σ) :
    Met l yX1_total (ws_ yX1_total cX1_total 3 (some .int)) ({ frames := 5, cells := 0, slots := 0, locals := 109 } : Room) (kP D c1 c2 h ad A σ []) (va_Qi (fun (r : Int32) (σ' : KS) => kObj N σ' ∧ sTot N r) (kB D c1 c2 h ad A) A) 0 0 A := by
  refine kM_of (by decide) rfl (Nat.le_of_ble_eq_true rfl) ?_
  intro p e s m args below meth c ls X hr hlocks I hl
  have hl : lv_has ls 3 [(0, .ref h)] := hl
  have hx := X.1
  have hb := X.2.1
  refine lv_aload_n hx hb dX1_total_0 rfl (lv_at hl 0 rfl) ?_
  refine k_callv X I (rest := []) (metX1_runAll l D c1 c2 h ad A σ N hO.1 hO.2) (cwX1_runAll X.2.2.2.2.1 rfl rfl ⟨Nat.le_of_ble_eq_true rfl, Nat.le_of_ble_eq_true rfl⟩) rfl hl.1 rfl (Nat.le_of_ble_eq_true rfl) ⟨Nat.zero_le _, Nat.zero_le _⟩ dX1_total_1 (fun σ1 H locs hw I => ?_)
  obtain ⟨k1, k2, w, k3, k4⟩ := hw
  have loop : ∀ (f i : Nat), 10 - i < f → i ≤ 10 → ∀ ls : Array Slot, lv_has ls 3 [(2, .int (nI i)), (1, .int (nI (ks_sum w i))), (0, .ref h)] → W p l e ({ frames := 5, cells := 0, slots := 0, locals := 109 } : Room) s m args below meth c H locs 0 0 (MQ below (va_Qi (fun (r : Int32) (σ' : KS) => kObj N σ' ∧ sTot N r) (kB D c1 c2 h ad A) A) args s 0 0 A) (F0 m 8 ls []) := by
    intro f
    induction f with
    | zero =>
      intro i h1
      exact absurd h1 (by omega)
    | succ f ih =>
      intro i hf hi ls hl
      refine lv_iload_n hx hb dX1_total_8 rfl (lv_at hl 0 rfl) ?_
      refine lv_bipush (v := nI 10) hx hb dX1_total_9 (by decide) ?_
      refine lv_icmp_ge (tgt := 29) hx hb dX1_total_11 (by decide) (fun b1 => ?_) (fun b1 => ?_)
      · have b1 : 10 ≤ i := (nI_leI (a := 10) (b := i) (by omega) (by omega)).mp b1
        have hi10 : i = 10 := by omega
        subst hi10
        refine lv_iload_n hx hb dX1_total_29 rfl (lv_at hl 1 rfl) ?_
        exact k_iret X I hr hlocks ⟨kObj_of k1 k2 k3 k4, kS σ1 w, k4, by rw [ks_sum_congr (g := w) (fun x _ => kS_len σ1 w x)]⟩ dX1_total_30
      · have b1 : ¬ 10 ≤ i := fun q => b1 ((nI_leI (a := 10) (b := i) (by omega) (by omega)).mpr q)
        refine lv_iload_n hx hb dX1_total_14 rfl (lv_at hl 1 rfl) ?_
        refine kf_written X I (lv_at hl 2 rfl) dX1_total_15 dX1_total_16 ?_
        refine lv_iload_n hx hb dX1_total_19 rfl (lv_at hl 0 rfl) ?_
        refine kl_written X I i rfl (by omega) (v := nI (w i)) (k3 i (by omega)).1 dX1_total_20 ?_
        refine lv_iadd hx hb dX1_total_21 ?_
        refine kv_top (nI_add _ _) ?_
        refine lv_istore_n (lv' := [(1, .int (nI ((ks_sum w i) + (w i)))), (2, .int (nI i)), (0, .ref h)]) hx hb dX1_total_22 rfl hl (by decide) rfl (fun ls hl => ?_)
        refine lv_iinc (v := nI (i + 1)) (lv' := [(2, .int (nI (i + 1))), (1, .int (nI ((ks_sum w i) + (w i)))), (0, .ref h)]) hx hb dX1_total_23 hl (k := 1) rfl (nI_1 i) (by decide) rfl (fun ls hl => ?_)
        refine lv_goto (tgt := 8) hx hb dX1_total_26 (by decide) ?_
        exact ih (i + 1) (by omega) (by omega) ls (lv_sub hl [0, 1, 2] rfl)
  refine lv_iconst (v := nI 0) hx hb dX1_total_4 (by decide) ?_
  refine lv_istore_n (lv' := [(1, .int (nI 0)), (0, .ref h)]) hx hb dX1_total_5 rfl hl (by decide) rfl (fun ls hl => ?_)
  refine lv_iconst (v := nI 0) hx hb dX1_total_6 (by decide) ?_
  refine lv_istore_n (lv' := [(2, .int (nI 0)), (1, .int (nI 0)), (0, .ref h)]) hx hb dX1_total_7 rfl hl (by decide) rfl (fun ls hl => ?_)
  exact loop 11 0 (by omega) (by omega) ls hl

set_option maxHeartbeats 4000000 in
set_option maxRecDepth 100000 in
theorem metX1_firstDifference (l : Launch) (D : va_G) (c1 c2 : ClassId) (h : Nat) (ad : Nat → Nat) (A : Nat → Prop) (σ : KS) (N : Net) (hO : kObj N σ) (x0 x1 : Int32) :
    Met l yX1_firstDifference (ws_ yX1_firstDifference cX1_firstDifference 4 (some .int)) ({ frames := 5, cells := 0, slots := 0, locals := 109 } : Room) (kP D c1 c2 h ad A σ [.int x0, .int x1]) (va_Qi (fun (r : Int32) (σ' : KS) => kObj N σ' ∧ sDif N x0 x1 r) (kB D c1 c2 h ad A) A) 0 0 A := by
  refine kM_of (by decide) rfl (Nat.le_of_ble_eq_true rfl) ?_
  intro p e s m args below meth c ls X hr hlocks I hl
  have hl : lv_has ls 4 [(0, .ref h), (1, .int x0), (2, .int x1)] := hl
  have hx := X.1
  have hb := X.2.1
  refine lv_iload_n hx hb dX1_firstDifference_0 rfl (lv_at hl 1 rfl) ?_
  refine lv_if_lt (tgt := 20) hx hb dX1_firstDifference_1 (by decide) (fun b1 => ?_) (fun b1 => ?_)
  · refine lv_bipush (v := -2) hx hb dX1_firstDifference_20 (by decide) ?_
    exact k_iret X I hr hlocks ⟨hO, Or.inl ⟨Or.inl (Or.inl b1), rfl⟩⟩ dX1_firstDifference_22
  · refine lv_iload_n hx hb dX1_firstDifference_4 rfl (lv_at hl 1 rfl) ?_
    refine lv_bipush (v := nI 9) hx hb dX1_firstDifference_5 (by decide) ?_
    refine lv_icmp_gt (tgt := 20) hx hb dX1_firstDifference_7 (by decide) (fun b2 => ?_) (fun b2 => ?_)
    · refine lv_bipush (v := -2) hx hb dX1_firstDifference_20 (by decide) ?_
      exact k_iret X I hr hlocks ⟨hO, Or.inl ⟨Or.inl (Or.inr b2), rfl⟩⟩ dX1_firstDifference_22
    · refine lv_iload_n hx hb dX1_firstDifference_10 rfl (lv_at hl 2 rfl) ?_
      refine lv_if_lt (tgt := 20) hx hb dX1_firstDifference_11 (by decide) (fun b3 => ?_) (fun b3 => ?_)
      · refine lv_bipush (v := -2) hx hb dX1_firstDifference_20 (by decide) ?_
        exact k_iret X I hr hlocks ⟨hO, Or.inl ⟨Or.inr (Or.inl b3), rfl⟩⟩ dX1_firstDifference_22
      · refine lv_iload_n hx hb dX1_firstDifference_14 rfl (lv_at hl 2 rfl) ?_
        refine lv_bipush (v := nI 9) hx hb dX1_firstDifference_15 (by decide) ?_
        refine lv_icmp_le (tgt := 23) hx hb dX1_firstDifference_17 (by decide) (fun b4 => ?_) (fun b4 => ?_)
        · obtain ⟨c0, hc0, rfl⟩ := sIn b1 (Int32.not_lt.mp b2)
          obtain ⟨d0, hd0, rfl⟩ := sIn b3 b4
          refine lv_aload_n hx hb dX1_firstDifference_23 rfl (lv_at hl 0 rfl) ?_
          refine k_callv X I (rest := []) (metX1_runAll l D c1 c2 h ad A σ N hO.1 hO.2) (cwX1_runAll X.2.2.2.2.1 rfl rfl ⟨Nat.le_of_ble_eq_true rfl, Nat.le_of_ble_eq_true rfl⟩) rfl hl.1 rfl (Nat.le_of_ble_eq_true rfl) ⟨Nat.zero_le _, Nat.zero_le _⟩ dX1_firstDifference_24 (fun σ1 H locs hw I => ?_)
          obtain ⟨k1, k2, w, k3, k4⟩ := hw
          obtain ⟨k5, k6⟩ := k3 c0 hc0
          obtain ⟨k7, k8⟩ := k3 d0 hd0
          have hget : ∀ j, j < w c0 → j < w d0 → ((kS σ1 w c0)[j]? = (kS σ1 w d0)[j]? ↔ σ1 10 (20 * c0 + j) = σ1 10 (20 * d0 + j)) := fun j hj hj2 => by
            rw [kS_get? hj, kS_get? hj2]
            exact ⟨fun q => Option.some.inj q, fun q => by rw [q]⟩
          have fin : ∀ k, k ≤ w c0 → k ≤ w d0 → (∀ j, j < k → (kS σ1 w c0)[j]? = (kS σ1 w d0)[j]?) → (k = w c0 ∨ k = w d0 ∨ ¬ σ1 10 (20 * c0 + k) = σ1 10 (20 * d0 + k)) → ∀ ls : Array Slot, lv_has ls 4 [(3, .int (nI k)), (0, .ref h), (1, .int (nI c0)), (2, .int (nI d0))] → W p l e ({ frames := 5, cells := 0, slots := 0, locals := 109 } : Room) s m args below meth c H locs 0 0 (MQ below (va_Qi (fun (r : Int32) (σ' : KS) => kObj N σ' ∧ sDif N (nI c0) (nI d0) r) (kB D c1 c2 h ad A) A) args s 0 0 A) (F0 m 80 ls []) := by
            intro k hk1 hk2 hk3 hk4 ls hl
            refine lv_iload_n hx hb dX1_firstDifference_80 rfl (lv_at hl 0 rfl) ?_
            refine kf_written X I (lv_at hl 1 rfl) dX1_firstDifference_81 dX1_firstDifference_82 ?_
            refine lv_iload_n hx hb dX1_firstDifference_85 rfl (lv_at hl 2 rfl) ?_
            refine kl_written X I c0 rfl (by omega) (v := nI (w c0)) k5 dX1_firstDifference_86 ?_
            refine lv_icmp_ne (tgt := 104) hx hb dX1_firstDifference_87 (by decide) (fun e1 => ?_) (fun e1 => ?_)
            · have e1 : ¬ k = (w c0) := fun q => e1 ((nI_eq (a := k) (b := (w c0)) (by omega) (by omega)).mpr q)
              refine lv_iload_n hx hb dX1_firstDifference_104 rfl (lv_at hl 0 rfl) ?_
              exact k_iret X I hr hlocks ⟨kObj_of k1 k2 k3 k4, Or.inr ⟨c0, d0, kS σ1 w, hc0, hd0, rfl, rfl, k4, Or.inr ⟨k, by omega, rfl, hk3, by
                  by_cases z : k = w d0
                  · rw [kS_get? (by omega), kS_none (by omega)]
                    exact fun q => by cases q
                  · exact fun q => hk4.elim e1 (fun y => y.elim z (fun y => y ((hget k (by omega) (by omega)).mp q)))⟩⟩⟩ dX1_firstDifference_105
            · have e1 : k = (w c0) := (nI_eq (a := k) (b := (w c0)) (by omega) (by omega)).mp e1
              refine lv_iload_n hx hb dX1_firstDifference_90 rfl (lv_at hl 0 rfl) ?_
              refine kf_written X I (lv_at hl 1 rfl) dX1_firstDifference_91 dX1_firstDifference_92 ?_
              refine lv_iload_n hx hb dX1_firstDifference_95 rfl (lv_at hl 3 rfl) ?_
              refine kl_written X I d0 rfl (by omega) (v := nI (w d0)) k7 dX1_firstDifference_96 ?_
              refine lv_icmp_ne (tgt := 104) hx hb dX1_firstDifference_97 (by decide) (fun e2 => ?_) (fun e2 => ?_)
              · have e2 : ¬ k = (w d0) := fun q => e2 ((nI_eq (a := k) (b := (w d0)) (by omega) (by omega)).mpr q)
                refine lv_iload_n hx hb dX1_firstDifference_104 rfl (lv_at hl 0 rfl) ?_
                exact k_iret X I hr hlocks ⟨kObj_of k1 k2 k3 k4, Or.inr ⟨c0, d0, kS σ1 w, hc0, hd0, rfl, rfl, k4, Or.inr ⟨k, by omega, rfl, hk3, by
                    rw [kS_none (by omega), kS_get? (by omega)]
                    exact fun q => by cases q⟩⟩⟩ dX1_firstDifference_105
              · have e2 : k = (w d0) := (nI_eq (a := k) (b := (w d0)) (by omega) (by omega)).mp e2
                refine lv_iconst (v := -1) hx hb dX1_firstDifference_100 (by decide) ?_
                refine lv_goto (tgt := 105) hx hb dX1_firstDifference_101 (by decide) ?_
                exact k_iret X I hr hlocks ⟨kObj_of k1 k2 k3 k4, Or.inr ⟨c0, d0, kS σ1 w, hc0, hd0, rfl, rfl, k4, Or.inl ⟨rfl, fun j => (by
                    by_cases z : j < k
                    · exact hk3 j z
                    · rw [kS_none (by omega), kS_none (by omega)])⟩⟩⟩ dX1_firstDifference_105
          have loop : ∀ (f k : Nat), w c0 - k < f → k ≤ w c0 → k ≤ w d0 → (∀ j, j < k → (kS σ1 w c0)[j]? = (kS σ1 w d0)[j]?) → ∀ ls : Array Slot, lv_has ls 4 [(3, .int (nI k)), (0, .ref h), (1, .int (nI c0)), (2, .int (nI d0))] → W p l e ({ frames := 5, cells := 0, slots := 0, locals := 109 } : Room) s m args below meth c H locs 0 0 (MQ below (va_Qi (fun (r : Int32) (σ' : KS) => kObj N σ' ∧ sDif N (nI c0) (nI d0) r) (kB D c1 c2 h ad A) A) args s 0 0 A) (F0 m 29 ls []) := by
            intro f
            induction f with
            | zero =>
              intro k h1
              exact absurd h1 (by omega)
            | succ f ih =>
              intro k hf hk1 hk2 hk3 ls hl
              refine lv_iload_n hx hb dX1_firstDifference_29 rfl (lv_at hl 0 rfl) ?_
              refine kf_written X I (lv_at hl 1 rfl) dX1_firstDifference_30 dX1_firstDifference_31 ?_
              refine lv_iload_n hx hb dX1_firstDifference_34 rfl (lv_at hl 2 rfl) ?_
              refine kl_written X I c0 rfl (by omega) (v := nI (w c0)) k5 dX1_firstDifference_35 ?_
              refine lv_icmp_ge (tgt := 80) hx hb dX1_firstDifference_36 (by decide) (fun e1 => ?_) (fun e1 => ?_)
              · have e1 : (w c0) ≤ k := (nI_leI (a := (w c0)) (b := k) (by omega) (by omega)).mp e1
                exact fin k hk1 hk2 hk3 (Or.inl (by omega)) ls hl
              · have e1 : ¬ (w c0) ≤ k := fun q => e1 ((nI_leI (a := (w c0)) (b := k) (by omega) (by omega)).mpr q)
                refine lv_iload_n hx hb dX1_firstDifference_39 rfl (lv_at hl 0 rfl) ?_
                refine kf_written X I (lv_at hl 1 rfl) dX1_firstDifference_40 dX1_firstDifference_41 ?_
                refine lv_iload_n hx hb dX1_firstDifference_44 rfl (lv_at hl 3 rfl) ?_
                refine kl_written X I d0 rfl (by omega) (v := nI (w d0)) k7 dX1_firstDifference_45 ?_
                refine lv_icmp_ge (tgt := 80) hx hb dX1_firstDifference_46 (by decide) (fun e2 => ?_) (fun e2 => ?_)
                · have e2 : (w d0) ≤ k := (nI_leI (a := (w d0)) (b := k) (by omega) (by omega)).mp e2
                  exact fin k hk1 hk2 hk3 (Or.inr (Or.inl (by omega))) ls hl
                · have e2 : ¬ (w d0) ≤ k := fun q => e2 ((nI_leI (a := (w d0)) (b := k) (by omega) (by omega)).mpr q)
                  refine kf_stream X I (lv_at hl 1 rfl) dX1_firstDifference_49 dX1_firstDifference_50 ?_
                  refine lv_bipush (v := nI 20) hx hb dX1_firstDifference_53 (by decide) ?_
                  refine lv_iload_n hx hb dX1_firstDifference_55 rfl (lv_at hl 2 rfl) ?_
                  refine lv_imul hx hb dX1_firstDifference_56 ?_
                  refine kv_top (pk_mul _ _) ?_
                  refine lv_iload_n hx hb dX1_firstDifference_57 rfl (lv_at hl 0 rfl) ?_
                  refine lv_iadd hx hb dX1_firstDifference_58 ?_
                  refine kv_top (nI_add _ _) ?_
                  refine kl_stream X I ((20 * c0) + k) rfl (by omega) (v := σ1 10 ((20 * c0) + k)) rfl dX1_firstDifference_59 ?_
                  refine kf_stream X I (lv_at hl 1 rfl) dX1_firstDifference_60 dX1_firstDifference_61 ?_
                  refine lv_bipush (v := nI 20) hx hb dX1_firstDifference_64 (by decide) ?_
                  refine lv_iload_n hx hb dX1_firstDifference_66 rfl (lv_at hl 3 rfl) ?_
                  refine lv_imul hx hb dX1_firstDifference_67 ?_
                  refine kv_top (pk_mul _ _) ?_
                  refine lv_iload_n hx hb dX1_firstDifference_68 rfl (lv_at hl 0 rfl) ?_
                  refine lv_iadd hx hb dX1_firstDifference_69 ?_
                  refine kv_top (nI_add _ _) ?_
                  refine kl_stream X I ((20 * d0) + k) rfl (by omega) (v := σ1 10 ((20 * d0) + k)) rfl dX1_firstDifference_70 ?_
                  refine lv_icmp_ne (tgt := 80) hx hb dX1_firstDifference_71 (by decide) (fun e3 => ?_) (fun e3 => ?_)
                  · exact fin k hk1 hk2 hk3 (Or.inr (Or.inr e3)) ls hl
                  · refine lv_iinc (v := nI (k + 1)) (lv' := [(3, .int (nI (k + 1))), (0, .ref h), (1, .int (nI c0)), (2, .int (nI d0))]) hx hb dX1_firstDifference_74 hl (k := 0) rfl (nI_1 k) (by decide) rfl (fun ls hl => ?_)
                    refine lv_goto (tgt := 29) hx hb dX1_firstDifference_77 (by decide) ?_
                    exact ih (k + 1) (by omega) (by omega) (by omega) (fun j hj => by
                      rcases Nat.lt_succ_iff_lt_or_eq.mp hj with y | y
                      · exact hk3 j y
                      · subst y
                        exact (hget j (by omega) (by omega)).mpr e3) ls (lv_sub hl [0, 1, 2, 3] rfl)
          refine lv_iconst (v := nI 0) hx hb dX1_firstDifference_27 (by decide) ?_
          refine lv_istore_n (lv' := [(3, .int (nI 0)), (0, .ref h), (1, .int (nI c0)), (2, .int (nI d0))]) hx hb dX1_firstDifference_28 rfl hl (by decide) rfl (fun ls hl => ?_)
          exact loop (w c0 + 1) 0 (by omega) (by omega) (by omega) (fun j hj => absurd hj (by omega)) ls hl
        · refine lv_bipush (v := -2) hx hb dX1_firstDifference_20 (by decide) ?_
          exact k_iret X I hr hlocks ⟨hO, Or.inl ⟨Or.inr (Or.inr (Int32.not_le.mp b4)), rfl⟩⟩ dX1_firstDifference_22
end
section
set_option maxHeartbeats 4000000 in
set_option maxRecDepth 100000 in
theorem metX1_addProcess (l : Launch) (D : va_G) (c1 c2 : ClassId) (h : Nat) (ad : Nat → Nat) (A : Nat → Prop) (σ : KS) (n0 : Nat) (v2 v3 v4 v5 v6 : Int32) (hn : σ 1 0 = nI n0) (hn8 : n0 < 8) (t2 : v2.toInt8.toInt32 = v2) (t3 : v3.toInt8.toInt32 = v3) (t4 : v4.toInt8.toInt32 = v4) (t5 : v5.toInt8.toInt32 = v5) (t6 : v6.toInt8.toInt32 = v6) :
    Met l yX1_addProcess (ws_ yX1_addProcess cX1_addProcess 7 (some .int)) ({ frames := 0, cells := 0, slots := 0, locals := 0 } : Room) (kP D c1 c2 h ad A σ [.int v2, .int v3, .int v4, .int v5, .int v6]) (va_Qi (fun (r : Int32) (σ' : KS) => r = nI n0 ∧ σ' = (su (su (su (su (su (su (su σ 1 0 (nI (n0 + 1))) 2 n0 v2) 3 n0 v3) 4 n0 v4) 5 n0 v5) 6 n0 v6) 9 0 (nI 0))) (kB D c1 c2 h ad A) A) 0 0 A := by
  refine kM_of (by decide) rfl (Nat.le_of_ble_eq_true rfl) ?_
  intro p e s m args below meth c ls X hr hlocks I hl
  have hl : lv_has ls 7 [(0, .ref h), (1, .int v2), (2, .int v3), (3, .int v4), (4, .int v5), (5, .int v6)] := hl
  have hx := X.1
  have hb := X.2.1
  refine kf_processCount X I (v := nI n0) hn (lv_at hl 0 rfl) dX1_addProcess_0 dX1_addProcess_1 ?_
  refine lv_istore (lv' := [(6, .int (nI n0)), (0, .ref h), (1, .int v2), (2, .int v3), (3, .int v4), (4, .int v5), (5, .int v6)]) hx hb dX1_addProcess_4 hl (by decide) rfl (fun ls hl => ?_)
  refine lv_aload_n hx hb dX1_addProcess_6 rfl (lv_at hl 1 rfl) ?_
  refine lv_dup hx hb dX1_addProcess_7 rfl ?_
  refine kg_processCount X I (v := nI n0) hn dX1_addProcess_8 ?_
  refine lv_iconst (v := nI 1) hx hb dX1_addProcess_11 (by decide) ?_
  refine lv_iadd hx hb dX1_addProcess_12 ?_
  refine kv_top (nI_add _ _) ?_
  refine kp_processCount X I dX1_addProcess_13 (fun H locs I => ?_)
  refine kf_kinds X I (lv_at hl 1 rfl) dX1_addProcess_16 dX1_addProcess_17 ?_
  refine lv_iload hx hb dX1_addProcess_20 (lv_at hl 0 rfl) ?_
  refine lv_iload_n hx hb dX1_addProcess_22 rfl (lv_at hl 2 rfl) ?_
  refine lv_i2b (v := v2) hx hb dX1_addProcess_23 t2 ?_
  refine ks_kinds X I n0 rfl (by omega) ((vp_nar_byte _).trans t2) dX1_addProcess_24 (fun H locs I => ?_)
  refine kf_readsA X I (lv_at hl 1 rfl) dX1_addProcess_25 dX1_addProcess_26 ?_
  refine lv_iload hx hb dX1_addProcess_29 (lv_at hl 0 rfl) ?_
  refine lv_iload_n hx hb dX1_addProcess_31 rfl (lv_at hl 3 rfl) ?_
  refine lv_i2b (v := v3) hx hb dX1_addProcess_32 t3 ?_
  refine ks_readsA X I n0 rfl (by omega) ((vp_nar_byte _).trans t3) dX1_addProcess_33 (fun H locs I => ?_)
  refine kf_readsB X I (lv_at hl 1 rfl) dX1_addProcess_34 dX1_addProcess_35 ?_
  refine lv_iload hx hb dX1_addProcess_38 (lv_at hl 0 rfl) ?_
  refine lv_iload_n hx hb dX1_addProcess_40 rfl (lv_at hl 4 rfl) ?_
  refine lv_i2b (v := v4) hx hb dX1_addProcess_41 t4 ?_
  refine ks_readsB X I n0 rfl (by omega) ((vp_nar_byte _).trans t4) dX1_addProcess_42 (fun H locs I => ?_)
  refine kf_writesC X I (lv_at hl 1 rfl) dX1_addProcess_43 dX1_addProcess_44 ?_
  refine lv_iload hx hb dX1_addProcess_47 (lv_at hl 0 rfl) ?_
  refine lv_iload hx hb dX1_addProcess_49 (lv_at hl 5 rfl) ?_
  refine lv_i2b (v := v5) hx hb dX1_addProcess_51 t5 ?_
  refine ks_writesC X I n0 rfl (by omega) ((vp_nar_byte _).trans t5) dX1_addProcess_52 (fun H locs I => ?_)
  refine kf_writesD X I (lv_at hl 1 rfl) dX1_addProcess_53 dX1_addProcess_54 ?_
  refine lv_iload hx hb dX1_addProcess_57 (lv_at hl 0 rfl) ?_
  refine lv_iload hx hb dX1_addProcess_59 (lv_at hl 6 rfl) ?_
  refine lv_i2b (v := v6) hx hb dX1_addProcess_61 t6 ?_
  refine ks_writesD X I n0 rfl (by omega) ((vp_nar_byte _).trans t6) dX1_addProcess_62 (fun H locs I => ?_)
  refine lv_aload_n hx hb dX1_addProcess_63 rfl (lv_at hl 1 rfl) ?_
  refine lv_iconst (v := nI 0) hx hb dX1_addProcess_64 (by decide) ?_
  refine kp_hasRun X I rfl rfl dX1_addProcess_65 (fun H locs I => ?_)
  refine lv_iload hx hb dX1_addProcess_68 (lv_at hl 0 rfl) ?_
  exact k_iret X I hr hlocks ⟨rfl, rfl⟩ dX1_addProcess_70

set_option maxHeartbeats 4000000 in
set_option maxRecDepth 100000 in
theorem metX1_source (l : Launch) (D : va_G) (c1 c2 : ClassId) (h : Nat) (ad : Nat → Nat) (A : Nat → Prop) (σ : KS) (N : Net) (hO : kObj N σ) (x0 x1 x2 : Int32) :
    Met l yX1_source (ws_ yX1_source cX1_source 7 (some .int)) ({ frames := 1, cells := 0, slots := 0, locals := 26 } : Room) (kP D c1 c2 h ad A σ [.int x0, .int x1, .int x2]) (va_Qi (fun (r : Int32) (σ' : KS) => ∃ N', kObj N' σ' ∧ sSrc N x0 x1 x2 r N') (kB D c1 c2 h ad A) A) 0 0 A := by
  refine kM_of (by decide) rfl (Nat.le_of_ble_eq_true rfl) ?_
  intro p e s m args below meth c ls X hr hlocks I hl
  have hl : lv_has ls 7 [(0, .ref h), (1, .int x0), (2, .int x1), (3, .int x2)] := hl
  have hx := X.1
  have hb := X.2.1
  have hn8 := hO.1.1.1
  refine kf_processCount X I (v := nI N.1) hO.1.2.1 (lv_at hl 0 rfl) dX1_source_0 dX1_source_1 ?_
  refine lv_bipush (v := nI 8) hx hb dX1_source_4 (by decide) ?_
  refine lv_icmp_lt (tgt := 12) hx hb dX1_source_6 (by decide) (fun b1 => ?_) (fun b1 => ?_)
  · have b1 : N.1 < 8 := (nI_ltI (a := N.1) (b := 8) (by omega) (by omega)).mp b1
    by_cases hx0 : x0 < 0
    · refine lv_iload_n hx hb dX1_source_12 rfl (lv_at hl 1 rfl) ?_
      refine lv_iconst (v := nI 4) hx hb dX1_source_13 (by decide) ?_
      refine lv_ishr hx hb dX1_source_14 ?_
      refine lv_istore (lv' := [(4, .int (x0 >>> ((nI 4) &&& 31))), (0, .ref h), (1, .int x0), (2, .int x1), (3, .int x2)]) hx hb dX1_source_15 hl (by decide) rfl (fun ls hl => ?_)
      refine lv_iload_n hx hb dX1_source_17 rfl (lv_at hl 2 rfl) ?_
      refine lv_bipush (v := nI 15) hx hb dX1_source_18 (by decide) ?_
      refine lv_iand hx hb dX1_source_20 ?_
      refine lv_istore (lv' := [(5, .int (x0 &&& (nI 15))), (4, .int (x0 >>> ((nI 4) &&& 31))), (0, .ref h), (1, .int x0), (2, .int x1), (3, .int x2)]) hx hb dX1_source_21 hl (by decide) rfl (fun ls hl => ?_)
      refine lv_iload_n hx hb dX1_source_23 rfl (lv_at hl 3 rfl) ?_
      refine lv_if_lt (tgt := 41) hx hb dX1_source_24 (by decide) (fun b2 => ?_) (fun b2 => ?_)
      · refine lv_iconst (v := -1) hx hb dX1_source_41 (by decide) ?_
        exact k_iret X I hr hlocks ⟨N, hO, Or.inr (Or.inl ⟨b1, Or.inl b2, rfl, rfl⟩)⟩ dX1_source_42
      · exact absurd hx0 b2
    · obtain ⟨k, hk, rfl⟩ := nI_of hx0
      refine lv_iload_n hx hb dX1_source_12 rfl (lv_at hl 1 rfl) ?_
      refine lv_iconst (v := nI 4) hx hb dX1_source_13 (by decide) ?_
      refine lv_ishr hx hb dX1_source_14 ?_
      refine kv_top (show nI k >>> (nI 4 &&& 31) = nI (k / 16) from pk_shrN hk _ 4 (by decide)) ?_
      refine lv_istore (lv' := [(4, .int (nI (k / 16))), (0, .ref h), (1, .int (nI k)), (2, .int x1), (3, .int x2)]) hx hb dX1_source_15 hl (by decide) rfl (fun ls hl => ?_)
      refine lv_iload_n hx hb dX1_source_17 rfl (lv_at hl 2 rfl) ?_
      refine lv_bipush (v := nI 15) hx hb dX1_source_18 (by decide) ?_
      refine lv_iand hx hb dX1_source_20 ?_
      refine kv_top (show nI k &&& nI 15 = nI (k % 16) from pk_andN (by omega) 4 (by decide)) ?_
      refine lv_istore (lv' := [(5, .int (nI (k % 16))), (4, .int (nI (k / 16))), (0, .ref h), (1, .int (nI k)), (2, .int x1), (3, .int x2)]) hx hb dX1_source_21 hl (by decide) rfl (fun ls hl => ?_)
      refine lv_iload_n hx hb dX1_source_23 rfl (lv_at hl 3 rfl) ?_
      refine lv_if_lt (tgt := 41) hx hb dX1_source_24 (by decide) (fun b2 => ?_) (fun b2 => ?_)
      · exact absurd b2 hx0
      · refine lv_iload hx hb dX1_source_27 (lv_at hl 1 rfl) ?_
        refine lv_bipush (v := nI 9) hx hb dX1_source_29 (by decide) ?_
        refine lv_icmp_gt (tgt := 41) hx hb dX1_source_31 (by decide) (fun b3 => ?_) (fun b3 => ?_)
        · have b3 : 9 < (k / 16) := (nI_ltI (a := 9) (b := (k / 16)) (by omega) (by omega)).mp b3
          refine lv_iconst (v := -1) hx hb dX1_source_41 (by decide) ?_
          exact k_iret X I hr hlocks ⟨N, hO, Or.inr (Or.inl ⟨b1, Or.inr ⟨k, hk, rfl, Or.inl b3⟩, rfl, rfl⟩)⟩ dX1_source_42
        · have b3 : ¬ 9 < (k / 16) := fun q => b3 ((nI_ltI (a := 9) (b := (k / 16)) (by omega) (by omega)).mpr q)
          refine lv_iload hx hb dX1_source_34 (lv_at hl 0 rfl) ?_
          refine lv_bipush (v := nI 12) hx hb dX1_source_36 (by decide) ?_
          refine lv_icmp_le (tgt := 43) hx hb dX1_source_38 (by decide) (fun b4 => ?_) (fun b4 => ?_)
          · have b4 : (k % 16) ≤ 12 := (nI_leI (a := (k % 16)) (b := 12) (by omega) (by omega)).mp b4
            refine lv_aload_n hx hb dX1_source_43 rfl (lv_at hl 2 rfl) ?_
            refine lv_iload hx hb dX1_source_44 (lv_at hl 1 rfl) ?_
            refine k_calli X I (rest := []) (metX1_isWritten l D c1 c2 h ad A σ (nI (k / 16)) N.1 hO.1.2.1 hn8) (cwX1_isWritten X.2.2.2.2.1 rfl rfl ⟨Nat.le_of_ble_eq_true rfl, Nat.le_of_ble_eq_true rfl⟩) rfl hl.1 rfl (Nat.le_of_ble_eq_true rfl) ⟨Nat.zero_le _, Nat.zero_le _⟩ dX1_source_46 (fun r1 σ1 H locs hw I => ?_)
            obtain ⟨hs, hw⟩ := hw
            rw [hs] at I
            have hw := vB_iff hw (kWr_iff hO.1 (x := k / 16) (by omega))
            refine lv_if_eq (tgt := 55) hx hb dX1_source_49 (by decide) (fun b5 => ?_) (fun b5 => ?_)
            · have hw := vB_eq0 hw b5
              refine lv_aload_n hx hb dX1_source_55 rfl (lv_at hl 2 rfl) ?_
              refine lv_iconst (v := nI 0) hx hb dX1_source_56 (by decide) ?_
              refine lv_iconst (v := -1) hx hb dX1_source_57 (by decide) ?_
              refine lv_iconst (v := -1) hx hb dX1_source_58 (by decide) ?_
              refine lv_iload hx hb dX1_source_59 (lv_at hl 1 rfl) ?_
              refine lv_iconst (v := -1) hx hb dX1_source_61 (by decide) ?_
              refine k_calli X I (rest := []) (metX1_addProcess l D c1 c2 h ad A σ N.1 (nI 0) (-1) (-1) (nI (k / 16)) (-1) hO.1.2.1 (by omega) (b8_nI _ (by decide)) b8_m1 b8_m1 (b8_nI _ (by omega)) b8_m1) (cwX1_addProcess X.2.2.2.2.1 rfl rfl ⟨Nat.le_of_ble_eq_true rfl, Nat.le_of_ble_eq_true rfl⟩) rfl hl.1 rfl (Nat.le_of_ble_eq_true rfl) ⟨Nat.zero_le _, Nat.zero_le _⟩ dX1_source_62 (fun r2 σ1 H locs hv I => ?_)
              obtain ⟨hr2, hs1⟩ := hv
              subst hr2
              rw [hs1] at I
              refine lv_istore (lv' := [(6, .int (nI N.1)), (5, .int (nI (k % 16))), (4, .int (nI (k / 16))), (0, .ref h), (1, .int (nI k)), (2, .int x1), (3, .int x2)]) hx hb dX1_source_65 hl (by decide) rfl (fun ls hl => ?_)
              refine kf_numberP X I (lv_at hl 3 rfl) dX1_source_67 dX1_source_68 ?_
              refine lv_iload hx hb dX1_source_71 (lv_at hl 0 rfl) ?_
              refine lv_iload_n hx hb dX1_source_73 rfl (lv_at hl 5 rfl) ?_
              refine ks_numberP X I N.1 rfl (by omega) dX1_source_74 (fun H locs I => ?_)
              refine kf_numberQ X I (lv_at hl 3 rfl) dX1_source_75 dX1_source_76 ?_
              refine lv_iload hx hb dX1_source_79 (lv_at hl 0 rfl) ?_
              refine lv_iload_n hx hb dX1_source_81 rfl (lv_at hl 6 rfl) ?_
              refine ks_numberQ X I N.1 rfl (by omega) dX1_source_82 (fun H locs I => ?_)
              refine kf_phase X I (lv_at hl 3 rfl) dX1_source_83 dX1_source_84 ?_
              refine lv_iload hx hb dX1_source_87 (lv_at hl 0 rfl) ?_
              refine lv_iload hx hb dX1_source_89 (lv_at hl 1 rfl) ?_
              refine lv_i2b (v := nI (k % 16)) hx hb dX1_source_91 (b8_nI _ (by omega)) ?_
              refine ks_phase X I N.1 rfl (by omega) (n8_nI _ (by omega)) dX1_source_92 (fun H locs I => ?_)
              refine lv_iload hx hb dX1_source_93 (lv_at hl 0 rfl) ?_
              have hok : nOk (nAdd N 0 0 (k % 16) (k / 16) 0 x1 x2) := nOk_add hO.1.1 (by omega) ⟨by omega, by omega, by omega, by omega, by omega, fun q => absurd rfl q, fun q => by omega, fun q => by omega⟩ (fun q => absurd rfl q) (fun q => by omega) hw (fun q => by omega)
              exact k_iret X I hr hlocks ⟨_, ⟨kNet_add hO.1 hok rfl rfl (fun f h2 h9 i hi => by rw [su_nj (by omega), su_nj (by omega), su_nj (by omega), su_other (by omega), su_nj (by omega), su_nj (by omega), su_nj (by omega), su_nj (by omega), su_nj (by omega), su_other (by omega)]) (su_at (su σ 1 0 (nI (N.1 + 1))) 2 N.1 (nI 0)) (su_at (su (su σ 1 0 (nI (N.1 + 1))) 2 N.1 (nI 0)) 3 N.1 (-1)) (su_at (su (su (su σ 1 0 (nI (N.1 + 1))) 2 N.1 (nI 0)) 3 N.1 (-1)) 4 N.1 (-1)) (su_at (su (su (su (su σ 1 0 (nI (N.1 + 1))) 2 N.1 (nI 0)) 3 N.1 (-1)) 4 N.1 (-1)) 5 N.1 (nI (k / 16))) (su_at (su (su (su (su (su σ 1 0 (nI (N.1 + 1))) 2 N.1 (nI 0)) 3 N.1 (-1)) 4 N.1 (-1)) 5 N.1 (nI (k / 16))) 6 N.1 (-1)) (su_at (su (su (su (su (su (su (su σ 1 0 (nI (N.1 + 1))) 2 N.1 (nI 0)) 3 N.1 (-1)) 4 N.1 (-1)) 5 N.1 (nI (k / 16))) 6 N.1 (-1)) 9 0 (nI 0)) 7 N.1 x1) (fun _ => ⟨(su_at (su (su (su (su (su (su (su (su σ 1 0 (nI (N.1 + 1))) 2 N.1 (nI 0)) 3 N.1 (-1)) 4 N.1 (-1)) 5 N.1 (nI (k / 16))) 6 N.1 (-1)) 9 0 (nI 0)) 7 N.1 x1) 8 N.1 x2), (su_at (su (su (su (su (su (su (su (su (su σ 1 0 (nI (N.1 + 1))) 2 N.1 (nI 0)) 3 N.1 (-1)) 4 N.1 (-1)) 5 N.1 (nI (k / 16))) 6 N.1 (-1)) 9 0 (nI 0)) 7 N.1 x1) 8 N.1 x2) 15 N.1 (nI (k % 16)))⟩), Or.inl rfl⟩, Or.inr (Or.inr ⟨b1, k, hk, rfl, by omega, b4, Or.inr ⟨hw, rfl, rfl⟩⟩)⟩ dX1_source_95
            · refine lv_bipush (v := -3) hx hb dX1_source_52 (by decide) ?_
              exact k_iret X I hr hlocks ⟨N, hO, Or.inr (Or.inr ⟨b1, k, hk, rfl, by omega, b4, Or.inl ⟨vB_ne0 hw b5, rfl, rfl⟩⟩)⟩ dX1_source_54
          · have b4 : ¬ (k % 16) ≤ 12 := fun q => b4 ((nI_leI (a := (k % 16)) (b := 12) (by omega) (by omega)).mpr q)
            refine lv_iconst (v := -1) hx hb dX1_source_41 (by decide) ?_
            exact k_iret X I hr hlocks ⟨N, hO, Or.inr (Or.inl ⟨b1, Or.inr ⟨k, hk, rfl, Or.inr (by omega)⟩, rfl, rfl⟩)⟩ dX1_source_42
  · have b1 : ¬ N.1 < 8 := fun q => b1 ((nI_ltI (a := N.1) (b := 8) (by omega) (by omega)).mpr q)
    refine lv_bipush (v := -2) hx hb dX1_source_9 (by decide) ?_
    exact k_iret X I hr hlocks ⟨N, hO, Or.inl ⟨by omega, rfl, rfl⟩⟩ dX1_source_11

set_option maxHeartbeats 4000000 in
set_option maxRecDepth 100000 in
theorem metX1_process (l : Launch) (D : va_G) (c1 c2 : ClassId) (h : Nat) (ad : Nat → Nat) (A : Nat → Prop) (σ : KS) (N : Net) (hO : kObj N σ) (x0 x1 x2 : Int32) :
    Met l yX1_process (ws_ yX1_process cX1_process 10 (some .int)) ({ frames := 1, cells := 0, slots := 0, locals := 26 } : Room) (kP D c1 c2 h ad A σ [.int x0, .int x1, .int x2]) (va_Qi (fun (r : Int32) (σ' : KS) => ∃ N', kObj N' σ' ∧ sPrc N x0 x1 x2 r N') (kB D c1 c2 h ad A) A) 0 0 A := by
  refine kM_of (by decide) rfl (Nat.le_of_ble_eq_true rfl) ?_
  intro p e s m args below meth c ls X hr hlocks I hl
  have hl : lv_has ls 10 [(0, .ref h), (1, .int x0), (2, .int x1), (3, .int x2)] := hl
  have hx := X.1
  have hb := X.2.1
  have hn8 := hO.1.1.1
  refine kf_processCount X I (v := nI N.1) hO.1.2.1 (lv_at hl 0 rfl) dX1_process_0 dX1_process_1 ?_
  refine lv_bipush (v := nI 8) hx hb dX1_process_4 (by decide) ?_
  refine lv_icmp_lt (tgt := 12) hx hb dX1_process_6 (by decide) (fun b1 => ?_) (fun b1 => ?_)
  · have b1 : N.1 < 8 := (nI_ltI (a := N.1) (b := 8) (by omega) (by omega)).mp b1
    refine lv_iload_n hx hb dX1_process_12 rfl (lv_at hl 1 rfl) ?_
    refine lv_iconst (v := nI 1) hx hb dX1_process_13 (by decide) ?_
    refine lv_icmp_lt (tgt := 34) hx hb dX1_process_14 (by decide) (fun b2 => ?_) (fun b2 => ?_)
    · refine lv_iconst (v := -1) hx hb dX1_process_34 (by decide) ?_
      exact k_iret X I hr hlocks ⟨N, hO, Or.inr (Or.inl ⟨b1, Or.inl b2, rfl, rfl⟩)⟩ dX1_process_35
    · refine lv_iload_n hx hb dX1_process_17 rfl (lv_at hl 1 rfl) ?_
      refine lv_bipush (v := nI 7) hx hb dX1_process_18 (by decide) ?_
      refine lv_icmp_gt (tgt := 34) hx hb dX1_process_20 (by decide) (fun b3 => ?_) (fun b3 => ?_)
      · refine lv_iconst (v := -1) hx hb dX1_process_34 (by decide) ?_
        exact k_iret X I hr hlocks ⟨N, hO, Or.inr (Or.inl ⟨b1, Or.inr (Or.inl b3), rfl, rfl⟩)⟩ dX1_process_35
      · refine lv_iload_n hx hb dX1_process_23 rfl (lv_at hl 2 rfl) ?_
        refine lv_if_lt (tgt := 34) hx hb dX1_process_24 (by decide) (fun b4 => ?_) (fun b4 => ?_)
        · refine lv_iconst (v := -1) hx hb dX1_process_34 (by decide) ?_
          exact k_iret X I hr hlocks ⟨N, hO, Or.inr (Or.inl ⟨b1, Or.inr (Or.inr (Or.inl b4)), rfl, rfl⟩)⟩ dX1_process_35
        · refine lv_iload_n hx hb dX1_process_27 rfl (lv_at hl 2 rfl) ?_
          refine lv_sipush (v := nI 9999) hx hb dX1_process_28 (by decide) ?_
          refine lv_icmp_le (tgt := 36) hx hb dX1_process_31 (by decide) (fun b5 => ?_) (fun b5 => ?_)
          · obtain ⟨k, hk7, rfl⟩ := nI_of2 (M := nI 7) (n := 7) (by decide) (fun q => b2 (Int32.lt_trans q (by decide))) (Int32.not_lt.mp b3)
            obtain ⟨p0, hp9, rfl⟩ := nI_of2 (M := nI 9999) (n := 9999) (by decide) b4 b5
            have hk1 : 1 ≤ k := (nI_leI (by omega) (by omega)).mp (Int32.not_lt.mp b2)
            have tail : ∀ (tw b0 d0 : Int32), b0 = (if k = 2 ∨ k = 5 then nI (p0 / 100 % 10) else -1) → d0 = (if k = 1 then nI (p0 % 10) else -1) → ∀ ls : Array Slot, lv_has ls 10 [(8, .int d0), (7, .int (nI (p0 / 10 % 10))), (6, .int b0), (5, .int (nI (p0 / 1000))), (4, .int tw), (0, .ref h), (1, .int (nI k)), (2, .int (nI p0)), (3, .int x2)] → W p l e ({ frames := 1, cells := 0, slots := 0, locals := 26 } : Room) s m args below meth c s.heap [] 0 0 (MQ below (va_Qi (fun (r : Int32) (σ' : KS) => ∃ N', kObj N' σ' ∧ sPrc N (nI k) (nI p0) x2 r N') (kB D c1 c2 h ad A) A) args s 0 0 A) (F0 m 102 ls []) := by
              intro tw b0 d0 hb0 hd0 ls hl
              have eb : (0 ≤ b0 ∧ ∃ j, j < N.1 ∧ (σ 3 j = b0 ∨ σ 4 j = b0)) ↔ ((k = 2 ∨ k = 5) ∧ sRd N (p0 / 100 % 10)) := by
                by_cases z : k = 2 ∨ k = 5
                · rw [hb0, if_pos z, kRd_iff hO.1 (by omega)]
                  exact ⟨fun q => ⟨z, q⟩, fun q => q.2⟩
                · rw [hb0, if_neg z]
                  exact ⟨fun q => absurd q.1 (by decide), fun q => absurd q.1 z⟩
              have ed : (0 ≤ d0 ∧ ∃ j, j < N.1 ∧ (σ 5 j = d0 ∨ σ 6 j = d0)) ↔ (k = 1 ∧ sWr N (p0 % 10)) := by
                by_cases z : k = 1
                · rw [hd0, if_pos z, kWr_iff hO.1 (by omega)]
                  exact ⟨fun q => ⟨z, q⟩, fun q => q.2⟩
                · rw [hd0, if_neg z]
                  exact ⟨fun q => absurd q.1 (by decide), fun q => absurd q.1 z⟩
              have tb : b0.toInt8.toInt32 = b0 := by
                by_cases z : k = 2 ∨ k = 5
                · rw [hb0, if_pos z]; exact b8_nI _ (by omega)
                · rw [hb0, if_neg z]; exact b8_m1
              have td : d0.toInt8.toInt32 = d0 := by
                by_cases z : k = 1
                · rw [hd0, if_pos z]; exact b8_nI _ (by omega)
                · rw [hd0, if_neg z]; exact b8_m1
              refine lv_aload_n hx hb dX1_process_102 rfl (lv_at hl 5 rfl) ?_
              refine lv_iload hx hb dX1_process_103 (lv_at hl 3 rfl) ?_
              refine k_calli X I (rest := []) (metX1_isRead l D c1 c2 h ad A σ (nI (p0 / 1000)) N.1 hO.1.2.1 hn8) (cwX1_isRead X.2.2.2.2.1 rfl rfl ⟨Nat.le_of_ble_eq_true rfl, Nat.le_of_ble_eq_true rfl⟩) rfl hl.1 rfl (Nat.le_of_ble_eq_true rfl) ⟨Nat.zero_le _, Nat.zero_le _⟩ dX1_process_105 (fun r1 σ1 H locs h1 I => ?_)
              obtain ⟨hs, h1⟩ := h1
              rw [hs] at I
              have h1 := vB_iff h1 (kRd_iff hO.1 (x := p0 / 1000) (by omega))
              refine lv_if_ne (tgt := 152) hx hb dX1_process_108 (by decide) (fun e1 => ?_) (fun e1 => ?_)
              · refine lv_bipush (v := -3) hx hb dX1_process_152 (by decide) ?_
                exact k_iret X I hr hlocks ⟨N, hO, Or.inr (Or.inr ⟨b1, k, p0, rfl, rfl, hk1, hk7, hp9, Or.inl ⟨Or.inl (vB_ne0 h1 e1), rfl, rfl⟩⟩)⟩ dX1_process_154
              · refine lv_aload_n hx hb dX1_process_111 rfl (lv_at hl 5 rfl) ?_
                refine lv_iload hx hb dX1_process_112 (lv_at hl 2 rfl) ?_
                refine k_calli X I (rest := []) (metX1_isRead l D c1 c2 h ad A σ b0 N.1 hO.1.2.1 hn8) (cwX1_isRead X.2.2.2.2.1 rfl rfl ⟨Nat.le_of_ble_eq_true rfl, Nat.le_of_ble_eq_true rfl⟩) rfl hl.1 rfl (Nat.le_of_ble_eq_true rfl) ⟨Nat.zero_le _, Nat.zero_le _⟩ dX1_process_114 (fun r2 σ1 H locs h2 I => ?_)
                obtain ⟨hs, h2⟩ := h2
                rw [hs] at I
                have h2 := vB_iff h2 eb
                refine lv_if_ne (tgt := 152) hx hb dX1_process_117 (by decide) (fun e2 => ?_) (fun e2 => ?_)
                · refine lv_bipush (v := -3) hx hb dX1_process_152 (by decide) ?_
                  exact k_iret X I hr hlocks ⟨N, hO, Or.inr (Or.inr ⟨b1, k, p0, rfl, rfl, hk1, hk7, hp9, Or.inl ⟨Or.inr (Or.inl (vB_ne0 h2 e2)), rfl, rfl⟩⟩)⟩ dX1_process_154
                · refine lv_aload_n hx hb dX1_process_120 rfl (lv_at hl 5 rfl) ?_
                  refine lv_iload hx hb dX1_process_121 (lv_at hl 1 rfl) ?_
                  refine k_calli X I (rest := []) (metX1_isWritten l D c1 c2 h ad A σ (nI (p0 / 10 % 10)) N.1 hO.1.2.1 hn8) (cwX1_isWritten X.2.2.2.2.1 rfl rfl ⟨Nat.le_of_ble_eq_true rfl, Nat.le_of_ble_eq_true rfl⟩) rfl hl.1 rfl (Nat.le_of_ble_eq_true rfl) ⟨Nat.zero_le _, Nat.zero_le _⟩ dX1_process_123 (fun r3 σ1 H locs h3 I => ?_)
                  obtain ⟨hs, h3⟩ := h3
                  rw [hs] at I
                  have h3 := vB_iff h3 (kWr_iff hO.1 (x := p0 / 10 % 10) (by omega))
                  refine lv_if_ne (tgt := 152) hx hb dX1_process_126 (by decide) (fun e3 => ?_) (fun e3 => ?_)
                  · refine lv_bipush (v := -3) hx hb dX1_process_152 (by decide) ?_
                    exact k_iret X I hr hlocks ⟨N, hO, Or.inr (Or.inr ⟨b1, k, p0, rfl, rfl, hk1, hk7, hp9, Or.inl ⟨Or.inr (Or.inr (Or.inl (vB_ne0 h3 e3))), rfl, rfl⟩⟩)⟩ dX1_process_154
                  · refine lv_aload_n hx hb dX1_process_129 rfl (lv_at hl 5 rfl) ?_
                    refine lv_iload hx hb dX1_process_130 (lv_at hl 0 rfl) ?_
                    refine k_calli X I (rest := []) (metX1_isWritten l D c1 c2 h ad A σ d0 N.1 hO.1.2.1 hn8) (cwX1_isWritten X.2.2.2.2.1 rfl rfl ⟨Nat.le_of_ble_eq_true rfl, Nat.le_of_ble_eq_true rfl⟩) rfl hl.1 rfl (Nat.le_of_ble_eq_true rfl) ⟨Nat.zero_le _, Nat.zero_le _⟩ dX1_process_132 (fun r4 σ1 H locs h4 I => ?_)
                    obtain ⟨hs, h4⟩ := h4
                    rw [hs] at I
                    have h4 := vB_iff h4 ed
                    refine lv_if_ne (tgt := 152) hx hb dX1_process_135 (by decide) (fun e4 => ?_) (fun e4 => ?_)
                    · refine lv_bipush (v := -3) hx hb dX1_process_152 (by decide) ?_
                      exact k_iret X I hr hlocks ⟨N, hO, Or.inr (Or.inr ⟨b1, k, p0, rfl, rfl, hk1, hk7, hp9, Or.inl ⟨Or.inr (Or.inr (Or.inr (Or.inl (vB_ne0 h4 e4)))), rfl, rfl⟩⟩)⟩ dX1_process_154
                    · refine lv_iload hx hb dX1_process_138 (lv_at hl 3 rfl) ?_
                      refine lv_iload hx hb dX1_process_140 (lv_at hl 2 rfl) ?_
                      refine lv_icmp_eq (tgt := 152) hx hb dX1_process_142 (by decide) (fun e5 => ?_) (fun e5 => ?_)
                      · have hab : (k = 2 ∨ k = 5) ∧ p0 / 1000 = p0 / 100 % 10 := by
                          by_cases z : k = 2 ∨ k = 5
                          · rw [hb0, if_pos z] at e5
                            exact ⟨z, (nI_eq (by omega) (by omega)).mp e5⟩
                          · rw [hb0, if_neg z] at e5
                            exact absurd e5 (nI_ne_m1 (by omega))
                        refine lv_bipush (v := -3) hx hb dX1_process_152 (by decide) ?_
                        exact k_iret X I hr hlocks ⟨N, hO, Or.inr (Or.inr ⟨b1, k, p0, rfl, rfl, hk1, hk7, hp9, Or.inl ⟨Or.inr (Or.inr (Or.inr (Or.inr (Or.inl hab)))), rfl, rfl⟩⟩)⟩ dX1_process_154
                      · refine lv_iload hx hb dX1_process_145 (lv_at hl 1 rfl) ?_
                        refine lv_iload hx hb dX1_process_147 (lv_at hl 0 rfl) ?_
                        refine lv_icmp_ne (tgt := 155) hx hb dX1_process_149 (by decide) (fun e6 => ?_) (fun e6 => ?_)
                        · have hnt : ¬ sTkn N k (p0 / 1000) (p0 / 100 % 10) (p0 / 10 % 10) (p0 % 10) := by
                            rintro (z | z | z | z | z | z)
                            · exact vB_eq0 h1 e1 z
                            · exact vB_eq0 h2 e2 z
                            · exact vB_eq0 h3 e3 z
                            · exact vB_eq0 h4 e4 z
                            · exact e5 (by rw [hb0, if_pos z.1, z.2])
                            · exact e6 (by rw [hd0, if_pos z.1, z.2])
                          refine lv_aload_n hx hb dX1_process_155 rfl (lv_at hl 5 rfl) ?_
                          refine lv_iload_n hx hb dX1_process_156 rfl (lv_at hl 6 rfl) ?_
                          refine lv_iload hx hb dX1_process_157 (lv_at hl 3 rfl) ?_
                          refine lv_iload hx hb dX1_process_159 (lv_at hl 2 rfl) ?_
                          refine lv_iload hx hb dX1_process_161 (lv_at hl 1 rfl) ?_
                          refine lv_iload hx hb dX1_process_163 (lv_at hl 0 rfl) ?_
                          refine k_calli X I (rest := []) (metX1_addProcess l D c1 c2 h ad A σ N.1 (nI k) (nI (p0 / 1000)) b0 (nI (p0 / 10 % 10)) d0 hO.1.2.1 (by omega) (b8_nI _ (by omega)) (b8_nI _ (by omega)) tb (b8_nI _ (by omega)) td) (cwX1_addProcess X.2.2.2.2.1 rfl rfl ⟨Nat.le_of_ble_eq_true rfl, Nat.le_of_ble_eq_true rfl⟩) rfl hl.1 rfl (Nat.le_of_ble_eq_true rfl) ⟨Nat.zero_le _, Nat.zero_le _⟩ dX1_process_165 (fun r5 σ1 H locs hv I => ?_)
                          obtain ⟨hr5, hs1⟩ := hv
                          subst hr5
                          rw [hs1] at I
                          refine lv_istore (lv' := [(9, .int (nI N.1)), (8, .int d0), (7, .int (nI (p0 / 10 % 10))), (6, .int b0), (5, .int (nI (p0 / 1000))), (4, .int tw), (0, .ref h), (1, .int (nI k)), (2, .int (nI p0)), (3, .int x2)]) hx hb dX1_process_168 hl (by decide) rfl (fun ls hl => ?_)
                          refine kf_numberP X I (lv_at hl 6 rfl) dX1_process_170 dX1_process_171 ?_
                          refine lv_iload hx hb dX1_process_174 (lv_at hl 0 rfl) ?_
                          refine lv_iload_n hx hb dX1_process_176 rfl (lv_at hl 9 rfl) ?_
                          refine ks_numberP X I N.1 rfl (by omega) dX1_process_177 (fun H locs I => ?_)
                          refine lv_iload hx hb dX1_process_178 (lv_at hl 0 rfl) ?_
                          have hok : nOk (nAdd N k (p0 / 1000) (p0 / 100 % 10) (p0 / 10 % 10) (p0 % 10) x2 0) := nOk_add hO.1.1 (by omega) ⟨by omega, by omega, by omega, by omega, by omega, fun _ => by omega, fun z q => hnt (Or.inr (Or.inr (Or.inr (Or.inr (Or.inl ⟨z, q⟩))))), fun z q => hnt (Or.inr (Or.inr (Or.inr (Or.inr (Or.inr ⟨z, q⟩)))))⟩ (fun _ q => hnt (Or.inl q)) (fun z q => hnt (Or.inr (Or.inl ⟨z, q⟩))) (fun q => hnt (Or.inr (Or.inr (Or.inl q)))) (fun z q => hnt (Or.inr (Or.inr (Or.inr (Or.inl ⟨z, q⟩)))))
                          exact k_iret X I hr hlocks ⟨_, ⟨kNet_add hO.1 hok rfl rfl (fun f h2 h9 i hi => by rw [su_nj (by omega), su_other (by omega), su_nj (by omega), su_nj (by omega), su_nj (by omega), su_nj (by omega), su_nj (by omega), su_other (by omega)]) (su_at (su σ 1 0 (nI (N.1 + 1))) 2 N.1 (nI k)) ((su_at (su (su σ 1 0 (nI (N.1 + 1))) 2 N.1 (nI k)) 3 N.1 (nI (p0 / 1000))).trans (if_neg (by omega)).symm) ((su_at (su (su (su σ 1 0 (nI (N.1 + 1))) 2 N.1 (nI k)) 3 N.1 (nI (p0 / 1000))) 4 N.1 b0).trans hb0) (su_at (su (su (su (su σ 1 0 (nI (N.1 + 1))) 2 N.1 (nI k)) 3 N.1 (nI (p0 / 1000))) 4 N.1 b0) 5 N.1 (nI (p0 / 10 % 10))) ((su_at (su (su (su (su (su σ 1 0 (nI (N.1 + 1))) 2 N.1 (nI k)) 3 N.1 (nI (p0 / 1000))) 4 N.1 b0) 5 N.1 (nI (p0 / 10 % 10))) 6 N.1 d0).trans hd0) (su_at (su (su (su (su (su (su (su σ 1 0 (nI (N.1 + 1))) 2 N.1 (nI k)) 3 N.1 (nI (p0 / 1000))) 4 N.1 b0) 5 N.1 (nI (p0 / 10 % 10))) 6 N.1 d0) 9 0 (nI 0)) 7 N.1 x2) (fun z => absurd z (by omega)), Or.inl rfl⟩, Or.inr (Or.inr ⟨b1, k, p0, rfl, rfl, hk1, hk7, hp9, Or.inr ⟨hnt, rfl, rfl⟩⟩)⟩ dX1_process_180
                        · have hcd : k = 1 ∧ p0 / 10 % 10 = p0 % 10 := by
                            by_cases z : k = 1
                            · rw [hd0, if_pos z] at e6
                              exact ⟨z, (nI_eq (by omega) (by omega)).mp e6⟩
                            · rw [hd0, if_neg z] at e6
                              exact absurd e6 (nI_ne_m1 (by omega))
                          refine lv_bipush (v := -3) hx hb dX1_process_152 (by decide) ?_
                          exact k_iret X I hr hlocks ⟨N, hO, Or.inr (Or.inr ⟨b1, k, p0, rfl, rfl, hk1, hk7, hp9, Or.inl ⟨Or.inr (Or.inr (Or.inr (Or.inr (Or.inr hcd)))), rfl, rfl⟩⟩)⟩ dX1_process_154
            refine lv_iload_n hx hb dX1_process_36 rfl (lv_at hl 1 rfl) ?_
            refine lv_iconst (v := nI 2) hx hb dX1_process_37 (by decide) ?_
            refine lv_icmp_eq (tgt := 46) hx hb dX1_process_38 (by decide) (fun f1 => ?_) (fun f1 => ?_)
            · have f1 : k = 2 := (nI_eq (a := k) (b := 2) (by omega) (by omega)).mp f1
              have h2 : k = 2 ∨ k = 5 := Or.inl f1
              refine lv_iconst (v := nI 1) hx hb dX1_process_46 (by decide) ?_
              refine lv_goto (tgt := 51) hx hb dX1_process_47 (by decide) ?_
              refine lv_istore (lv' := [(4, .int (nI 1)), (0, .ref h), (1, .int (nI k)), (2, .int (nI p0)), (3, .int x2)]) hx hb dX1_process_51 hl (by decide) rfl (fun ls hl => ?_)
              refine lv_iload_n hx hb dX1_process_53 rfl (lv_at hl 3 rfl) ?_
              refine lv_sipush (v := nI 1000) hx hb dX1_process_54 (by decide) ?_
              refine lv_idiv hx hb dX1_process_57 (by decide) ?_
              refine kv_top (pk_div (a := p0) (d := 1000) (by omega) (by decide) (by decide)) ?_
              refine lv_istore (lv' := [(5, .int (nI (p0 / 1000))), (4, .int (nI 1)), (0, .ref h), (1, .int (nI k)), (2, .int (nI p0)), (3, .int x2)]) hx hb dX1_process_58 hl (by decide) rfl (fun ls hl => ?_)
              refine lv_iload hx hb dX1_process_60 (lv_at hl 1 rfl) ?_
              refine lv_if_eq (tgt := 75) hx hb dX1_process_62 (by decide) (fun f3 => ?_) (fun f3 => ?_)
              · exact absurd f3 (by decide)
              · refine lv_iload_n hx hb dX1_process_65 rfl (lv_at hl 4 rfl) ?_
                refine lv_bipush (v := nI 100) hx hb dX1_process_66 (by decide) ?_
                refine lv_idiv hx hb dX1_process_68 (by decide) ?_
                refine kv_top (pk_div (a := p0) (d := 100) (by omega) (by decide) (by decide)) ?_
                refine lv_bipush (v := nI 10) hx hb dX1_process_69 (by decide) ?_
                refine lv_irem hx hb dX1_process_71 (by decide) ?_
                refine kv_top (pk_rem (a := (p0 / 100)) (d := 10) (by omega) (by decide) (by decide)) ?_
                refine lv_goto (tgt := 76) hx hb dX1_process_72 (by decide) ?_
                refine lv_istore (lv' := [(6, .int (nI ((p0 / 100) % 10))), (5, .int (nI (p0 / 1000))), (4, .int (nI 1)), (0, .ref h), (1, .int (nI k)), (2, .int (nI p0)), (3, .int x2)]) hx hb dX1_process_76 hl (by decide) rfl (fun ls hl => ?_)
                refine lv_iload_n hx hb dX1_process_78 rfl (lv_at hl 5 rfl) ?_
                refine lv_bipush (v := nI 10) hx hb dX1_process_79 (by decide) ?_
                refine lv_idiv hx hb dX1_process_81 (by decide) ?_
                refine kv_top (pk_div (a := p0) (d := 10) (by omega) (by decide) (by decide)) ?_
                refine lv_bipush (v := nI 10) hx hb dX1_process_82 (by decide) ?_
                refine lv_irem hx hb dX1_process_84 (by decide) ?_
                refine kv_top (pk_rem (a := (p0 / 10)) (d := 10) (by omega) (by decide) (by decide)) ?_
                refine lv_istore (lv' := [(7, .int (nI ((p0 / 10) % 10))), (6, .int (nI ((p0 / 100) % 10))), (5, .int (nI (p0 / 1000))), (4, .int (nI 1)), (0, .ref h), (1, .int (nI k)), (2, .int (nI p0)), (3, .int x2)]) hx hb dX1_process_85 hl (by decide) rfl (fun ls hl => ?_)
                refine lv_iload_n hx hb dX1_process_87 rfl (lv_at hl 5 rfl) ?_
                refine lv_iconst (v := nI 1) hx hb dX1_process_88 (by decide) ?_
                refine lv_icmp_ne (tgt := 99) hx hb dX1_process_89 (by decide) (fun f4 => ?_) (fun f4 => ?_)
                · have f4 : ¬ k = 1 := fun q => f4 ((nI_eq (a := k) (b := 1) (by omega) (by omega)).mpr q)
                  refine lv_iconst (v := -1) hx hb dX1_process_99 (by decide) ?_
                  refine lv_istore (lv' := [(8, .int (-1)), (7, .int (nI ((p0 / 10) % 10))), (6, .int (nI ((p0 / 100) % 10))), (5, .int (nI (p0 / 1000))), (4, .int (nI 1)), (0, .ref h), (1, .int (nI k)), (2, .int (nI p0)), (3, .int x2)]) hx hb dX1_process_100 hl (by decide) rfl (fun ls hl => ?_)
                  exact tail _ _ _ (if_pos h2).symm (if_neg f4).symm ls hl
                · have f4 : k = 1 := (nI_eq (a := k) (b := 1) (by omega) (by omega)).mp f4
                  refine lv_iload_n hx hb dX1_process_92 rfl (lv_at hl 6 rfl) ?_
                  refine lv_bipush (v := nI 10) hx hb dX1_process_93 (by decide) ?_
                  refine lv_irem hx hb dX1_process_95 (by decide) ?_
                  refine kv_top (pk_rem (a := p0) (d := 10) (by omega) (by decide) (by decide)) ?_
                  refine lv_goto (tgt := 100) hx hb dX1_process_96 (by decide) ?_
                  refine lv_istore (lv' := [(8, .int (nI (p0 % 10))), (7, .int (nI ((p0 / 10) % 10))), (6, .int (nI ((p0 / 100) % 10))), (5, .int (nI (p0 / 1000))), (4, .int (nI 1)), (0, .ref h), (1, .int (nI k)), (2, .int (nI p0)), (3, .int x2)]) hx hb dX1_process_100 hl (by decide) rfl (fun ls hl => ?_)
                  exact tail _ _ _ (if_pos h2).symm (if_pos f4).symm ls hl
            · have f1 : ¬ k = 2 := fun q => f1 ((nI_eq (a := k) (b := 2) (by omega) (by omega)).mpr q)
              refine lv_iload_n hx hb dX1_process_41 rfl (lv_at hl 1 rfl) ?_
              refine lv_iconst (v := nI 5) hx hb dX1_process_42 (by decide) ?_
              refine lv_icmp_ne (tgt := 50) hx hb dX1_process_43 (by decide) (fun f2 => ?_) (fun f2 => ?_)
              · have f2 : ¬ k = 5 := fun q => f2 ((nI_eq (a := k) (b := 5) (by omega) (by omega)).mpr q)
                have h2 : ¬ (k = 2 ∨ k = 5) := fun q => q.elim f1 f2
                refine lv_iconst (v := nI 0) hx hb dX1_process_50 (by decide) ?_
                refine lv_istore (lv' := [(4, .int (nI 0)), (0, .ref h), (1, .int (nI k)), (2, .int (nI p0)), (3, .int x2)]) hx hb dX1_process_51 hl (by decide) rfl (fun ls hl => ?_)
                refine lv_iload_n hx hb dX1_process_53 rfl (lv_at hl 3 rfl) ?_
                refine lv_sipush (v := nI 1000) hx hb dX1_process_54 (by decide) ?_
                refine lv_idiv hx hb dX1_process_57 (by decide) ?_
                refine kv_top (pk_div (a := p0) (d := 1000) (by omega) (by decide) (by decide)) ?_
                refine lv_istore (lv' := [(5, .int (nI (p0 / 1000))), (4, .int (nI 0)), (0, .ref h), (1, .int (nI k)), (2, .int (nI p0)), (3, .int x2)]) hx hb dX1_process_58 hl (by decide) rfl (fun ls hl => ?_)
                refine lv_iload hx hb dX1_process_60 (lv_at hl 1 rfl) ?_
                refine lv_if_eq (tgt := 75) hx hb dX1_process_62 (by decide) (fun f3 => ?_) (fun f3 => ?_)
                · refine lv_iconst (v := -1) hx hb dX1_process_75 (by decide) ?_
                  refine lv_istore (lv' := [(6, .int (-1)), (5, .int (nI (p0 / 1000))), (4, .int (nI 0)), (0, .ref h), (1, .int (nI k)), (2, .int (nI p0)), (3, .int x2)]) hx hb dX1_process_76 hl (by decide) rfl (fun ls hl => ?_)
                  refine lv_iload_n hx hb dX1_process_78 rfl (lv_at hl 5 rfl) ?_
                  refine lv_bipush (v := nI 10) hx hb dX1_process_79 (by decide) ?_
                  refine lv_idiv hx hb dX1_process_81 (by decide) ?_
                  refine kv_top (pk_div (a := p0) (d := 10) (by omega) (by decide) (by decide)) ?_
                  refine lv_bipush (v := nI 10) hx hb dX1_process_82 (by decide) ?_
                  refine lv_irem hx hb dX1_process_84 (by decide) ?_
                  refine kv_top (pk_rem (a := (p0 / 10)) (d := 10) (by omega) (by decide) (by decide)) ?_
                  refine lv_istore (lv' := [(7, .int (nI ((p0 / 10) % 10))), (6, .int (-1)), (5, .int (nI (p0 / 1000))), (4, .int (nI 0)), (0, .ref h), (1, .int (nI k)), (2, .int (nI p0)), (3, .int x2)]) hx hb dX1_process_85 hl (by decide) rfl (fun ls hl => ?_)
                  refine lv_iload_n hx hb dX1_process_87 rfl (lv_at hl 5 rfl) ?_
                  refine lv_iconst (v := nI 1) hx hb dX1_process_88 (by decide) ?_
                  refine lv_icmp_ne (tgt := 99) hx hb dX1_process_89 (by decide) (fun f4 => ?_) (fun f4 => ?_)
                  · have f4 : ¬ k = 1 := fun q => f4 ((nI_eq (a := k) (b := 1) (by omega) (by omega)).mpr q)
                    refine lv_iconst (v := -1) hx hb dX1_process_99 (by decide) ?_
                    refine lv_istore (lv' := [(8, .int (-1)), (7, .int (nI ((p0 / 10) % 10))), (6, .int (-1)), (5, .int (nI (p0 / 1000))), (4, .int (nI 0)), (0, .ref h), (1, .int (nI k)), (2, .int (nI p0)), (3, .int x2)]) hx hb dX1_process_100 hl (by decide) rfl (fun ls hl => ?_)
                    exact tail _ _ _ (if_neg h2).symm (if_neg f4).symm ls hl
                  · have f4 : k = 1 := (nI_eq (a := k) (b := 1) (by omega) (by omega)).mp f4
                    refine lv_iload_n hx hb dX1_process_92 rfl (lv_at hl 6 rfl) ?_
                    refine lv_bipush (v := nI 10) hx hb dX1_process_93 (by decide) ?_
                    refine lv_irem hx hb dX1_process_95 (by decide) ?_
                    refine kv_top (pk_rem (a := p0) (d := 10) (by omega) (by decide) (by decide)) ?_
                    refine lv_goto (tgt := 100) hx hb dX1_process_96 (by decide) ?_
                    refine lv_istore (lv' := [(8, .int (nI (p0 % 10))), (7, .int (nI ((p0 / 10) % 10))), (6, .int (-1)), (5, .int (nI (p0 / 1000))), (4, .int (nI 0)), (0, .ref h), (1, .int (nI k)), (2, .int (nI p0)), (3, .int x2)]) hx hb dX1_process_100 hl (by decide) rfl (fun ls hl => ?_)
                    exact tail _ _ _ (if_neg h2).symm (if_pos f4).symm ls hl
                · exact absurd (by decide) f3
              · have f2 : k = 5 := (nI_eq (a := k) (b := 5) (by omega) (by omega)).mp f2
                have h2 : k = 2 ∨ k = 5 := Or.inr f2
                refine lv_iconst (v := nI 1) hx hb dX1_process_46 (by decide) ?_
                refine lv_goto (tgt := 51) hx hb dX1_process_47 (by decide) ?_
                refine lv_istore (lv' := [(4, .int (nI 1)), (0, .ref h), (1, .int (nI k)), (2, .int (nI p0)), (3, .int x2)]) hx hb dX1_process_51 hl (by decide) rfl (fun ls hl => ?_)
                refine lv_iload_n hx hb dX1_process_53 rfl (lv_at hl 3 rfl) ?_
                refine lv_sipush (v := nI 1000) hx hb dX1_process_54 (by decide) ?_
                refine lv_idiv hx hb dX1_process_57 (by decide) ?_
                refine kv_top (pk_div (a := p0) (d := 1000) (by omega) (by decide) (by decide)) ?_
                refine lv_istore (lv' := [(5, .int (nI (p0 / 1000))), (4, .int (nI 1)), (0, .ref h), (1, .int (nI k)), (2, .int (nI p0)), (3, .int x2)]) hx hb dX1_process_58 hl (by decide) rfl (fun ls hl => ?_)
                refine lv_iload hx hb dX1_process_60 (lv_at hl 1 rfl) ?_
                refine lv_if_eq (tgt := 75) hx hb dX1_process_62 (by decide) (fun f3 => ?_) (fun f3 => ?_)
                · exact absurd f3 (by decide)
                · refine lv_iload_n hx hb dX1_process_65 rfl (lv_at hl 4 rfl) ?_
                  refine lv_bipush (v := nI 100) hx hb dX1_process_66 (by decide) ?_
                  refine lv_idiv hx hb dX1_process_68 (by decide) ?_
                  refine kv_top (pk_div (a := p0) (d := 100) (by omega) (by decide) (by decide)) ?_
                  refine lv_bipush (v := nI 10) hx hb dX1_process_69 (by decide) ?_
                  refine lv_irem hx hb dX1_process_71 (by decide) ?_
                  refine kv_top (pk_rem (a := (p0 / 100)) (d := 10) (by omega) (by decide) (by decide)) ?_
                  refine lv_goto (tgt := 76) hx hb dX1_process_72 (by decide) ?_
                  refine lv_istore (lv' := [(6, .int (nI ((p0 / 100) % 10))), (5, .int (nI (p0 / 1000))), (4, .int (nI 1)), (0, .ref h), (1, .int (nI k)), (2, .int (nI p0)), (3, .int x2)]) hx hb dX1_process_76 hl (by decide) rfl (fun ls hl => ?_)
                  refine lv_iload_n hx hb dX1_process_78 rfl (lv_at hl 5 rfl) ?_
                  refine lv_bipush (v := nI 10) hx hb dX1_process_79 (by decide) ?_
                  refine lv_idiv hx hb dX1_process_81 (by decide) ?_
                  refine kv_top (pk_div (a := p0) (d := 10) (by omega) (by decide) (by decide)) ?_
                  refine lv_bipush (v := nI 10) hx hb dX1_process_82 (by decide) ?_
                  refine lv_irem hx hb dX1_process_84 (by decide) ?_
                  refine kv_top (pk_rem (a := (p0 / 10)) (d := 10) (by omega) (by decide) (by decide)) ?_
                  refine lv_istore (lv' := [(7, .int (nI ((p0 / 10) % 10))), (6, .int (nI ((p0 / 100) % 10))), (5, .int (nI (p0 / 1000))), (4, .int (nI 1)), (0, .ref h), (1, .int (nI k)), (2, .int (nI p0)), (3, .int x2)]) hx hb dX1_process_85 hl (by decide) rfl (fun ls hl => ?_)
                  refine lv_iload_n hx hb dX1_process_87 rfl (lv_at hl 5 rfl) ?_
                  refine lv_iconst (v := nI 1) hx hb dX1_process_88 (by decide) ?_
                  refine lv_icmp_ne (tgt := 99) hx hb dX1_process_89 (by decide) (fun f4 => ?_) (fun f4 => ?_)
                  · have f4 : ¬ k = 1 := fun q => f4 ((nI_eq (a := k) (b := 1) (by omega) (by omega)).mpr q)
                    refine lv_iconst (v := -1) hx hb dX1_process_99 (by decide) ?_
                    refine lv_istore (lv' := [(8, .int (-1)), (7, .int (nI ((p0 / 10) % 10))), (6, .int (nI ((p0 / 100) % 10))), (5, .int (nI (p0 / 1000))), (4, .int (nI 1)), (0, .ref h), (1, .int (nI k)), (2, .int (nI p0)), (3, .int x2)]) hx hb dX1_process_100 hl (by decide) rfl (fun ls hl => ?_)
                    exact tail _ _ _ (if_pos h2).symm (if_neg f4).symm ls hl
                  · have f4 : k = 1 := (nI_eq (a := k) (b := 1) (by omega) (by omega)).mp f4
                    refine lv_iload_n hx hb dX1_process_92 rfl (lv_at hl 6 rfl) ?_
                    refine lv_bipush (v := nI 10) hx hb dX1_process_93 (by decide) ?_
                    refine lv_irem hx hb dX1_process_95 (by decide) ?_
                    refine kv_top (pk_rem (a := p0) (d := 10) (by omega) (by decide) (by decide)) ?_
                    refine lv_goto (tgt := 100) hx hb dX1_process_96 (by decide) ?_
                    refine lv_istore (lv' := [(8, .int (nI (p0 % 10))), (7, .int (nI ((p0 / 10) % 10))), (6, .int (nI ((p0 / 100) % 10))), (5, .int (nI (p0 / 1000))), (4, .int (nI 1)), (0, .ref h), (1, .int (nI k)), (2, .int (nI p0)), (3, .int x2)]) hx hb dX1_process_100 hl (by decide) rfl (fun ls hl => ?_)
                    exact tail _ _ _ (if_pos h2).symm (if_pos f4).symm ls hl
          · refine lv_iconst (v := -1) hx hb dX1_process_34 (by decide) ?_
            exact k_iret X I hr hlocks ⟨N, hO, Or.inr (Or.inl ⟨b1, Or.inr (Or.inr (Or.inr (Int32.not_le.mp b5))), rfl, rfl⟩)⟩ dX1_process_35
  · have b1 : ¬ N.1 < 8 := fun q => b1 ((nI_ltI (a := N.1) (b := 8) (by omega) (by omega)).mpr q)
    refine lv_bipush (v := -2) hx hb dX1_process_9 (by decide) ?_
    exact k_iret X I hr hlocks ⟨N, hO, Or.inl ⟨by omega, rfl, rfl⟩⟩ dX1_process_11
end
section
/-! what the reference's cells mean -/
def mNet (N : Net) (τ : KS) : Prop := nOk N ∧ τ 0 0 = nI N.1 ∧ (∀ i, i < N.1 → τ 1 i = nI (nk N i) ∧ τ 2 i = nI (na N i) ∧ τ 3 i = nI (nb N i) ∧ τ 4 i = nI (nc N i) ∧ τ 5 i = nI (nd N i) ∧ τ 6 i = nP N i ∧ (nk N i = 0 → τ 7 i = nQ N i)) ∧ ∀ x, x < 10 → vB (τ 8 x) (sRd N x) ∧ vB (τ 9 x) (sWr N x)
theorem mNet_congr {N : Net} {τ τ' : KS} (h : mNet N τ) (hF : ∀ f, f < 10 → τ' f = τ f) : mNet N τ' := by
  unfold mNet
  rw [hF 0 (by decide), hF 1 (by decide), hF 2 (by decide), hF 3 (by decide), hF 4 (by decide), hF 5 (by decide), hF 6 (by decide), hF 7 (by decide), hF 8 (by decide), hF 9 (by decide)]
  exact h
def mSz (τ : KS) (w : Nat → Nat) : Prop := ∀ x, x < 10 → τ 10 x = nI (w x) ∧ w x ≤ 20
/-- the streams that the reference's cells hold -/
def mS (τ : KS) (w : Nat → Nat) : Str := kS (fun _ => τ 11) w
/-- what is made: the first twenty of E -/
def mM (τ : KS) (E : List Int32) : Prop := τ 13 0 = nI (E.take 20).length ∧ ∀ (k : Nat) (v : Int32), (E.take 20)[k]? = some v → τ 12 k = v
theorem mM_nil {τ : KS} (h : τ 13 0 = nI 0) : mM τ [] := ⟨h, fun k v q => by simp at q⟩
theorem mM_len (E : List Int32) : (E.take 20).length ≤ 20 := by
  rw [List.length_take]
  omega
theorem mM_full {τ : KS} {E F : List Int32} (h : mM τ E) (h20 : 20 ≤ E.length) : mM τ (E ++ F) := by
  unfold mM
  rw [List.take_append_of_le_length h20]
  exact h
theorem mM_snoc {τ τ' : KS} {E : List Int32} {v : Int32} {c : Nat} (h : mM τ E) (hc : (E.take 20).length = c) (hl : c < 20) (h13 : τ' 13 0 = nI (c + 1)) (h12 : ∀ k, k ≠ c → τ' 12 k = τ 12 k) (hv : τ' 12 c = v) : mM τ' (E ++ [v]) := by
  have e1 : E.length = c := by
    rw [List.length_take] at hc
    omega
  have e2 : E.take 20 = E := List.take_of_length_le (by omega)
  have e3 : (E ++ [v]).take 20 = E ++ [v] := List.take_of_length_le (by rw [List.length_append]; show E.length + 1 ≤ 20; omega)
  obtain ⟨a, b⟩ := h
  unfold mM
  rw [e3]
  refine ⟨?_, fun k u q => ?_⟩
  · rw [List.length_append, e1]
    exact h13
  · by_cases hk : k < E.length
    · rw [List.getElem?_append_left hk] at q
      rw [h12 k (by omega)]
      exact b k u (by rw [e2]; exact q)
    · rw [List.getElem?_append_right (by omega)] at q
      have hz : k - E.length < 1 := (List.getElem?_eq_some_iff.mp q).1
      have hk2 : k = E.length := by omega
      rw [hk2, Nat.sub_self] at q
      cases q
      rw [hk2, e1]
      exact hv
theorem mM_congr {τ τ' : KS} {E : List Int32} (h : mM τ E) (h12 : τ' 12 = τ 12) (h13 : τ' 13 = τ 13) : mM τ' E := by
  unfold mM
  rw [h12, h13]
  exact h
theorem pl_out_congr {N : Net} (hN : nOk N) {S S' : Str} (h : ∀ x, x < 10 → S' x = S x) {i : Nat} (hi : i < N.1) : pl_out N i S' = pl_out N i S :=
  pl_prefix_antisymm (pl_out_mono hN hi (fun x hx => by rw [h x hx]; exact List.prefix_rfl)) (pl_out_mono hN hi (fun x hx => by rw [h x hx]; exact List.prefix_rfl))
theorem pl_src_split (P Q : Int32) : ∀ (m k j : Nat), pl_src P Q j (k + m) = pl_src P Q j k ++ pl_src P Q (j + k) m
  | m, 0, j => by rw [Nat.zero_add]; rfl
  | m, k + 1, j => by
    rw [show k + 1 + m = k + m + 1 from by omega]
    show (P + nI j * Q) :: pl_src P Q (j + 1) (k + m) = (P + nI j * Q) :: (pl_src P Q (j + 1) k ++ pl_src P Q (j + (k + 1)) m)
    rw [pl_src_split P Q m k (j + 1), show j + 1 + k = j + (k + 1) from by omega]
theorem pl_src_snoc (P Q : Int32) (k : Nat) : pl_src P Q 0 (k + 1) = pl_src P Q 0 k ++ [P + nI k * Q] := by
  rw [pl_src_split P Q 1 k 0, Nat.zero_add]
  rfl
theorem out0 {N : Net} {i : Nat} {S : Str} (h : nk N i = 0) (hb : nb N i ≤ 12) : pl_out N i S = pl_src (nP N i) (nQ N i) 0 (nb N i) := by
  unfold pl_out
  rw [res0 h, pl_m0, if_pos h, nI_clamp (by omega), Nat.sub_self]
/-- residues at equal places, and the loop of the reference's work -/
theorem mDrop {τ : KS} {w : Nat → Nat} {x k : Nat} (hx : x < 10) (hk : k < w x) : (mS τ w x).drop k = τ 11 (20 * x + k) :: (mS τ w x).drop (k + 1) := kDrop (σ := fun _ => τ 11) (fun _ _ => List.prefix_rfl) hx hk
theorem mS_len (τ : KS) (w : Nat → Nat) (x : Nat) : (mS τ w x).length = w x := kS_len _ w x
theorem mDropNil {τ : KS} {w : Nat → Nat} {x k : Nat} (hk : w x ≤ k) : (mS τ w x).drop k = [] := List.drop_eq_nil_of_le (by rw [mS_len]; exact hk)
/-- the state of the work's loop at k, with E made, sum and former as the locals have them -/
def mWk (N : Net) (i k : Nat) (τ : KS) (w : Nat → Nat) (sm : Int32) (E : List Int32) : Prop := ∃ (mem : Int32) (ph : Nat), (nk N i = 6 → mem = sm) ∧ (nk N i = 7 → ph = k % 2 ∧ (k % 2 = 1 → mem = τ 11 (20 * na N i + (k - 1)))) ∧ (nk N i = 3 → ph = 1) ∧ pl_out N i (mS τ w) = E ++ pl_res N i mem ph (mS τ w) (fun _ => k)
theorem mWk_start {N : Net} {i : Nat} {τ : KS} {w : Nat → Nat} (h0 : nk N i ≠ 0) (h3 : nk N i ≠ 3) : mWk N i 0 τ w (nI 0) [] := by
  refine ⟨0, 0, fun _ => rfl, fun _ => ⟨rfl, fun q => by cases q⟩, fun q => absurd q h3, ?_⟩
  unfold pl_out
  rw [pl_m0, if_neg h0]
  rfl
theorem mWk_start3 {N : Net} {i : Nat} {τ : KS} {w : Nat → Nat} (h3 : nk N i = 3) : mWk N i 0 τ w (nI 0) [nP N i] := by
  refine ⟨0, 1, fun _ => rfl, fun q => by omega, fun _ => rfl, ?_⟩
  unfold pl_out
  rw [res3 h3, res3 h3]
  rfl
theorem mWk_done {N : Net} {i k : Nat} {τ : KS} {w : Nat → Nat} {sm : Int32} {E : List Int32} (h : mWk N i k τ w sm E) (hk7 : nk N i ≤ 7) (h0 : nk N i ≠ 0) (h5 : nk N i ≠ 5) (hk : w (na N i) ≤ k) : pl_out N i (mS τ w) = E := by
  obtain ⟨mem, ph, -, -, hp3, e⟩ := h
  rw [e]
  have hk : nk N i = 1 ∨ nk N i = 2 ∨ nk N i = 3 ∨ nk N i = 4 ∨ nk N i = 6 ∨ nk N i = 7 := by omega
  have hd : (mS τ w (na N i)).drop k = [] := mDropNil (by omega)
  rcases hk with q | q | q | q | q | q
  · rw [res1 q, hd, List.append_nil]
  · rw [res2 q, hd]
    exact List.append_nil _
  · rw [res3 q, hp3 q, if_neg (by decide), hd, List.append_nil]
  · rw [res4 q, hd]
    exact List.append_nil _
  · rw [res6 q, hd]
    exact List.append_nil _
  · rw [res7 q, hd]
    cases ph <;> exact List.append_nil _
theorem mWk_1 {N : Net} {i k : Nat} {τ : KS} {w : Nat → Nat} {sm sm' : Int32} {E : List Int32} (h : mWk N i k τ w sm E) (ha : na N i < 10) (hk : k < w (na N i)) (q : nk N i = 1) : mWk N i (k + 1) τ w sm' (E ++ [τ 11 (20 * na N i + k)]) := by
  obtain ⟨mem, ph, -, -, -, e⟩ := h
  refine ⟨mem, ph, fun z => by omega, fun z => by omega, fun z => by omega, ?_⟩
  rw [e, res1 q, res1 q, mDrop ha hk, List.append_assoc]
  rfl
theorem mWk_3 {N : Net} {i k : Nat} {τ : KS} {w : Nat → Nat} {sm sm' : Int32} {E : List Int32} (h : mWk N i k τ w sm E) (ha : na N i < 10) (hk : k < w (na N i)) (q : nk N i = 3) : mWk N i (k + 1) τ w sm' (E ++ [τ 11 (20 * na N i + k)]) := by
  obtain ⟨mem, ph, -, -, hp, e⟩ := h
  refine ⟨mem, ph, fun z => by omega, fun z => by omega, fun z => hp z, ?_⟩
  rw [e, res3 q, res3 q, hp q, if_neg (by decide), if_neg (by decide), mDrop ha hk, List.append_assoc]
  rfl
theorem mWk_4y {N : Net} {i k : Nat} {τ : KS} {w : Nat → Nat} {sm sm' : Int32} {E : List Int32} (h : mWk N i k τ w sm E) (ha : na N i < 10) (hk : k < w (na N i)) (q : nk N i = 4) (hz : τ 11 (20 * na N i + k) &&& nP N i = 0) : mWk N i (k + 1) τ w sm' (E ++ [τ 11 (20 * na N i + k)]) := by
  obtain ⟨mem, ph, -, -, -, e⟩ := h
  refine ⟨mem, ph, fun z => by omega, fun z => by omega, fun z => by omega, ?_⟩
  rw [e, res4 q, res4 q, mDrop ha hk, List.filter_cons_of_pos (by simp [hz]), List.append_assoc]
  rfl
theorem mWk_4n {N : Net} {i k : Nat} {τ : KS} {w : Nat → Nat} {sm sm' : Int32} {E : List Int32} (h : mWk N i k τ w sm E) (ha : na N i < 10) (hk : k < w (na N i)) (q : nk N i = 4) (hz : ¬ τ 11 (20 * na N i + k) &&& nP N i = 0) : mWk N i (k + 1) τ w sm' E := by
  obtain ⟨mem, ph, -, -, -, e⟩ := h
  refine ⟨mem, ph, fun z => by omega, fun z => by omega, fun z => by omega, ?_⟩
  rw [e, res4 q, res4 q, mDrop ha hk, List.filter_cons_of_neg (by simp [hz])]
theorem mWk_6 {N : Net} {i k : Nat} {τ : KS} {w : Nat → Nat} {sm : Int32} {E : List Int32} (h : mWk N i k τ w sm E) (ha : na N i < 10) (hk : k < w (na N i)) (q : nk N i = 6) : mWk N i (k + 1) τ w (sm + τ 11 (20 * na N i + k)) (E ++ [sm + τ 11 (20 * na N i + k)]) := by
  obtain ⟨mem, ph, hm, -, -, e⟩ := h
  refine ⟨sm + τ 11 (20 * na N i + k), ph, fun z => rfl, fun z => by omega, fun z => by omega, ?_⟩
  rw [e, res6 q, res6 q, mDrop ha hk, hm q, List.append_assoc]
  rfl
theorem mWk_2y {N : Net} {i k : Nat} {τ : KS} {w : Nat → Nat} {sm sm' : Int32} {E : List Int32} (h : mWk N i k τ w sm E) (ha : na N i < 10) (hb : nb N i < 10) (hk : k < w (na N i)) (hkb : k < w (nb N i)) (q : nk N i = 2) : mWk N i (k + 1) τ w sm' (E ++ [τ 11 (20 * na N i + k) + τ 11 (20 * nb N i + k)]) := by
  obtain ⟨mem, ph, -, -, -, e⟩ := h
  refine ⟨mem, ph, fun z => by omega, fun z => by omega, fun z => by omega, ?_⟩
  rw [e, res2 q, res2 q, mDrop ha hk, mDrop hb hkb, List.append_assoc]
  rfl
theorem mWk_2n {N : Net} {i k : Nat} {τ : KS} {w : Nat → Nat} {sm sm' : Int32} {E : List Int32} (h : mWk N i k τ w sm E) (hkb : w (nb N i) ≤ k) (q : nk N i = 2) : mWk N i (k + 1) τ w sm' E := by
  obtain ⟨mem, ph, -, -, -, e⟩ := h
  refine ⟨mem, ph, fun z => by omega, fun z => by omega, fun z => by omega, ?_⟩
  rw [e, res2 q, res2 q, mDropNil hkb, mDropNil (x := nb N i) (k := k + 1) (by omega), pl_zip_nil_r, pl_zip_nil_r]
theorem mWk_7n {N : Net} {i k : Nat} {τ : KS} {w : Nat → Nat} {sm sm' : Int32} {E : List Int32} (h : mWk N i k τ w sm E) (ha : na N i < 10) (hk : k < w (na N i)) (q : nk N i = 7) (hz : ¬ k % 2 = 1) : mWk N i (k + 1) τ w sm' E := by
  obtain ⟨mem, ph, -, hp, -, e⟩ := h
  refine ⟨τ 11 (20 * na N i + k), 1, fun z => by omega, fun z => ⟨by omega, fun _ => rfl⟩, fun z => by omega, ?_⟩
  have hp0 : ph = 0 := by
    have := (hp q).1
    omega
  rw [e, res7 q, res7 q, mDrop ha hk, hp0]
  rfl
theorem mWk_7y {N : Net} {i k : Nat} {τ : KS} {w : Nat → Nat} {sm sm' : Int32} {E : List Int32} (h : mWk N i k τ w sm E) (ha : na N i < 10) (hk : k < w (na N i)) (q : nk N i = 7) (hz : k % 2 = 1) : mWk N i (k + 1) τ w sm' (E ++ [τ 11 (20 * na N i + (k - 1)) - τ 11 (20 * na N i + k)]) := by
  obtain ⟨mem, ph, -, hp, -, e⟩ := h
  refine ⟨mem, 0, fun z => by omega, fun z => ⟨by omega, fun y => by omega⟩, fun z => by omega, ?_⟩
  have hp0 : ph = 1 := by
    have := (hp q).1
    omega
  have hm := (hp q).2 hz
  rw [e, res7 q, res7 q, mDrop ha hk, hp0, List.append_assoc, ← hm]
  rfl
/-- the reference's loop of a join -/
def mJn (τ : KS) (w : Nat → Nat) (x y i j : Nat) (E : List Int32) : Prop := E.length = i + j ∧ pl_jn (mS τ w x) (mS τ w y) = E ++ pl_jn ((mS τ w x).drop i) ((mS τ w y).drop j)
theorem mJn_start (τ : KS) (w : Nat → Nat) (x y : Nat) : mJn τ w x y 0 0 [] := ⟨rfl, rfl⟩
theorem mJn_le {τ : KS} {w : Nat → Nat} {x y i j : Nat} {E : List Int32} (h : mJn τ w x y i j E) (hx : x < 10) (hy : y < 10) (hi : i < w x) (hj : j < w y) (hle : τ 11 (20 * x + i) ≤ τ 11 (20 * y + j)) : mJn τ w x y (i + 1) j (E ++ [τ 11 (20 * x + i)]) := by
  obtain ⟨a, b⟩ := h
  refine ⟨by rw [List.length_append, a]; show i + j + 1 = _; omega, ?_⟩
  rw [b, mDrop hx hi, mDrop hy hj, pl_jn_le hle, List.append_assoc]
  rfl
theorem mJn_gt {τ : KS} {w : Nat → Nat} {x y i j : Nat} {E : List Int32} (h : mJn τ w x y i j E) (hx : x < 10) (hy : y < 10) (hi : i < w x) (hj : j < w y) (hle : ¬ τ 11 (20 * x + i) ≤ τ 11 (20 * y + j)) : mJn τ w x y i (j + 1) (E ++ [τ 11 (20 * y + j)]) := by
  obtain ⟨a, b⟩ := h
  refine ⟨by rw [List.length_append, a]; show i + j + 1 = _; omega, ?_⟩
  rw [b, mDrop hx hi, mDrop hy hj, pl_jn_gt hle, List.append_assoc]
  rfl
theorem mJn_done {τ τ' : KS} {w : Nat → Nat} {x y i j : Nat} {E : List Int32} (h : mJn τ w x y i j E) (hM : mM τ' E) (hd : 20 ≤ i + j ∨ w x ≤ i ∨ w y ≤ j) : mM τ' (pl_jn (mS τ w x) (mS τ w y)) := by
  obtain ⟨a, b⟩ := h
  rw [b]
  rcases hd with q | q | q
  · exact mM_full hM (by omega)
  · rw [mDropNil q, pl_jn_nil_l, List.append_nil]
    exact hM
  · rw [mDropNil q, pl_jn_nil_r, List.append_nil]
    exact hM
theorem out5 {N : Net} {i : Nat} {S : Str} (h : nk N i = 5) : pl_out N i S = pl_jn (S (na N i)) (S (nb N i)) := by
  unfold pl_out
  rw [res5 h]
  rfl
/-- storing what was made -/
theorem mS_store {τ τ' : KS} {w : Nat → Nat} {x : Nat} {E : List Int32} (hx : x < 10) (hw : ∀ y, y < 10 → w y ≤ 20) (hM : mM τ E) (h1 : ∀ k, k < (E.take 20).length → τ' 11 (20 * x + k) = τ 12 k) (h2 : ∀ j, (j < 20 * x ∨ 20 * x + 20 ≤ j) → τ' 11 j = τ 11 j) : (mS τ' (nup w x (E.take 20).length) x = E.take 20) ∧ ∀ y, y < 10 → y ≠ x → mS τ' (nup w x (E.take 20).length) y = mS τ w y := by
  refine ⟨?_, fun y hy hyx => ?_⟩
  · refine List.ext_getElem? (fun k => ?_)
    by_cases hk : k < (E.take 20).length
    · obtain ⟨v, hv⟩ : ∃ v, (E.take 20)[k]? = some v := ⟨_, List.getElem?_eq_getElem hk⟩
      rw [hv, ← hM.2 k v hv, ← h1 k hk]
      exact kS_get? (σ := fun _ => τ' 11) (by rw [nup_at]; exact hk)
    · rw [List.getElem?_eq_none (l := E.take 20) (by omega)]
      exact kS_none (σ := fun _ => τ' 11) (w := nup w x (E.take 20).length) (x := x) (by rw [nup_at]; omega)
  · have := hw y hy
    exact kS_congr (σ := fun _ => τ 11) (σ' := fun _ => τ' 11) (nup_ne hyx) (fun k hk => h2 _ (by omega))
/-- one process of a round -/
theorem mStep {N : Net} {S S' : Str} (hN : nOk N) (h : pl_MK N S) {i : Nat} (hi : i < N.1) (hSw : ∀ x, x < 10 → nWr N i x → S' x = (pl_out N i S).take 20) (hSo : ∀ x, x < 10 → ¬ nWr N i x → S' x = S x) (hsame : (S' (nc N i)).length ≤ (S (nc N i)).length) : (∀ x, x < 10 → S' x = S x) ∧ (pl_out N i S').take 20 = S' (nc N i) := by
  obtain ⟨hK0, hK1, hK2, hK3, hK4⟩ := h
  obtain ⟨-, -, hc, hd, -⟩ := hN.2.1 i hi
  have e1 := hSw _ hc (Or.inl rfl)
  have e2 : S (nc N i) = (pl_out N i S).take 20 := (hK2 i hi).eq_of_length_le (by rw [← e1]; exact hsame)
  have key : ∀ x, x < 10 → S' x = S x := by
    intro x hx
    by_cases hq : nWr N i x
    · rw [hSw x hx hq, ← e2]
      rcases hq with z | ⟨z1, z2⟩
      · rw [z]
      · rw [← z2]
        exact (hK3 i hi z1).symm
    · exact hSo x hx hq
  exact ⟨key, by rw [pl_out_congr hN key hi, ← e2, key _ hc]⟩
theorem mTot {S S' : Str} (h : pl_Le S S') (hg : ∃ x, x < 10 ∧ (S x).length < (S' x).length) : ks_sum (fun x => (S x).length) 10 < ks_sum (fun x => (S' x).length) 10 := ks_sum_lt (fun x hx => (h x hx).length_le) hg
theorem mTot_le {S : Str} (h : ∀ x, x < 10 → (S x).length ≤ 20) : ks_sum (fun x => (S x).length) 10 ≤ 200 := ks_sum_le (g := fun _ => 20) h
end
section
set_option maxHeartbeats 4000000 in
set_option maxRecDepth 100000 in
theorem metX2_isChannel (l : Launch) (D : va_G) (c1 c2 : ClassId) (h : Nat) (ad : Nat → Nat) (A : Nat → Prop) (σ : KS) (x0 : Int32) :
    Met l yX2_isChannel (ws_ yX2_isChannel cX2_isChannel 2 (some .boolean)) ({ frames := 0, cells := 0, slots := 0, locals := 0 } : Room) (mP D c1 c2 h ad A σ [.int x0]) (va_Qi (fun (r : Int32) (σ' : KS) => σ' = σ ∧ vB r (¬ sBad x0)) (mB D c1 c2 h ad A) A) 0 0 A := by
  refine mM_of (by decide) rfl (Nat.le_of_ble_eq_true rfl) ?_
  intro p e s m args below meth c ls X hr hlocks I hl
  have hl : lv_has ls 2 [(0, .ref h), (1, .int x0)] := hl
  have hx := X.1
  have hb := X.2.1
  refine lv_iload_n hx hb dX2_isChannel_0 rfl (lv_at hl 1 rfl) ?_
  refine lv_if_lt (tgt := 14) hx hb dX2_isChannel_1 (by decide) (fun b1 => ?_) (fun b1 => ?_)
  · refine lv_iconst (v := nI 0) hx hb dX2_isChannel_14 (by decide) ?_
    exact m_zret X I hr hlocks rfl ⟨rfl, vB_0 (fun q => q (Or.inl b1))⟩ dX2_isChannel_15
  · refine lv_iload_n hx hb dX2_isChannel_4 rfl (lv_at hl 1 rfl) ?_
    refine lv_bipush (v := nI 9) hx hb dX2_isChannel_5 (by decide) ?_
    refine lv_icmp_gt (tgt := 14) hx hb dX2_isChannel_7 (by decide) (fun b2 => ?_) (fun b2 => ?_)
    · refine lv_iconst (v := nI 0) hx hb dX2_isChannel_14 (by decide) ?_
      exact m_zret X I hr hlocks rfl ⟨rfl, vB_0 (fun q => q (Or.inr b2))⟩ dX2_isChannel_15
    · refine lv_iconst (v := nI 1) hx hb dX2_isChannel_10 (by decide) ?_
      refine lv_goto (tgt := 15) hx hb dX2_isChannel_11 (by decide) ?_
      exact m_zret X I hr hlocks rfl ⟨rfl, vB_1 (fun q => q.elim b1 b2)⟩ dX2_isChannel_15

set_option maxHeartbeats 4000000 in
set_option maxRecDepth 100000 in
theorem metX2_get (l : Launch) (D : va_G) (c1 c2 : ClassId) (h : Nat) (ad : Nat → Nat) (A : Nat → Prop) (σ : KS) (x0 k0 : Nat) (h0 : x0 < 10) (hk0 : k0 < 20) :
    Met l yX2_get (ws_ yX2_get cX2_get 3 (some .int)) ({ frames := 0, cells := 0, slots := 0, locals := 0 } : Room) (mP D c1 c2 h ad A σ [.int (nI x0), .int (nI k0)]) (va_Qi (fun (r : Int32) (σ' : KS) => σ' = σ ∧ r = σ 11 (20 * x0 + k0)) (mB D c1 c2 h ad A) A) 0 0 A := by
  refine mM_of (by decide) rfl (Nat.le_of_ble_eq_true rfl) ?_
  intro p e s m args below meth c ls X hr hlocks I hl
  have hl : lv_has ls 3 [(0, .ref h), (1, .int (nI x0)), (2, .int (nI k0))] := hl
  have hx := X.1
  have hb := X.2.1
  refine mf_ints X I (lv_at hl 0 rfl) dX2_get_0 dX2_get_1 ?_
  refine lv_bipush (v := nI 20) hx hb dX2_get_4 (by decide) ?_
  refine lv_iload_n hx hb dX2_get_6 rfl (lv_at hl 1 rfl) ?_
  refine lv_imul hx hb dX2_get_7 ?_
  refine kv_top (pk_mul _ _) ?_
  refine lv_iload_n hx hb dX2_get_8 rfl (lv_at hl 2 rfl) ?_
  refine lv_iadd hx hb dX2_get_9 ?_
  refine kv_top (nI_add _ _) ?_
  refine ml_ints X I ((20 * x0) + k0) rfl (by omega) (v := σ 11 ((20 * x0) + k0)) rfl dX2_get_10 ?_
  exact m_iret X I hr hlocks ⟨rfl, rfl⟩ dX2_get_11

set_option maxHeartbeats 4000000 in
set_option maxRecDepth 100000 in
theorem metX2_write (l : Launch) (D : va_G) (c1 c2 : ClassId) (h : Nat) (ad : Nat → Nat) (A : Nat → Prop) (σ : KS) (E : List Int32) (v0 : Int32) (hM : mM σ E) :
    Met l yX2_write (ws_ yX2_write cX2_write 2 none) ({ frames := 0, cells := 0, slots := 0, locals := 0 } : Room) (mP D c1 c2 h ad A σ [.int v0]) (va_Qv (fun (σ' : KS) => (∀ f, f ≠ 12 → f ≠ 13 → σ' f = σ f) ∧ mM σ' (E ++ [v0])) (mB D c1 c2 h ad A) A) 0 0 A := by
  refine mM_of (by decide) rfl (Nat.le_of_ble_eq_true rfl) ?_
  intro p e s m args below meth c ls X hr hlocks I hl
  have hl : lv_has ls 2 [(0, .ref h), (1, .int v0)] := hl
  have hx := X.1
  have hb := X.2.1
  have hlen := mM_len E
  obtain ⟨n0, hn0⟩ : ∃ n0, (E.take 20).length = n0 := ⟨_, rfl⟩
  have hc : σ 13 0 = nI n0 := by rw [← hn0]; exact hM.1
  rw [hn0] at hlen
  refine mf_count X I (v := nI n0) hc (lv_at hl 0 rfl) dX2_write_0 dX2_write_1 ?_
  refine lv_bipush (v := nI 20) hx hb dX2_write_4 (by decide) ?_
  refine lv_icmp_ge (tgt := 29) hx hb dX2_write_6 (by decide) (fun b1 => ?_) (fun b1 => ?_)
  · have b1 : 20 ≤ n0 := (nI_leI (a := 20) (b := n0) (by omega) (by omega)).mp b1
    exact m_vret X I hr hlocks ⟨fun _ _ _ => rfl, mM_full hM (by rw [List.length_take] at hn0; omega)⟩ dX2_write_29
  · have b1 : ¬ 20 ≤ n0 := fun q => b1 ((nI_leI (a := 20) (b := n0) (by omega) (by omega)).mpr q)
    refine mf_made X I (lv_at hl 0 rfl) dX2_write_9 dX2_write_10 ?_
    refine mf_count X I (v := nI n0) hc (lv_at hl 0 rfl) dX2_write_13 dX2_write_14 ?_
    refine lv_iload_n hx hb dX2_write_17 rfl (lv_at hl 1 rfl) ?_
    refine ms_made X I n0 rfl (by omega) dX2_write_18 (fun H locs I => ?_)
    refine lv_aload_n hx hb dX2_write_19 rfl (lv_at hl 0 rfl) ?_
    refine lv_dup hx hb dX2_write_20 rfl ?_
    refine mg_count X I (v := nI n0) hc dX2_write_21 ?_
    refine lv_iconst (v := nI 1) hx hb dX2_write_24 (by decide) ?_
    refine lv_iadd hx hb dX2_write_25 ?_
    refine kv_top (nI_add _ _) ?_
    refine mp_count X I dX2_write_26 (fun H locs I => ?_)
    exact m_vret X I hr hlocks ⟨fun f q1 q2 => by rw [su_other q2, su_other q1], mM_snoc hM hn0 (by omega) rfl (fun k hk => su_ne (σ := σ) (f := 12) (v := v0) hk) (su_at σ 12 n0 v0)⟩ dX2_write_29

set_option maxHeartbeats 4000000 in
set_option maxRecDepth 100000 in
theorem metX2_join (l : Launch) (D : va_G) (c1 c2 : ClassId) (h : Nat) (ad : Nat → Nat) (A : Nat → Prop) (σ : KS) (w : Nat → Nat) (hz : mSz σ w) (x0 y0 : Nat) (h0 : x0 < 10) (h1 : y0 < 10) (hM : mM σ []) :
    Met l yX2_join (ws_ yX2_join cX2_join 8 none) ({ frames := 1, cells := 0, slots := 0, locals := 22 } : Room) (mP D c1 c2 h ad A σ [.int (nI x0), .int (nI y0)]) (va_Qv (fun (σ' : KS) => (∀ f, f ≠ 12 → f ≠ 13 → σ' f = σ f) ∧ mM σ' (pl_jn (mS σ w x0) (mS σ w y0))) (mB D c1 c2 h ad A) A) 0 0 A := by
  refine mM_of (by decide) rfl (Nat.le_of_ble_eq_true rfl) ?_
  intro p e s m args below meth c ls X hr hlocks I hl
  have hl : lv_has ls 8 [(0, .ref h), (1, .int (nI x0)), (2, .int (nI y0))] := hl
  have hx := X.1
  have hb := X.2.1
  obtain ⟨z1, z2⟩ := hz x0 h0
  obtain ⟨z3, z4⟩ := hz y0 h1
  have loop : ∀ (f i j k : Nat) (E : List Int32) (σ1 : KS), 20 - k < f → i + j = k → k ≤ 20 → i ≤ w x0 → j ≤ w y0 → (∀ f, f ≠ 12 → f ≠ 13 → σ1 f = σ f) → mM σ1 E → mJn σ w x0 y0 i j E → ∀ (H : Heap) (locs : List Loc), mI D c1 c2 h ad A s.heap σ1 H locs → ∀ ls : Array Slot, lv_has ls 8 [(5, .int (nI k)), (4, .int (nI j)), (3, .int (nI i)), (0, .ref h), (1, .int (nI x0)), (2, .int (nI y0))] → W p l e ({ frames := 1, cells := 0, slots := 0, locals := 22 } : Room) s m args below meth c H locs 0 0 (MQ below (va_Qv (fun (σ' : KS) => (∀ f, f ≠ 12 → f ≠ 13 → σ' f = σ f) ∧ mM σ' (pl_jn (mS σ w x0) (mS σ w y0))) (mB D c1 c2 h ad A) A) args s 0 0 A) (F0 m 8 ls []) := by
    intro f
    induction f with
    | zero =>
      intro i j k E σ1 q1
      exact absurd q1 (by omega)
    | succ f ih =>
      intro i j k E σ1 hf hij hk hi hj hF hM1 hJ H locs I ls hl
      have e10 : σ1 10 = σ 10 := hF 10 (by decide) (by decide)
      have e11 : σ1 11 = σ 11 := hF 11 (by decide) (by decide)
      refine lv_iload hx hb dX2_join_8 (lv_at hl 0 rfl) ?_
      refine lv_bipush (v := nI 20) hx hb dX2_join_10 (by decide) ?_
      refine lv_icmp_ge (tgt := 93) hx hb dX2_join_12 (by decide) (fun b1 => ?_) (fun b1 => ?_)
      · have b1 : 20 ≤ k := (nI_leI (a := 20) (b := k) (by omega) (by omega)).mp b1
        exact m_vret X I hr hlocks ⟨hF, mJn_done hJ hM1 (Or.inl (by omega))⟩ dX2_join_93
      · have b1 : ¬ 20 ≤ k := fun q => b1 ((nI_leI (a := 20) (b := k) (by omega) (by omega)).mpr q)
        refine lv_iload_n hx hb dX2_join_15 rfl (lv_at hl 2 rfl) ?_
        refine mf_size X I (lv_at hl 3 rfl) dX2_join_16 dX2_join_17 ?_
        refine lv_iload_n hx hb dX2_join_20 rfl (lv_at hl 4 rfl) ?_
        refine ml_size X I x0 rfl (by omega) (v := nI (w x0)) (by rw [e10]; exact z1) dX2_join_21 ?_
        refine lv_icmp_ge (tgt := 93) hx hb dX2_join_22 (by decide) (fun b2 => ?_) (fun b2 => ?_)
        · have b2 : (w x0) ≤ i := (nI_leI (a := (w x0)) (b := i) (by omega) (by omega)).mp b2
          exact m_vret X I hr hlocks ⟨hF, mJn_done hJ hM1 (Or.inr (Or.inl b2))⟩ dX2_join_93
        · have b2 : ¬ (w x0) ≤ i := fun q => b2 ((nI_leI (a := (w x0)) (b := i) (by omega) (by omega)).mpr q)
          refine lv_iload hx hb dX2_join_25 (lv_at hl 1 rfl) ?_
          refine mf_size X I (lv_at hl 3 rfl) dX2_join_27 dX2_join_28 ?_
          refine lv_iload_n hx hb dX2_join_31 rfl (lv_at hl 5 rfl) ?_
          refine ml_size X I y0 rfl (by omega) (v := nI (w y0)) (by rw [e10]; exact z3) dX2_join_32 ?_
          refine lv_icmp_ge (tgt := 93) hx hb dX2_join_33 (by decide) (fun b3 => ?_) (fun b3 => ?_)
          · have b3 : (w y0) ≤ j := (nI_leI (a := (w y0)) (b := j) (by omega) (by omega)).mp b3
            exact m_vret X I hr hlocks ⟨hF, mJn_done hJ hM1 (Or.inr (Or.inr b3))⟩ dX2_join_93
          · have b3 : ¬ (w y0) ≤ j := fun q => b3 ((nI_leI (a := (w y0)) (b := j) (by omega) (by omega)).mpr q)
            refine lv_aload_n hx hb dX2_join_36 rfl (lv_at hl 3 rfl) ?_
            refine lv_iload_n hx hb dX2_join_37 rfl (lv_at hl 4 rfl) ?_
            refine lv_iload_n hx hb dX2_join_38 rfl (lv_at hl 2 rfl) ?_
            refine m_calli X I (rest := []) (metX2_get l D c1 c2 h ad A σ1 x0 i h0 (by omega)) (cwX2_get X.2.2.2.2.1 rfl rfl ⟨Nat.le_of_ble_eq_true rfl, Nat.le_of_ble_eq_true rfl⟩) rfl hl.1 rfl (Nat.le_of_ble_eq_true rfl) ⟨Nat.zero_le _, Nat.zero_le _⟩ dX2_join_39 (fun u σ2 H locs hu I => ?_)
            obtain ⟨hs, hu⟩ := hu
            rw [hs] at I
            rw [e11] at hu
            refine lv_istore (lv' := [(6, .int u), (5, .int (nI k)), (4, .int (nI j)), (3, .int (nI i)), (0, .ref h), (1, .int (nI x0)), (2, .int (nI y0))]) hx hb dX2_join_42 hl (by decide) rfl (fun ls hl => ?_)
            refine lv_aload_n hx hb dX2_join_44 rfl (lv_at hl 4 rfl) ?_
            refine lv_iload_n hx hb dX2_join_45 rfl (lv_at hl 6 rfl) ?_
            refine lv_iload hx hb dX2_join_46 (lv_at hl 2 rfl) ?_
            refine m_calli X I (rest := []) (metX2_get l D c1 c2 h ad A σ1 y0 j h1 (by omega)) (cwX2_get X.2.2.2.2.1 rfl rfl ⟨Nat.le_of_ble_eq_true rfl, Nat.le_of_ble_eq_true rfl⟩) rfl hl.1 rfl (Nat.le_of_ble_eq_true rfl) ⟨Nat.zero_le _, Nat.zero_le _⟩ dX2_join_48 (fun v σ2 H locs hv I => ?_)
            obtain ⟨hs, hv⟩ := hv
            rw [hs] at I
            rw [e11] at hv
            refine lv_istore (lv' := [(7, .int v), (6, .int u), (5, .int (nI k)), (4, .int (nI j)), (3, .int (nI i)), (0, .ref h), (1, .int (nI x0)), (2, .int (nI y0))]) hx hb dX2_join_51 hl (by decide) rfl (fun ls hl => ?_)
            refine lv_aload_n hx hb dX2_join_53 rfl (lv_at hl 5 rfl) ?_
            refine lv_iload hx hb dX2_join_54 (lv_at hl 1 rfl) ?_
            refine lv_iload hx hb dX2_join_56 (lv_at hl 0 rfl) ?_
            refine lv_icmp_gt (tgt := 66) hx hb dX2_join_58 (by decide) (fun b4 => ?_) (fun b4 => ?_)
            · refine lv_iload hx hb dX2_join_66 (lv_at hl 0 rfl) ?_
              refine m_callv X I (rest := []) (metX2_write l D c1 c2 h ad A σ1 E v hM1) (cwX2_write X.2.2.2.2.1 rfl rfl ⟨Nat.le_of_ble_eq_true rfl, Nat.le_of_ble_eq_true rfl⟩) rfl hl.1 rfl (Nat.le_of_ble_eq_true rfl) ⟨Nat.zero_le _, Nat.zero_le _⟩ dX2_join_68 (fun σ3 H locs hw I => ?_)
              obtain ⟨hF3, hM3⟩ := hw
              refine lv_iload hx hb dX2_join_71 (lv_at hl 1 rfl) ?_
              refine lv_iload hx hb dX2_join_73 (lv_at hl 0 rfl) ?_
              refine lv_icmp_gt (tgt := 84) hx hb dX2_join_75 (by decide) (fun b5 => ?_) (fun b5 => ?_)
              · refine lv_iinc (v := nI (j + 1)) (lv' := [(4, .int (nI (j + 1))), (7, .int v), (6, .int u), (5, .int (nI k)), (3, .int (nI i)), (0, .ref h), (1, .int (nI x0)), (2, .int (nI y0))]) hx hb dX2_join_84 hl (k := 3) rfl (nI_1 j) (by decide) rfl (fun ls hl => ?_)
                refine lv_iinc (v := nI (k + 1)) (lv' := [(5, .int (nI (k + 1))), (4, .int (nI (j + 1))), (7, .int v), (6, .int u), (3, .int (nI i)), (0, .ref h), (1, .int (nI x0)), (2, .int (nI y0))]) hx hb dX2_join_87 hl (k := 3) rfl (nI_1 k) (by decide) rfl (fun ls hl => ?_)
                refine lv_goto (tgt := 8) hx hb dX2_join_90 (by decide) ?_
                exact ih i (j + 1) (k + 1) (E ++ [v]) σ3 (by omega) (by omega) (by omega) (by omega) (by omega) (fun f q1 q2 => (hF3 f q1 q2).trans (hF f q1 q2)) hM3 (by
                  rw [hv]
                  refine mJn_gt hJ h0 h1 (by omega) (by omega) ?_
                  rw [← hu, ← hv]
                  exact Int32.not_le.mpr b4) H locs I ls (lv_sub hl [0, 1, 4, 5, 6, 7] rfl)
              · exact absurd b4 b5
            · refine lv_iload hx hb dX2_join_61 (lv_at hl 1 rfl) ?_
              refine lv_goto (tgt := 68) hx hb dX2_join_63 (by decide) ?_
              refine m_callv X I (rest := []) (metX2_write l D c1 c2 h ad A σ1 E u hM1) (cwX2_write X.2.2.2.2.1 rfl rfl ⟨Nat.le_of_ble_eq_true rfl, Nat.le_of_ble_eq_true rfl⟩) rfl hl.1 rfl (Nat.le_of_ble_eq_true rfl) ⟨Nat.zero_le _, Nat.zero_le _⟩ dX2_join_68 (fun σ3 H locs hw I => ?_)
              obtain ⟨hF3, hM3⟩ := hw
              refine lv_iload hx hb dX2_join_71 (lv_at hl 1 rfl) ?_
              refine lv_iload hx hb dX2_join_73 (lv_at hl 0 rfl) ?_
              refine lv_icmp_gt (tgt := 84) hx hb dX2_join_75 (by decide) (fun b5 => ?_) (fun b5 => ?_)
              · exact absurd b5 b4
              · refine lv_iinc (v := nI (i + 1)) (lv' := [(3, .int (nI (i + 1))), (7, .int v), (6, .int u), (5, .int (nI k)), (4, .int (nI j)), (0, .ref h), (1, .int (nI x0)), (2, .int (nI y0))]) hx hb dX2_join_78 hl (k := 4) rfl (nI_1 i) (by decide) rfl (fun ls hl => ?_)
                refine lv_goto (tgt := 87) hx hb dX2_join_81 (by decide) ?_
                refine lv_iinc (v := nI (k + 1)) (lv' := [(5, .int (nI (k + 1))), (3, .int (nI (i + 1))), (7, .int v), (6, .int u), (4, .int (nI j)), (0, .ref h), (1, .int (nI x0)), (2, .int (nI y0))]) hx hb dX2_join_87 hl (k := 3) rfl (nI_1 k) (by decide) rfl (fun ls hl => ?_)
                refine lv_goto (tgt := 8) hx hb dX2_join_90 (by decide) ?_
                exact ih (i + 1) j (k + 1) (E ++ [u]) σ3 (by omega) (by omega) (by omega) (by omega) (by omega) (fun f q1 q2 => (hF3 f q1 q2).trans (hF f q1 q2)) hM3 (by
                  rw [hu]
                  refine mJn_le hJ h0 h1 (by omega) (by omega) ?_
                  rw [← hu, ← hv]
                  exact Int32.not_lt.mp b4) H locs I ls (lv_sub hl [0, 4, 1, 5, 6, 7] rfl)
  refine lv_iconst (v := nI 0) hx hb dX2_join_0 (by decide) ?_
  refine lv_istore_n (lv' := [(3, .int (nI 0)), (0, .ref h), (1, .int (nI x0)), (2, .int (nI y0))]) hx hb dX2_join_1 rfl hl (by decide) rfl (fun ls hl => ?_)
  refine lv_iconst (v := nI 0) hx hb dX2_join_2 (by decide) ?_
  refine lv_istore (lv' := [(4, .int (nI 0)), (3, .int (nI 0)), (0, .ref h), (1, .int (nI x0)), (2, .int (nI y0))]) hx hb dX2_join_3 hl (by decide) rfl (fun ls hl => ?_)
  refine lv_iconst (v := nI 0) hx hb dX2_join_5 (by decide) ?_
  refine lv_istore (lv' := [(5, .int (nI 0)), (4, .int (nI 0)), (3, .int (nI 0)), (0, .ref h), (1, .int (nI x0)), (2, .int (nI y0))]) hx hb dX2_join_6 hl (by decide) rfl (fun ls hl => ?_)
  exact loop 21 0 0 0 [] σ (by omega) rfl (by omega) (by omega) (by omega) (fun _ _ _ => rfl) hM (mJn_start _ _ _ _) _ _ I ls hl

set_option maxHeartbeats 4000000 in
set_option maxRecDepth 100000 in
theorem metX2_store (l : Launch) (D : va_G) (c1 c2 : ClassId) (h : Nat) (ad : Nat → Nat) (A : Nat → Prop) (σ : KS) (w : Nat → Nat) (hz : mSz σ w) (E : List Int32) (hM : mM σ E) (x0 : Nat) (h0 : x0 < 10) :
    Met l yX2_store (ws_ yX2_store cX2_store 4 (some .boolean)) ({ frames := 0, cells := 0, slots := 0, locals := 0 } : Room) (mP D c1 c2 h ad A σ [.int (nI x0)]) (va_Qi (fun (r : Int32) (σ' : KS) => vB r (w x0 < (E.take 20).length) ∧ (∀ f, f ≠ 10 → f ≠ 11 → σ' f = σ f) ∧ mSz σ' (nup w x0 (E.take 20).length) ∧ mS σ' (nup w x0 (E.take 20).length) x0 = E.take 20 ∧ ∀ y, y < 10 → y ≠ x0 → mS σ' (nup w x0 (E.take 20).length) y = mS σ w y) (mB D c1 c2 h ad A) A) 0 0 A := by
  refine mM_of (by decide) rfl (Nat.le_of_ble_eq_true rfl) ?_
  intro p e s m args below meth c ls X hr hlocks I hl
  have hl : lv_has ls 4 [(0, .ref h), (1, .int (nI x0))] := hl
  have hx := X.1
  have hb := X.2.1
  have hlen := mM_len E
  obtain ⟨n0, hn0⟩ : ∃ n0, (E.take 20).length = n0 := ⟨_, rfl⟩
  have hc : σ 13 0 = nI n0 := by rw [← hn0]; exact hM.1
  rw [hn0] at hlen
  obtain ⟨z1, z2⟩ := hz x0 h0
  have loop : ∀ (g : Int32), vB g (w x0 < n0) → narrow .boolean (.int g) = .int g → ∀ (f k : Nat) (σ1 : KS), n0 - k < f → k ≤ n0 → (∀ f, f ≠ 11 → σ1 f = σ f) → (∀ j, j < k → σ1 11 (20 * x0 + j) = σ 12 j) → (∀ j, (j < 20 * x0 ∨ 20 * x0 + 20 ≤ j) → σ1 11 j = σ 11 j) → ∀ (H : Heap) (locs : List Loc), mI D c1 c2 h ad A s.heap σ1 H locs → ∀ ls : Array Slot, lv_has ls 4 [(3, .int (nI k)), (2, .int g), (0, .ref h), (1, .int (nI x0))] → W p l e ({ frames := 0, cells := 0, slots := 0, locals := 0 } : Room) s m args below meth c H locs 0 0 (MQ below (va_Qi (fun (r : Int32) (σ' : KS) => vB r (w x0 < (E.take 20).length) ∧ (∀ f, f ≠ 10 → f ≠ 11 → σ' f = σ f) ∧ mSz σ' (nup w x0 (E.take 20).length) ∧ mS σ' (nup w x0 (E.take 20).length) x0 = E.take 20 ∧ ∀ y, y < 10 → y ≠ x0 → mS σ' (nup w x0 (E.take 20).length) y = mS σ w y) (mB D c1 c2 h ad A) A) args s 0 0 A) (F0 m 21 ls []) := by
    intro g hg hgn f
    induction f with
    | zero =>
      intro k σ1 q1
      exact absurd q1 (by omega)
    | succ f ih =>
      intro k σ1 hf hk hF h1 h2 H locs I ls hl
      have e13 : σ1 13 0 = nI n0 := by rw [hF 13 (by decide)]; exact hc
      refine lv_iload_n hx hb dX2_store_21 rfl (lv_at hl 0 rfl) ?_
      refine mf_count X I (v := nI n0) e13 (lv_at hl 2 rfl) dX2_store_22 dX2_store_23 ?_
      refine lv_icmp_ge (tgt := 52) hx hb dX2_store_26 (by decide) (fun b1 => ?_) (fun b1 => ?_)
      · have b1 : n0 ≤ k := (nI_leI (a := n0) (b := k) (by omega) (by omega)).mp b1
        refine mf_size X I (lv_at hl 2 rfl) dX2_store_52 dX2_store_53 ?_
        refine lv_iload_n hx hb dX2_store_56 rfl (lv_at hl 3 rfl) ?_
        refine mf_count X I (v := nI n0) e13 (lv_at hl 2 rfl) dX2_store_57 dX2_store_58 ?_
        refine ms_size X I x0 rfl (by omega) dX2_store_61 (fun H locs I => ?_)
        refine lv_iload_n hx hb dX2_store_62 rfl (lv_at hl 1 rfl) ?_
        have hst := mS_store (τ' := (su σ1 10 x0 (nI n0))) (w := w) h0 (fun y hy => (hz y hy).2) hM (fun k hk => h1 k (by omega)) h2
        rw [hn0] at hst
        refine m_zret X I hr hlocks hgn ⟨by rw [hn0]; exact hg, fun f q1 q2 => by rw [su_other q1, hF f q2], fun y hy => ?_, by rw [hn0]; exact hst.1, by rw [hn0]; exact hst.2⟩ dX2_store_63
        rw [hn0]
        by_cases e : y = x0
        · subst e
          rw [nup_at, su_at]
          exact ⟨rfl, hlen⟩
        · rw [nup_ne e, su_ne e, hF 10 (by decide)]
          exact hz y hy
      · have b1 : ¬ n0 ≤ k := fun q => b1 ((nI_leI (a := n0) (b := k) (by omega) (by omega)).mpr q)
        refine mf_ints X I (lv_at hl 2 rfl) dX2_store_29 dX2_store_30 ?_
        refine lv_bipush (v := nI 20) hx hb dX2_store_33 (by decide) ?_
        refine lv_iload_n hx hb dX2_store_35 rfl (lv_at hl 3 rfl) ?_
        refine lv_imul hx hb dX2_store_36 ?_
        refine kv_top (pk_mul _ _) ?_
        refine lv_iload_n hx hb dX2_store_37 rfl (lv_at hl 0 rfl) ?_
        refine lv_iadd hx hb dX2_store_38 ?_
        refine kv_top (nI_add _ _) ?_
        refine mf_made X I (lv_at hl 2 rfl) dX2_store_39 dX2_store_40 ?_
        refine lv_iload_n hx hb dX2_store_43 rfl (lv_at hl 0 rfl) ?_
        refine ml_made X I k rfl (by omega) (v := σ 12 k) (by rw [hF 12 (by decide)]) dX2_store_44 ?_
        refine ms_ints X I ((20 * x0) + k) rfl (by omega) dX2_store_45 (fun H locs I => ?_)
        refine lv_iinc (v := nI (k + 1)) (lv' := [(3, .int (nI (k + 1))), (2, .int g), (0, .ref h), (1, .int (nI x0))]) hx hb dX2_store_46 hl (k := 0) rfl (nI_1 k) (by decide) rfl (fun ls hl => ?_)
        refine lv_goto (tgt := 21) hx hb dX2_store_49 (by decide) ?_
        exact ih (k + 1) (su σ1 11 ((20 * x0) + k) (σ 12 k)) (by omega) (by omega) (fun f q => by rw [su_other q, hF f q]) (fun j hj => by
          rcases Nat.lt_succ_iff_lt_or_eq.mp hj with y | y
          · rw [su_ne (by omega)]
            exact h1 j y
          · subst y
            exact su_at _ _ _ _) (fun j hj => by
          rw [su_ne (by omega)]
          exact h2 j hj) H locs I ls (lv_sub hl [0, 1, 2, 3] rfl)
  refine mf_count X I (v := nI n0) hc (lv_at hl 0 rfl) dX2_store_0 dX2_store_1 ?_
  refine mf_size X I (lv_at hl 0 rfl) dX2_store_4 dX2_store_5 ?_
  refine lv_iload_n hx hb dX2_store_8 rfl (lv_at hl 1 rfl) ?_
  refine ml_size X I x0 rfl (by omega) (v := nI (w x0)) z1 dX2_store_9 ?_
  refine lv_icmp_le (tgt := 17) hx hb dX2_store_10 (by decide) (fun b1 => ?_) (fun b1 => ?_)
  · have b1 : n0 ≤ (w x0) := (nI_leI (a := n0) (b := (w x0)) (by omega) (by omega)).mp b1
    refine lv_iconst (v := nI 0) hx hb dX2_store_17 (by decide) ?_
    refine lv_istore_n (lv' := [(2, .int (nI 0)), (0, .ref h), (1, .int (nI x0))]) hx hb dX2_store_18 rfl hl (by decide) rfl (fun ls hl => ?_)
    refine lv_iconst (v := nI 0) hx hb dX2_store_19 (by decide) ?_
    refine lv_istore_n (lv' := [(3, .int (nI 0)), (2, .int (nI 0)), (0, .ref h), (1, .int (nI x0))]) hx hb dX2_store_20 rfl hl (by decide) rfl (fun ls hl => ?_)
    exact loop (nI 0) (vB_0 (by omega)) rfl (n0 + 1) 0 σ (by omega) (by omega) (fun _ _ => rfl) (fun j hj => absurd hj (by omega)) (fun _ _ => rfl) _ _ I ls hl
  · have b1 : ¬ n0 ≤ (w x0) := fun q => b1 ((nI_leI (a := n0) (b := (w x0)) (by omega) (by omega)).mpr q)
    refine lv_iconst (v := nI 1) hx hb dX2_store_13 (by decide) ?_
    refine lv_goto (tgt := 18) hx hb dX2_store_14 (by decide) ?_
    refine lv_istore_n (lv' := [(2, .int (nI 1)), (0, .ref h), (1, .int (nI x0))]) hx hb dX2_store_18 rfl hl (by decide) rfl (fun ls hl => ?_)
    refine lv_iconst (v := nI 0) hx hb dX2_store_19 (by decide) ?_
    refine lv_istore_n (lv' := [(3, .int (nI 0)), (2, .int (nI 1)), (0, .ref h), (1, .int (nI x0))]) hx hb dX2_store_20 rfl hl (by decide) rfl (fun ls hl => ?_)
    exact loop (nI 1) (vB_1 (by omega)) rfl (n0 + 1) 0 σ (by omega) (by omega) (fun _ _ => rfl) (fun j hj => absurd hj (by omega)) (fun _ _ => rfl) _ _ I ls hl
end
section
set_option maxHeartbeats 4000000 in
set_option maxRecDepth 100000 in
theorem metX2_work (l : Launch) (D : va_G) (c1 c2 : ClassId) (h : Nat) (ad : Nat → Nat) (A : Nat → Prop) (σ : KS) (N : Net) (w : Nat → Nat) (hN : mNet N σ) (hz : mSz σ w) (i : Nat) (hi : i < N.1) :
    Met l yX2_work (ws_ yX2_work cX2_work 8 none) ({ frames := 2, cells := 0, slots := 0, locals := 49 } : Room) (mP D c1 c2 h ad A σ [.int (nI i)]) (va_Qv (fun (σ' : KS) => (∀ f, f ≠ 12 → f ≠ 13 → σ' f = σ f) ∧ mM σ' (pl_out N i (mS σ w))) (mB D c1 c2 h ad A) A) 0 0 A := by
  refine mM_of (by decide) rfl (Nat.le_of_ble_eq_true rfl) ?_
  intro p e s m args below meth c ls X hr hlocks I hl
  have hl : lv_has ls 8 [(0, .ref h), (1, .int (nI i))] := hl
  have hx := X.1
  have hb := X.2.1
  obtain ⟨hOk, hn, hp, -⟩ := id hN
  obtain ⟨f1, f2, f3, f4, f5, f6, f7⟩ := hp i hi
  obtain ⟨g1, g2, g3, g4, g5, g6, g7, g8⟩ := hOk.2.1 i hi
  have hn8 := hOk.1
  obtain ⟨za1, za2⟩ := hz (na N i) g2
  have loop : nk N i ≠ 0 → nk N i ≠ 5 → ∀ (f k : Nat) (E : List Int32) (sm : Int32) (σ1 : KS), w (na N i) - k < f → k ≤ w (na N i) → (∀ f, f ≠ 12 → f ≠ 13 → σ1 f = σ f) → mM σ1 E → mWk N i k σ w sm E → ∀ (H : Heap) (locs : List Loc), mI D c1 c2 h ad A s.heap σ1 H locs → ∀ ls : Array Slot, lv_has ls 8 [(4, .int (nI k)), (3, .int sm), (2, .int (nI (na N i))), (0, .ref h), (1, .int (nI i))] → W p l e ({ frames := 2, cells := 0, slots := 0, locals := 49 } : Room) s m args below meth c H locs 0 0 (MQ below (va_Qv (fun (σ' : KS) => (∀ f, f ≠ 12 → f ≠ 13 → σ' f = σ f) ∧ mM σ' (pl_out N i (mS σ w))) (mB D c1 c2 h ad A) A) args s 0 0 A) (F0 m 107 ls []) := by
    intro k0 k5 f
    have g6 := g6 k0
    obtain ⟨zb1, zb2⟩ := hz (nb N i) g6
    have hkk : nk N i = 1 ∨ nk N i = 2 ∨ nk N i = 3 ∨ nk N i = 4 ∨ nk N i = 6 ∨ nk N i = 7 := by omega
    induction f with
    | zero =>
      intro k E sm σ1 q1
      exact absurd q1 (by omega)
    | succ f ih =>
      intro k E sm σ1 hf hk hF hM hW H locs I ls hl
      have e1 : σ1 1 i = nI (nk N i) := by rw [hF 1 (by decide) (by decide)]; exact f1
      have e3 : σ1 3 i = nI (nb N i) := by rw [hF 3 (by decide) (by decide)]; exact f3
      have e6 : σ1 6 i = nP N i := by rw [hF 6 (by decide) (by decide)]; exact f6
      have e10 : σ1 10 = σ 10 := hF 10 (by decide) (by decide)
      have e11 : σ1 11 = σ 11 := hF 11 (by decide) (by decide)
      refine mf_kind X I (lv_at hl 3 rfl) dX2_work_107 dX2_work_108 ?_
      refine lv_iload_n hx hb dX2_work_111 rfl (lv_at hl 4 rfl) ?_
      refine ml_kind X I i rfl (by omega) (v := nI (nk N i)) e1 dX2_work_112 ?_
      refine lv_if_eq (tgt := 318) hx hb dX2_work_113 (by decide) (fun b1 => ?_) (fun b1 => ?_)
      · have b1 : (nk N i) = 0 := (nI_eq (a := (nk N i)) (b := 0) (by omega) (by omega)).mp b1
        exact absurd b1 k0
      · have b1 : ¬ (nk N i) = 0 := fun q => b1 ((nI_eq (a := (nk N i)) (b := 0) (by omega) (by omega)).mpr q)
        refine mf_kind X I (lv_at hl 3 rfl) dX2_work_116 dX2_work_117 ?_
        refine lv_iload_n hx hb dX2_work_120 rfl (lv_at hl 4 rfl) ?_
        refine ml_kind X I i rfl (by omega) (v := nI (nk N i)) e1 dX2_work_121 ?_
        refine lv_iconst (v := nI 5) hx hb dX2_work_122 (by decide) ?_
        refine lv_icmp_eq (tgt := 318) hx hb dX2_work_123 (by decide) (fun b2 => ?_) (fun b2 => ?_)
        · have b2 : (nk N i) = 5 := (nI_eq (a := (nk N i)) (b := 5) (by omega) (by omega)).mp b2
          exact absurd b2 k5
        · have b2 : ¬ (nk N i) = 5 := fun q => b2 ((nI_eq (a := (nk N i)) (b := 5) (by omega) (by omega)).mpr q)
          refine lv_iload hx hb dX2_work_126 (lv_at hl 0 rfl) ?_
          refine mf_size X I (lv_at hl 3 rfl) dX2_work_128 dX2_work_129 ?_
          refine lv_iload_n hx hb dX2_work_132 rfl (lv_at hl 2 rfl) ?_
          refine ml_size X I (na N i) rfl (by omega) (v := nI (w (na N i))) (by rw [e10]; exact za1) dX2_work_133 ?_
          refine lv_icmp_ge (tgt := 318) hx hb dX2_work_134 (by decide) (fun b3 => ?_) (fun b3 => ?_)
          · have b3 : (w (na N i)) ≤ k := (nI_leI (a := (w (na N i))) (b := k) (by omega) (by omega)).mp b3
            exact m_vret X I hr hlocks ⟨hF, by rw [mWk_done hW g1 k0 k5 b3]; exact hM⟩ dX2_work_318
          · have b3 : ¬ (w (na N i)) ≤ k := fun q => b3 ((nI_leI (a := (w (na N i))) (b := k) (by omega) (by omega)).mpr q)
            have hkw : k < w (na N i) := by omega
            refine lv_aload_n hx hb dX2_work_137 rfl (lv_at hl 3 rfl) ?_
            refine lv_iload_n hx hb dX2_work_138 rfl (lv_at hl 2 rfl) ?_
            refine lv_iload hx hb dX2_work_139 (lv_at hl 0 rfl) ?_
            refine m_calli X I (rest := []) (metX2_get l D c1 c2 h ad A σ1 (na N i) k g2 (by omega)) (cwX2_get X.2.2.2.2.1 rfl rfl ⟨Nat.le_of_ble_eq_true rfl, Nat.le_of_ble_eq_true rfl⟩) rfl hl.1 rfl (Nat.le_of_ble_eq_true rfl) ⟨Nat.zero_le _, Nat.zero_le _⟩ dX2_work_141 (fun v σ2 H locs hv I => ?_)
            obtain ⟨hs, hv⟩ := hv
            rw [hs] at I
            rw [e11] at hv
            refine lv_istore (lv' := [(5, .int v), (4, .int (nI k)), (3, .int sm), (2, .int (nI (na N i))), (0, .ref h), (1, .int (nI i))]) hx hb dX2_work_144 hl (by decide) rfl (fun ls hl => ?_)
            refine lv_aload_n hx hb dX2_work_146 rfl (lv_at hl 4 rfl) ?_
            refine mf_b X I (lv_at hl 4 rfl) dX2_work_147 dX2_work_148 ?_
            refine lv_iload_n hx hb dX2_work_151 rfl (lv_at hl 5 rfl) ?_
            refine ml_b X I i rfl (by omega) (v := nI (nb N i)) e3 dX2_work_152 ?_
            refine lv_iload hx hb dX2_work_153 (lv_at hl 1 rfl) ?_
            refine m_calli X I (rest := []) (metX2_get l D c1 c2 h ad A σ1 (nb N i) k g6 (by omega)) (cwX2_get X.2.2.2.2.1 rfl rfl ⟨Nat.le_of_ble_eq_true rfl, Nat.le_of_ble_eq_true rfl⟩) rfl hl.1 rfl (Nat.le_of_ble_eq_true rfl) ⟨Nat.zero_le _, Nat.zero_le _⟩ dX2_work_155 (fun ot σ2 H locs hot I => ?_)
            obtain ⟨hs, hot⟩ := hot
            rw [hs] at I
            rw [e11] at hot
            refine lv_istore (lv' := [(6, .int ot), (5, .int v), (4, .int (nI k)), (3, .int sm), (2, .int (nI (na N i))), (0, .ref h), (1, .int (nI i))]) hx hb dX2_work_158 hl (by decide) rfl (fun ls hl => ?_)
            have cont : ∀ (fm : Int32), (0 < k → fm = σ 11 (20 * na N i + (k - 1))) → ∀ (H : Heap) (locs : List Loc), mI D c1 c2 h ad A s.heap σ1 H locs → ∀ ls : Array Slot, lv_has ls 8 [(6, .int ot), (5, .int v), (4, .int (nI k)), (3, .int sm), (2, .int (nI (na N i))), (0, .ref h), (1, .int (nI i))] → W p l e ({ frames := 2, cells := 0, slots := 0, locals := 49 } : Room) s m args below meth c H locs 0 0 (MQ below (va_Qv (fun (σ' : KS) => (∀ f, f ≠ 12 → f ≠ 13 → σ' f = σ f) ∧ mM σ' (pl_out N i (mS σ w))) (mB D c1 c2 h ad A) A) args s 0 0 A) (F0 m 178 ls [.int fm]) := by
              intro fm hfm H locs I ls hl
              refine lv_istore (lv' := [(7, .int fm), (6, .int ot), (5, .int v), (4, .int (nI k)), (3, .int sm), (2, .int (nI (na N i))), (0, .ref h), (1, .int (nI i))]) hx hb dX2_work_178 hl (by decide) rfl (fun ls hl => ?_)
              refine lv_iload_n hx hb dX2_work_180 rfl (lv_at hl 4 rfl) ?_
              refine lv_iload hx hb dX2_work_181 (lv_at hl 2 rfl) ?_
              refine lv_iadd hx hb dX2_work_183 ?_
              refine lv_istore_n (lv' := [(3, .int (sm + v)), (7, .int fm), (6, .int ot), (5, .int v), (4, .int (nI k)), (2, .int (nI (na N i))), (0, .ref h), (1, .int (nI i))]) hx hb dX2_work_184 rfl hl (by decide) rfl (fun ls hl => ?_)
              rcases hkk with q | q | q | q | q | q
              · refine mf_kind X I (lv_at hl 6 rfl) dX2_work_185 dX2_work_186 ?_
                refine lv_iload_n hx hb dX2_work_189 rfl (lv_at hl 7 rfl) ?_
                refine ml_kind X I i rfl (by omega) (v := nI (nk N i)) e1 dX2_work_190 ?_
                refine lv_iconst (v := nI 1) hx hb dX2_work_191 (by decide) ?_
                refine lv_icmp_eq (tgt := 227) hx hb dX2_work_192 (by decide) (fun y0 => ?_) (fun y0 => ?_)
                · have y0 : (nk N i) = 1 := (nI_eq (a := (nk N i)) (b := 1) (by omega) (by omega)).mp y0
                  refine lv_aload_n hx hb dX2_work_227 rfl (lv_at hl 6 rfl) ?_
                  refine lv_iload hx hb dX2_work_228 (lv_at hl 3 rfl) ?_
                  refine m_callv X I (rest := []) (metX2_write l D c1 c2 h ad A σ1 E v hM) (cwX2_write X.2.2.2.2.1 rfl rfl ⟨Nat.le_of_ble_eq_true rfl, Nat.le_of_ble_eq_true rfl⟩) rfl hl.1 rfl (Nat.le_of_ble_eq_true rfl) ⟨Nat.zero_le _, Nat.zero_le _⟩ dX2_work_230 (fun σ2 H locs hw I => ?_)
                  obtain ⟨hFw, hM2⟩ := hw
                  have hF2 : (∀ f, f ≠ 12 → f ≠ 13 → σ2 f = σ f) := fun f q1 q2 => (hFw f q1 q2).trans (hF f q1 q2)
                  have hF := hF2
                  have d1 : σ2 1 i = nI (nk N i) := by rw [hF 1 (by decide) (by decide)]; exact f1
                  have d3 : σ2 3 i = nI (nb N i) := by rw [hF 3 (by decide) (by decide)]; exact f3
                  have d6 : σ2 6 i = nP N i := by rw [hF 6 (by decide) (by decide)]; exact f6
                  have d10 : σ2 10 = σ 10 := hF 10 (by decide) (by decide)
                  have d11 : σ2 11 = σ 11 := hF 11 (by decide) (by decide)
                  refine mf_kind X I (lv_at hl 6 rfl) dX2_work_233 dX2_work_234 ?_
                  refine lv_iload_n hx hb dX2_work_237 rfl (lv_at hl 7 rfl) ?_
                  refine ml_kind X I i rfl (by omega) (v := nI (nk N i)) d1 dX2_work_238 ?_
                  refine lv_bipush (v := nI 6) hx hb dX2_work_239 (by decide) ?_
                  refine lv_icmp_ne (tgt := 249) hx hb dX2_work_241 (by decide) (fun y0 => ?_) (fun y0 => ?_)
                  · have y0 : ¬ (nk N i) = 6 := fun q => y0 ((nI_eq (a := (nk N i)) (b := 6) (by omega) (by omega)).mpr q)
                    refine mf_kind X I (lv_at hl 6 rfl) dX2_work_249 dX2_work_250 ?_
                    refine lv_iload_n hx hb dX2_work_253 rfl (lv_at hl 7 rfl) ?_
                    refine ml_kind X I i rfl (by omega) (v := nI (nk N i)) d1 dX2_work_254 ?_
                    refine lv_iconst (v := nI 2) hx hb dX2_work_255 (by decide) ?_
                    refine lv_icmp_ne (tgt := 284) hx hb dX2_work_256 (by decide) (fun y0 => ?_) (fun y0 => ?_)
                    · have y0 : ¬ (nk N i) = 2 := fun q => y0 ((nI_eq (a := (nk N i)) (b := 2) (by omega) (by omega)).mpr q)
                      refine mf_kind X I (lv_at hl 6 rfl) dX2_work_284 dX2_work_285 ?_
                      refine lv_iload_n hx hb dX2_work_288 rfl (lv_at hl 7 rfl) ?_
                      refine ml_kind X I i rfl (by omega) (v := nI (nk N i)) d1 dX2_work_289 ?_
                      refine lv_bipush (v := nI 7) hx hb dX2_work_290 (by decide) ?_
                      refine lv_icmp_ne (tgt := 312) hx hb dX2_work_292 (by decide) (fun y0 => ?_) (fun y0 => ?_)
                      · have y0 : ¬ (nk N i) = 7 := fun q => y0 ((nI_eq (a := (nk N i)) (b := 7) (by omega) (by omega)).mpr q)
                        refine lv_iinc (v := nI (k + 1)) (lv' := [(4, .int (nI (k + 1))), (3, .int (sm + v)), (7, .int fm), (6, .int ot), (5, .int v), (2, .int (nI (na N i))), (0, .ref h), (1, .int (nI i))]) hx hb dX2_work_312 hl (k := 4) rfl (nI_1 k) (by decide) rfl (fun ls hl => ?_)
                        refine lv_goto (tgt := 107) hx hb dX2_work_315 (by decide) ?_
                        exact ih (k + 1) (E ++ [v]) (sm + v) σ2 (by omega) (by omega) hF2 hM2 (by rw [hv]; exact mWk_1 hW g2 hkw q) H locs I ls (lv_sub hl [0, 1, 5, 6, 7] rfl)
                      · have y0 : (nk N i) = 7 := (nI_eq (a := (nk N i)) (b := 7) (by omega) (by omega)).mp y0
                        exfalso
                        omega
                    · have y0 : (nk N i) = 2 := (nI_eq (a := (nk N i)) (b := 2) (by omega) (by omega)).mp y0
                      exfalso
                      omega
                  · have y0 : (nk N i) = 6 := (nI_eq (a := (nk N i)) (b := 6) (by omega) (by omega)).mp y0
                    exfalso
                    omega
                · have y0 : ¬ (nk N i) = 1 := fun q => y0 ((nI_eq (a := (nk N i)) (b := 1) (by omega) (by omega)).mpr q)
                  exfalso
                  omega
              · refine mf_kind X I (lv_at hl 6 rfl) dX2_work_185 dX2_work_186 ?_
                refine lv_iload_n hx hb dX2_work_189 rfl (lv_at hl 7 rfl) ?_
                refine ml_kind X I i rfl (by omega) (v := nI (nk N i)) e1 dX2_work_190 ?_
                refine lv_iconst (v := nI 1) hx hb dX2_work_191 (by decide) ?_
                refine lv_icmp_eq (tgt := 227) hx hb dX2_work_192 (by decide) (fun y0 => ?_) (fun y0 => ?_)
                · have y0 : (nk N i) = 1 := (nI_eq (a := (nk N i)) (b := 1) (by omega) (by omega)).mp y0
                  exfalso
                  omega
                · have y0 : ¬ (nk N i) = 1 := fun q => y0 ((nI_eq (a := (nk N i)) (b := 1) (by omega) (by omega)).mpr q)
                  refine mf_kind X I (lv_at hl 6 rfl) dX2_work_195 dX2_work_196 ?_
                  refine lv_iload_n hx hb dX2_work_199 rfl (lv_at hl 7 rfl) ?_
                  refine ml_kind X I i rfl (by omega) (v := nI (nk N i)) e1 dX2_work_200 ?_
                  refine lv_iconst (v := nI 3) hx hb dX2_work_201 (by decide) ?_
                  refine lv_icmp_eq (tgt := 227) hx hb dX2_work_202 (by decide) (fun y0 => ?_) (fun y0 => ?_)
                  · have y0 : (nk N i) = 3 := (nI_eq (a := (nk N i)) (b := 3) (by omega) (by omega)).mp y0
                    exfalso
                    omega
                  · have y0 : ¬ (nk N i) = 3 := fun q => y0 ((nI_eq (a := (nk N i)) (b := 3) (by omega) (by omega)).mpr q)
                    refine mf_kind X I (lv_at hl 6 rfl) dX2_work_205 dX2_work_206 ?_
                    refine lv_iload_n hx hb dX2_work_209 rfl (lv_at hl 7 rfl) ?_
                    refine ml_kind X I i rfl (by omega) (v := nI (nk N i)) e1 dX2_work_210 ?_
                    refine lv_iconst (v := nI 4) hx hb dX2_work_211 (by decide) ?_
                    refine lv_icmp_ne (tgt := 233) hx hb dX2_work_212 (by decide) (fun y0 => ?_) (fun y0 => ?_)
                    · have y0 : ¬ (nk N i) = 4 := fun q => y0 ((nI_eq (a := (nk N i)) (b := 4) (by omega) (by omega)).mpr q)
                      refine mf_kind X I (lv_at hl 6 rfl) dX2_work_233 dX2_work_234 ?_
                      refine lv_iload_n hx hb dX2_work_237 rfl (lv_at hl 7 rfl) ?_
                      refine ml_kind X I i rfl (by omega) (v := nI (nk N i)) e1 dX2_work_238 ?_
                      refine lv_bipush (v := nI 6) hx hb dX2_work_239 (by decide) ?_
                      refine lv_icmp_ne (tgt := 249) hx hb dX2_work_241 (by decide) (fun y0 => ?_) (fun y0 => ?_)
                      · have y0 : ¬ (nk N i) = 6 := fun q => y0 ((nI_eq (a := (nk N i)) (b := 6) (by omega) (by omega)).mpr q)
                        refine mf_kind X I (lv_at hl 6 rfl) dX2_work_249 dX2_work_250 ?_
                        refine lv_iload_n hx hb dX2_work_253 rfl (lv_at hl 7 rfl) ?_
                        refine ml_kind X I i rfl (by omega) (v := nI (nk N i)) e1 dX2_work_254 ?_
                        refine lv_iconst (v := nI 2) hx hb dX2_work_255 (by decide) ?_
                        refine lv_icmp_ne (tgt := 284) hx hb dX2_work_256 (by decide) (fun y0 => ?_) (fun y0 => ?_)
                        · have y0 : ¬ (nk N i) = 2 := fun q => y0 ((nI_eq (a := (nk N i)) (b := 2) (by omega) (by omega)).mpr q)
                          exfalso
                          omega
                        · have y0 : (nk N i) = 2 := (nI_eq (a := (nk N i)) (b := 2) (by omega) (by omega)).mp y0
                          refine lv_iload hx hb dX2_work_259 (lv_at hl 4 rfl) ?_
                          refine mf_size X I (lv_at hl 6 rfl) dX2_work_261 dX2_work_262 ?_
                          refine mf_b X I (lv_at hl 6 rfl) dX2_work_265 dX2_work_266 ?_
                          refine lv_iload_n hx hb dX2_work_269 rfl (lv_at hl 7 rfl) ?_
                          refine ml_b X I i rfl (by omega) (v := nI (nb N i)) e3 dX2_work_270 ?_
                          refine ml_size X I (nb N i) rfl (by omega) (v := nI (w (nb N i))) (by rw [e10]; exact zb1) dX2_work_271 ?_
                          refine lv_icmp_ge (tgt := 284) hx hb dX2_work_272 (by decide) (fun y2 => ?_) (fun y2 => ?_)
                          · have y2 : (w (nb N i)) ≤ k := (nI_leI (a := (w (nb N i))) (b := k) (by omega) (by omega)).mp y2
                            refine mf_kind X I (lv_at hl 6 rfl) dX2_work_284 dX2_work_285 ?_
                            refine lv_iload_n hx hb dX2_work_288 rfl (lv_at hl 7 rfl) ?_
                            refine ml_kind X I i rfl (by omega) (v := nI (nk N i)) e1 dX2_work_289 ?_
                            refine lv_bipush (v := nI 7) hx hb dX2_work_290 (by decide) ?_
                            refine lv_icmp_ne (tgt := 312) hx hb dX2_work_292 (by decide) (fun y0 => ?_) (fun y0 => ?_)
                            · have y0 : ¬ (nk N i) = 7 := fun q => y0 ((nI_eq (a := (nk N i)) (b := 7) (by omega) (by omega)).mpr q)
                              refine lv_iinc (v := nI (k + 1)) (lv' := [(4, .int (nI (k + 1))), (3, .int (sm + v)), (7, .int fm), (6, .int ot), (5, .int v), (2, .int (nI (na N i))), (0, .ref h), (1, .int (nI i))]) hx hb dX2_work_312 hl (k := 4) rfl (nI_1 k) (by decide) rfl (fun ls hl => ?_)
                              refine lv_goto (tgt := 107) hx hb dX2_work_315 (by decide) ?_
                              exact ih (k + 1) E (sm + v) σ1 (by omega) (by omega) hF hM (by exact mWk_2n hW (by omega) q) H locs I ls (lv_sub hl [0, 1, 5, 6, 7] rfl)
                            · have y0 : (nk N i) = 7 := (nI_eq (a := (nk N i)) (b := 7) (by omega) (by omega)).mp y0
                              exfalso
                              omega
                          · have y2 : ¬ (w (nb N i)) ≤ k := fun q => y2 ((nI_leI (a := (w (nb N i))) (b := k) (by omega) (by omega)).mpr q)
                            refine lv_aload_n hx hb dX2_work_275 rfl (lv_at hl 6 rfl) ?_
                            refine lv_iload hx hb dX2_work_276 (lv_at hl 3 rfl) ?_
                            refine lv_iload hx hb dX2_work_278 (lv_at hl 2 rfl) ?_
                            refine lv_iadd hx hb dX2_work_280 ?_
                            refine m_callv X I (rest := []) (metX2_write l D c1 c2 h ad A σ1 E (v + ot) hM) (cwX2_write X.2.2.2.2.1 rfl rfl ⟨Nat.le_of_ble_eq_true rfl, Nat.le_of_ble_eq_true rfl⟩) rfl hl.1 rfl (Nat.le_of_ble_eq_true rfl) ⟨Nat.zero_le _, Nat.zero_le _⟩ dX2_work_281 (fun σ2 H locs hw I => ?_)
                            obtain ⟨hFw, hM2⟩ := hw
                            have hF2 : (∀ f, f ≠ 12 → f ≠ 13 → σ2 f = σ f) := fun f q1 q2 => (hFw f q1 q2).trans (hF f q1 q2)
                            have hF := hF2
                            have d1 : σ2 1 i = nI (nk N i) := by rw [hF 1 (by decide) (by decide)]; exact f1
                            have d3 : σ2 3 i = nI (nb N i) := by rw [hF 3 (by decide) (by decide)]; exact f3
                            have d6 : σ2 6 i = nP N i := by rw [hF 6 (by decide) (by decide)]; exact f6
                            have d10 : σ2 10 = σ 10 := hF 10 (by decide) (by decide)
                            have d11 : σ2 11 = σ 11 := hF 11 (by decide) (by decide)
                            refine mf_kind X I (lv_at hl 6 rfl) dX2_work_284 dX2_work_285 ?_
                            refine lv_iload_n hx hb dX2_work_288 rfl (lv_at hl 7 rfl) ?_
                            refine ml_kind X I i rfl (by omega) (v := nI (nk N i)) d1 dX2_work_289 ?_
                            refine lv_bipush (v := nI 7) hx hb dX2_work_290 (by decide) ?_
                            refine lv_icmp_ne (tgt := 312) hx hb dX2_work_292 (by decide) (fun y0 => ?_) (fun y0 => ?_)
                            · have y0 : ¬ (nk N i) = 7 := fun q => y0 ((nI_eq (a := (nk N i)) (b := 7) (by omega) (by omega)).mpr q)
                              refine lv_iinc (v := nI (k + 1)) (lv' := [(4, .int (nI (k + 1))), (3, .int (sm + v)), (7, .int fm), (6, .int ot), (5, .int v), (2, .int (nI (na N i))), (0, .ref h), (1, .int (nI i))]) hx hb dX2_work_312 hl (k := 4) rfl (nI_1 k) (by decide) rfl (fun ls hl => ?_)
                              refine lv_goto (tgt := 107) hx hb dX2_work_315 (by decide) ?_
                              exact ih (k + 1) (E ++ [v + ot]) (sm + v) σ2 (by omega) (by omega) hF2 hM2 (by rw [hv, hot]; exact mWk_2y hW g2 g6 hkw (by omega) q) H locs I ls (lv_sub hl [0, 1, 5, 6, 7] rfl)
                            · have y0 : (nk N i) = 7 := (nI_eq (a := (nk N i)) (b := 7) (by omega) (by omega)).mp y0
                              exfalso
                              omega
                      · have y0 : (nk N i) = 6 := (nI_eq (a := (nk N i)) (b := 6) (by omega) (by omega)).mp y0
                        exfalso
                        omega
                    · have y0 : (nk N i) = 4 := (nI_eq (a := (nk N i)) (b := 4) (by omega) (by omega)).mp y0
                      exfalso
                      omega
              · refine mf_kind X I (lv_at hl 6 rfl) dX2_work_185 dX2_work_186 ?_
                refine lv_iload_n hx hb dX2_work_189 rfl (lv_at hl 7 rfl) ?_
                refine ml_kind X I i rfl (by omega) (v := nI (nk N i)) e1 dX2_work_190 ?_
                refine lv_iconst (v := nI 1) hx hb dX2_work_191 (by decide) ?_
                refine lv_icmp_eq (tgt := 227) hx hb dX2_work_192 (by decide) (fun y0 => ?_) (fun y0 => ?_)
                · have y0 : (nk N i) = 1 := (nI_eq (a := (nk N i)) (b := 1) (by omega) (by omega)).mp y0
                  exfalso
                  omega
                · have y0 : ¬ (nk N i) = 1 := fun q => y0 ((nI_eq (a := (nk N i)) (b := 1) (by omega) (by omega)).mpr q)
                  refine mf_kind X I (lv_at hl 6 rfl) dX2_work_195 dX2_work_196 ?_
                  refine lv_iload_n hx hb dX2_work_199 rfl (lv_at hl 7 rfl) ?_
                  refine ml_kind X I i rfl (by omega) (v := nI (nk N i)) e1 dX2_work_200 ?_
                  refine lv_iconst (v := nI 3) hx hb dX2_work_201 (by decide) ?_
                  refine lv_icmp_eq (tgt := 227) hx hb dX2_work_202 (by decide) (fun y0 => ?_) (fun y0 => ?_)
                  · have y0 : (nk N i) = 3 := (nI_eq (a := (nk N i)) (b := 3) (by omega) (by omega)).mp y0
                    refine lv_aload_n hx hb dX2_work_227 rfl (lv_at hl 6 rfl) ?_
                    refine lv_iload hx hb dX2_work_228 (lv_at hl 3 rfl) ?_
                    refine m_callv X I (rest := []) (metX2_write l D c1 c2 h ad A σ1 E v hM) (cwX2_write X.2.2.2.2.1 rfl rfl ⟨Nat.le_of_ble_eq_true rfl, Nat.le_of_ble_eq_true rfl⟩) rfl hl.1 rfl (Nat.le_of_ble_eq_true rfl) ⟨Nat.zero_le _, Nat.zero_le _⟩ dX2_work_230 (fun σ2 H locs hw I => ?_)
                    obtain ⟨hFw, hM2⟩ := hw
                    have hF2 : (∀ f, f ≠ 12 → f ≠ 13 → σ2 f = σ f) := fun f q1 q2 => (hFw f q1 q2).trans (hF f q1 q2)
                    have hF := hF2
                    have d1 : σ2 1 i = nI (nk N i) := by rw [hF 1 (by decide) (by decide)]; exact f1
                    have d3 : σ2 3 i = nI (nb N i) := by rw [hF 3 (by decide) (by decide)]; exact f3
                    have d6 : σ2 6 i = nP N i := by rw [hF 6 (by decide) (by decide)]; exact f6
                    have d10 : σ2 10 = σ 10 := hF 10 (by decide) (by decide)
                    have d11 : σ2 11 = σ 11 := hF 11 (by decide) (by decide)
                    refine mf_kind X I (lv_at hl 6 rfl) dX2_work_233 dX2_work_234 ?_
                    refine lv_iload_n hx hb dX2_work_237 rfl (lv_at hl 7 rfl) ?_
                    refine ml_kind X I i rfl (by omega) (v := nI (nk N i)) d1 dX2_work_238 ?_
                    refine lv_bipush (v := nI 6) hx hb dX2_work_239 (by decide) ?_
                    refine lv_icmp_ne (tgt := 249) hx hb dX2_work_241 (by decide) (fun y0 => ?_) (fun y0 => ?_)
                    · have y0 : ¬ (nk N i) = 6 := fun q => y0 ((nI_eq (a := (nk N i)) (b := 6) (by omega) (by omega)).mpr q)
                      refine mf_kind X I (lv_at hl 6 rfl) dX2_work_249 dX2_work_250 ?_
                      refine lv_iload_n hx hb dX2_work_253 rfl (lv_at hl 7 rfl) ?_
                      refine ml_kind X I i rfl (by omega) (v := nI (nk N i)) d1 dX2_work_254 ?_
                      refine lv_iconst (v := nI 2) hx hb dX2_work_255 (by decide) ?_
                      refine lv_icmp_ne (tgt := 284) hx hb dX2_work_256 (by decide) (fun y0 => ?_) (fun y0 => ?_)
                      · have y0 : ¬ (nk N i) = 2 := fun q => y0 ((nI_eq (a := (nk N i)) (b := 2) (by omega) (by omega)).mpr q)
                        refine mf_kind X I (lv_at hl 6 rfl) dX2_work_284 dX2_work_285 ?_
                        refine lv_iload_n hx hb dX2_work_288 rfl (lv_at hl 7 rfl) ?_
                        refine ml_kind X I i rfl (by omega) (v := nI (nk N i)) d1 dX2_work_289 ?_
                        refine lv_bipush (v := nI 7) hx hb dX2_work_290 (by decide) ?_
                        refine lv_icmp_ne (tgt := 312) hx hb dX2_work_292 (by decide) (fun y0 => ?_) (fun y0 => ?_)
                        · have y0 : ¬ (nk N i) = 7 := fun q => y0 ((nI_eq (a := (nk N i)) (b := 7) (by omega) (by omega)).mpr q)
                          refine lv_iinc (v := nI (k + 1)) (lv' := [(4, .int (nI (k + 1))), (3, .int (sm + v)), (7, .int fm), (6, .int ot), (5, .int v), (2, .int (nI (na N i))), (0, .ref h), (1, .int (nI i))]) hx hb dX2_work_312 hl (k := 4) rfl (nI_1 k) (by decide) rfl (fun ls hl => ?_)
                          refine lv_goto (tgt := 107) hx hb dX2_work_315 (by decide) ?_
                          exact ih (k + 1) (E ++ [v]) (sm + v) σ2 (by omega) (by omega) hF2 hM2 (by rw [hv]; exact mWk_3 hW g2 hkw q) H locs I ls (lv_sub hl [0, 1, 5, 6, 7] rfl)
                        · have y0 : (nk N i) = 7 := (nI_eq (a := (nk N i)) (b := 7) (by omega) (by omega)).mp y0
                          exfalso
                          omega
                      · have y0 : (nk N i) = 2 := (nI_eq (a := (nk N i)) (b := 2) (by omega) (by omega)).mp y0
                        exfalso
                        omega
                    · have y0 : (nk N i) = 6 := (nI_eq (a := (nk N i)) (b := 6) (by omega) (by omega)).mp y0
                      exfalso
                      omega
                  · have y0 : ¬ (nk N i) = 3 := fun q => y0 ((nI_eq (a := (nk N i)) (b := 3) (by omega) (by omega)).mpr q)
                    exfalso
                    omega
              · refine mf_kind X I (lv_at hl 6 rfl) dX2_work_185 dX2_work_186 ?_
                refine lv_iload_n hx hb dX2_work_189 rfl (lv_at hl 7 rfl) ?_
                refine ml_kind X I i rfl (by omega) (v := nI (nk N i)) e1 dX2_work_190 ?_
                refine lv_iconst (v := nI 1) hx hb dX2_work_191 (by decide) ?_
                refine lv_icmp_eq (tgt := 227) hx hb dX2_work_192 (by decide) (fun y0 => ?_) (fun y0 => ?_)
                · have y0 : (nk N i) = 1 := (nI_eq (a := (nk N i)) (b := 1) (by omega) (by omega)).mp y0
                  exfalso
                  omega
                · have y0 : ¬ (nk N i) = 1 := fun q => y0 ((nI_eq (a := (nk N i)) (b := 1) (by omega) (by omega)).mpr q)
                  refine mf_kind X I (lv_at hl 6 rfl) dX2_work_195 dX2_work_196 ?_
                  refine lv_iload_n hx hb dX2_work_199 rfl (lv_at hl 7 rfl) ?_
                  refine ml_kind X I i rfl (by omega) (v := nI (nk N i)) e1 dX2_work_200 ?_
                  refine lv_iconst (v := nI 3) hx hb dX2_work_201 (by decide) ?_
                  refine lv_icmp_eq (tgt := 227) hx hb dX2_work_202 (by decide) (fun y0 => ?_) (fun y0 => ?_)
                  · have y0 : (nk N i) = 3 := (nI_eq (a := (nk N i)) (b := 3) (by omega) (by omega)).mp y0
                    exfalso
                    omega
                  · have y0 : ¬ (nk N i) = 3 := fun q => y0 ((nI_eq (a := (nk N i)) (b := 3) (by omega) (by omega)).mpr q)
                    refine mf_kind X I (lv_at hl 6 rfl) dX2_work_205 dX2_work_206 ?_
                    refine lv_iload_n hx hb dX2_work_209 rfl (lv_at hl 7 rfl) ?_
                    refine ml_kind X I i rfl (by omega) (v := nI (nk N i)) e1 dX2_work_210 ?_
                    refine lv_iconst (v := nI 4) hx hb dX2_work_211 (by decide) ?_
                    refine lv_icmp_ne (tgt := 233) hx hb dX2_work_212 (by decide) (fun y0 => ?_) (fun y0 => ?_)
                    · have y0 : ¬ (nk N i) = 4 := fun q => y0 ((nI_eq (a := (nk N i)) (b := 4) (by omega) (by omega)).mpr q)
                      exfalso
                      omega
                    · have y0 : (nk N i) = 4 := (nI_eq (a := (nk N i)) (b := 4) (by omega) (by omega)).mp y0
                      refine lv_iload hx hb dX2_work_215 (lv_at hl 3 rfl) ?_
                      refine mf_p X I (lv_at hl 6 rfl) dX2_work_217 dX2_work_218 ?_
                      refine lv_iload_n hx hb dX2_work_221 rfl (lv_at hl 7 rfl) ?_
                      refine ml_p X I i rfl (by omega) (v := nP N i) e6 dX2_work_222 ?_
                      refine lv_iand hx hb dX2_work_223 ?_
                      refine lv_if_ne (tgt := 233) hx hb dX2_work_224 (by decide) (fun y4 => ?_) (fun y4 => ?_)
                      · refine mf_kind X I (lv_at hl 6 rfl) dX2_work_233 dX2_work_234 ?_
                        refine lv_iload_n hx hb dX2_work_237 rfl (lv_at hl 7 rfl) ?_
                        refine ml_kind X I i rfl (by omega) (v := nI (nk N i)) e1 dX2_work_238 ?_
                        refine lv_bipush (v := nI 6) hx hb dX2_work_239 (by decide) ?_
                        refine lv_icmp_ne (tgt := 249) hx hb dX2_work_241 (by decide) (fun y0 => ?_) (fun y0 => ?_)
                        · have y0 : ¬ (nk N i) = 6 := fun q => y0 ((nI_eq (a := (nk N i)) (b := 6) (by omega) (by omega)).mpr q)
                          refine mf_kind X I (lv_at hl 6 rfl) dX2_work_249 dX2_work_250 ?_
                          refine lv_iload_n hx hb dX2_work_253 rfl (lv_at hl 7 rfl) ?_
                          refine ml_kind X I i rfl (by omega) (v := nI (nk N i)) e1 dX2_work_254 ?_
                          refine lv_iconst (v := nI 2) hx hb dX2_work_255 (by decide) ?_
                          refine lv_icmp_ne (tgt := 284) hx hb dX2_work_256 (by decide) (fun y0 => ?_) (fun y0 => ?_)
                          · have y0 : ¬ (nk N i) = 2 := fun q => y0 ((nI_eq (a := (nk N i)) (b := 2) (by omega) (by omega)).mpr q)
                            refine mf_kind X I (lv_at hl 6 rfl) dX2_work_284 dX2_work_285 ?_
                            refine lv_iload_n hx hb dX2_work_288 rfl (lv_at hl 7 rfl) ?_
                            refine ml_kind X I i rfl (by omega) (v := nI (nk N i)) e1 dX2_work_289 ?_
                            refine lv_bipush (v := nI 7) hx hb dX2_work_290 (by decide) ?_
                            refine lv_icmp_ne (tgt := 312) hx hb dX2_work_292 (by decide) (fun y0 => ?_) (fun y0 => ?_)
                            · have y0 : ¬ (nk N i) = 7 := fun q => y0 ((nI_eq (a := (nk N i)) (b := 7) (by omega) (by omega)).mpr q)
                              refine lv_iinc (v := nI (k + 1)) (lv' := [(4, .int (nI (k + 1))), (3, .int (sm + v)), (7, .int fm), (6, .int ot), (5, .int v), (2, .int (nI (na N i))), (0, .ref h), (1, .int (nI i))]) hx hb dX2_work_312 hl (k := 4) rfl (nI_1 k) (by decide) rfl (fun ls hl => ?_)
                              refine lv_goto (tgt := 107) hx hb dX2_work_315 (by decide) ?_
                              exact ih (k + 1) E (sm + v) σ1 (by omega) (by omega) hF hM (by exact mWk_4n hW g2 hkw q (by rw [← hv]; exact y4)) H locs I ls (lv_sub hl [0, 1, 5, 6, 7] rfl)
                            · have y0 : (nk N i) = 7 := (nI_eq (a := (nk N i)) (b := 7) (by omega) (by omega)).mp y0
                              exfalso
                              omega
                          · have y0 : (nk N i) = 2 := (nI_eq (a := (nk N i)) (b := 2) (by omega) (by omega)).mp y0
                            exfalso
                            omega
                        · have y0 : (nk N i) = 6 := (nI_eq (a := (nk N i)) (b := 6) (by omega) (by omega)).mp y0
                          exfalso
                          omega
                      · refine lv_aload_n hx hb dX2_work_227 rfl (lv_at hl 6 rfl) ?_
                        refine lv_iload hx hb dX2_work_228 (lv_at hl 3 rfl) ?_
                        refine m_callv X I (rest := []) (metX2_write l D c1 c2 h ad A σ1 E v hM) (cwX2_write X.2.2.2.2.1 rfl rfl ⟨Nat.le_of_ble_eq_true rfl, Nat.le_of_ble_eq_true rfl⟩) rfl hl.1 rfl (Nat.le_of_ble_eq_true rfl) ⟨Nat.zero_le _, Nat.zero_le _⟩ dX2_work_230 (fun σ2 H locs hw I => ?_)
                        obtain ⟨hFw, hM2⟩ := hw
                        have hF2 : (∀ f, f ≠ 12 → f ≠ 13 → σ2 f = σ f) := fun f q1 q2 => (hFw f q1 q2).trans (hF f q1 q2)
                        have hF := hF2
                        have d1 : σ2 1 i = nI (nk N i) := by rw [hF 1 (by decide) (by decide)]; exact f1
                        have d3 : σ2 3 i = nI (nb N i) := by rw [hF 3 (by decide) (by decide)]; exact f3
                        have d6 : σ2 6 i = nP N i := by rw [hF 6 (by decide) (by decide)]; exact f6
                        have d10 : σ2 10 = σ 10 := hF 10 (by decide) (by decide)
                        have d11 : σ2 11 = σ 11 := hF 11 (by decide) (by decide)
                        refine mf_kind X I (lv_at hl 6 rfl) dX2_work_233 dX2_work_234 ?_
                        refine lv_iload_n hx hb dX2_work_237 rfl (lv_at hl 7 rfl) ?_
                        refine ml_kind X I i rfl (by omega) (v := nI (nk N i)) d1 dX2_work_238 ?_
                        refine lv_bipush (v := nI 6) hx hb dX2_work_239 (by decide) ?_
                        refine lv_icmp_ne (tgt := 249) hx hb dX2_work_241 (by decide) (fun y0 => ?_) (fun y0 => ?_)
                        · have y0 : ¬ (nk N i) = 6 := fun q => y0 ((nI_eq (a := (nk N i)) (b := 6) (by omega) (by omega)).mpr q)
                          refine mf_kind X I (lv_at hl 6 rfl) dX2_work_249 dX2_work_250 ?_
                          refine lv_iload_n hx hb dX2_work_253 rfl (lv_at hl 7 rfl) ?_
                          refine ml_kind X I i rfl (by omega) (v := nI (nk N i)) d1 dX2_work_254 ?_
                          refine lv_iconst (v := nI 2) hx hb dX2_work_255 (by decide) ?_
                          refine lv_icmp_ne (tgt := 284) hx hb dX2_work_256 (by decide) (fun y0 => ?_) (fun y0 => ?_)
                          · have y0 : ¬ (nk N i) = 2 := fun q => y0 ((nI_eq (a := (nk N i)) (b := 2) (by omega) (by omega)).mpr q)
                            refine mf_kind X I (lv_at hl 6 rfl) dX2_work_284 dX2_work_285 ?_
                            refine lv_iload_n hx hb dX2_work_288 rfl (lv_at hl 7 rfl) ?_
                            refine ml_kind X I i rfl (by omega) (v := nI (nk N i)) d1 dX2_work_289 ?_
                            refine lv_bipush (v := nI 7) hx hb dX2_work_290 (by decide) ?_
                            refine lv_icmp_ne (tgt := 312) hx hb dX2_work_292 (by decide) (fun y0 => ?_) (fun y0 => ?_)
                            · have y0 : ¬ (nk N i) = 7 := fun q => y0 ((nI_eq (a := (nk N i)) (b := 7) (by omega) (by omega)).mpr q)
                              refine lv_iinc (v := nI (k + 1)) (lv' := [(4, .int (nI (k + 1))), (3, .int (sm + v)), (7, .int fm), (6, .int ot), (5, .int v), (2, .int (nI (na N i))), (0, .ref h), (1, .int (nI i))]) hx hb dX2_work_312 hl (k := 4) rfl (nI_1 k) (by decide) rfl (fun ls hl => ?_)
                              refine lv_goto (tgt := 107) hx hb dX2_work_315 (by decide) ?_
                              exact ih (k + 1) (E ++ [v]) (sm + v) σ2 (by omega) (by omega) hF2 hM2 (by rw [hv]; exact mWk_4y hW g2 hkw q (by rw [← hv]; exact y4)) H locs I ls (lv_sub hl [0, 1, 5, 6, 7] rfl)
                            · have y0 : (nk N i) = 7 := (nI_eq (a := (nk N i)) (b := 7) (by omega) (by omega)).mp y0
                              exfalso
                              omega
                          · have y0 : (nk N i) = 2 := (nI_eq (a := (nk N i)) (b := 2) (by omega) (by omega)).mp y0
                            exfalso
                            omega
                        · have y0 : (nk N i) = 6 := (nI_eq (a := (nk N i)) (b := 6) (by omega) (by omega)).mp y0
                          exfalso
                          omega
              · refine mf_kind X I (lv_at hl 6 rfl) dX2_work_185 dX2_work_186 ?_
                refine lv_iload_n hx hb dX2_work_189 rfl (lv_at hl 7 rfl) ?_
                refine ml_kind X I i rfl (by omega) (v := nI (nk N i)) e1 dX2_work_190 ?_
                refine lv_iconst (v := nI 1) hx hb dX2_work_191 (by decide) ?_
                refine lv_icmp_eq (tgt := 227) hx hb dX2_work_192 (by decide) (fun y0 => ?_) (fun y0 => ?_)
                · have y0 : (nk N i) = 1 := (nI_eq (a := (nk N i)) (b := 1) (by omega) (by omega)).mp y0
                  exfalso
                  omega
                · have y0 : ¬ (nk N i) = 1 := fun q => y0 ((nI_eq (a := (nk N i)) (b := 1) (by omega) (by omega)).mpr q)
                  refine mf_kind X I (lv_at hl 6 rfl) dX2_work_195 dX2_work_196 ?_
                  refine lv_iload_n hx hb dX2_work_199 rfl (lv_at hl 7 rfl) ?_
                  refine ml_kind X I i rfl (by omega) (v := nI (nk N i)) e1 dX2_work_200 ?_
                  refine lv_iconst (v := nI 3) hx hb dX2_work_201 (by decide) ?_
                  refine lv_icmp_eq (tgt := 227) hx hb dX2_work_202 (by decide) (fun y0 => ?_) (fun y0 => ?_)
                  · have y0 : (nk N i) = 3 := (nI_eq (a := (nk N i)) (b := 3) (by omega) (by omega)).mp y0
                    exfalso
                    omega
                  · have y0 : ¬ (nk N i) = 3 := fun q => y0 ((nI_eq (a := (nk N i)) (b := 3) (by omega) (by omega)).mpr q)
                    refine mf_kind X I (lv_at hl 6 rfl) dX2_work_205 dX2_work_206 ?_
                    refine lv_iload_n hx hb dX2_work_209 rfl (lv_at hl 7 rfl) ?_
                    refine ml_kind X I i rfl (by omega) (v := nI (nk N i)) e1 dX2_work_210 ?_
                    refine lv_iconst (v := nI 4) hx hb dX2_work_211 (by decide) ?_
                    refine lv_icmp_ne (tgt := 233) hx hb dX2_work_212 (by decide) (fun y0 => ?_) (fun y0 => ?_)
                    · have y0 : ¬ (nk N i) = 4 := fun q => y0 ((nI_eq (a := (nk N i)) (b := 4) (by omega) (by omega)).mpr q)
                      refine mf_kind X I (lv_at hl 6 rfl) dX2_work_233 dX2_work_234 ?_
                      refine lv_iload_n hx hb dX2_work_237 rfl (lv_at hl 7 rfl) ?_
                      refine ml_kind X I i rfl (by omega) (v := nI (nk N i)) e1 dX2_work_238 ?_
                      refine lv_bipush (v := nI 6) hx hb dX2_work_239 (by decide) ?_
                      refine lv_icmp_ne (tgt := 249) hx hb dX2_work_241 (by decide) (fun y0 => ?_) (fun y0 => ?_)
                      · have y0 : ¬ (nk N i) = 6 := fun q => y0 ((nI_eq (a := (nk N i)) (b := 6) (by omega) (by omega)).mpr q)
                        exfalso
                        omega
                      · have y0 : (nk N i) = 6 := (nI_eq (a := (nk N i)) (b := 6) (by omega) (by omega)).mp y0
                        refine lv_aload_n hx hb dX2_work_244 rfl (lv_at hl 6 rfl) ?_
                        refine lv_iload_n hx hb dX2_work_245 rfl (lv_at hl 0 rfl) ?_
                        refine m_callv X I (rest := []) (metX2_write l D c1 c2 h ad A σ1 E (sm + v) hM) (cwX2_write X.2.2.2.2.1 rfl rfl ⟨Nat.le_of_ble_eq_true rfl, Nat.le_of_ble_eq_true rfl⟩) rfl hl.1 rfl (Nat.le_of_ble_eq_true rfl) ⟨Nat.zero_le _, Nat.zero_le _⟩ dX2_work_246 (fun σ2 H locs hw I => ?_)
                        obtain ⟨hFw, hM2⟩ := hw
                        have hF2 : (∀ f, f ≠ 12 → f ≠ 13 → σ2 f = σ f) := fun f q1 q2 => (hFw f q1 q2).trans (hF f q1 q2)
                        have hF := hF2
                        have d1 : σ2 1 i = nI (nk N i) := by rw [hF 1 (by decide) (by decide)]; exact f1
                        have d3 : σ2 3 i = nI (nb N i) := by rw [hF 3 (by decide) (by decide)]; exact f3
                        have d6 : σ2 6 i = nP N i := by rw [hF 6 (by decide) (by decide)]; exact f6
                        have d10 : σ2 10 = σ 10 := hF 10 (by decide) (by decide)
                        have d11 : σ2 11 = σ 11 := hF 11 (by decide) (by decide)
                        refine mf_kind X I (lv_at hl 6 rfl) dX2_work_249 dX2_work_250 ?_
                        refine lv_iload_n hx hb dX2_work_253 rfl (lv_at hl 7 rfl) ?_
                        refine ml_kind X I i rfl (by omega) (v := nI (nk N i)) d1 dX2_work_254 ?_
                        refine lv_iconst (v := nI 2) hx hb dX2_work_255 (by decide) ?_
                        refine lv_icmp_ne (tgt := 284) hx hb dX2_work_256 (by decide) (fun y0 => ?_) (fun y0 => ?_)
                        · have y0 : ¬ (nk N i) = 2 := fun q => y0 ((nI_eq (a := (nk N i)) (b := 2) (by omega) (by omega)).mpr q)
                          refine mf_kind X I (lv_at hl 6 rfl) dX2_work_284 dX2_work_285 ?_
                          refine lv_iload_n hx hb dX2_work_288 rfl (lv_at hl 7 rfl) ?_
                          refine ml_kind X I i rfl (by omega) (v := nI (nk N i)) d1 dX2_work_289 ?_
                          refine lv_bipush (v := nI 7) hx hb dX2_work_290 (by decide) ?_
                          refine lv_icmp_ne (tgt := 312) hx hb dX2_work_292 (by decide) (fun y0 => ?_) (fun y0 => ?_)
                          · have y0 : ¬ (nk N i) = 7 := fun q => y0 ((nI_eq (a := (nk N i)) (b := 7) (by omega) (by omega)).mpr q)
                            refine lv_iinc (v := nI (k + 1)) (lv' := [(4, .int (nI (k + 1))), (3, .int (sm + v)), (7, .int fm), (6, .int ot), (5, .int v), (2, .int (nI (na N i))), (0, .ref h), (1, .int (nI i))]) hx hb dX2_work_312 hl (k := 4) rfl (nI_1 k) (by decide) rfl (fun ls hl => ?_)
                            refine lv_goto (tgt := 107) hx hb dX2_work_315 (by decide) ?_
                            exact ih (k + 1) (E ++ [sm + v]) (sm + v) σ2 (by omega) (by omega) hF2 hM2 (by rw [hv]; exact mWk_6 hW g2 hkw q) H locs I ls (lv_sub hl [0, 1, 5, 6, 7] rfl)
                          · have y0 : (nk N i) = 7 := (nI_eq (a := (nk N i)) (b := 7) (by omega) (by omega)).mp y0
                            exfalso
                            omega
                        · have y0 : (nk N i) = 2 := (nI_eq (a := (nk N i)) (b := 2) (by omega) (by omega)).mp y0
                          exfalso
                          omega
                    · have y0 : (nk N i) = 4 := (nI_eq (a := (nk N i)) (b := 4) (by omega) (by omega)).mp y0
                      exfalso
                      omega
              · refine mf_kind X I (lv_at hl 6 rfl) dX2_work_185 dX2_work_186 ?_
                refine lv_iload_n hx hb dX2_work_189 rfl (lv_at hl 7 rfl) ?_
                refine ml_kind X I i rfl (by omega) (v := nI (nk N i)) e1 dX2_work_190 ?_
                refine lv_iconst (v := nI 1) hx hb dX2_work_191 (by decide) ?_
                refine lv_icmp_eq (tgt := 227) hx hb dX2_work_192 (by decide) (fun y0 => ?_) (fun y0 => ?_)
                · have y0 : (nk N i) = 1 := (nI_eq (a := (nk N i)) (b := 1) (by omega) (by omega)).mp y0
                  exfalso
                  omega
                · have y0 : ¬ (nk N i) = 1 := fun q => y0 ((nI_eq (a := (nk N i)) (b := 1) (by omega) (by omega)).mpr q)
                  refine mf_kind X I (lv_at hl 6 rfl) dX2_work_195 dX2_work_196 ?_
                  refine lv_iload_n hx hb dX2_work_199 rfl (lv_at hl 7 rfl) ?_
                  refine ml_kind X I i rfl (by omega) (v := nI (nk N i)) e1 dX2_work_200 ?_
                  refine lv_iconst (v := nI 3) hx hb dX2_work_201 (by decide) ?_
                  refine lv_icmp_eq (tgt := 227) hx hb dX2_work_202 (by decide) (fun y0 => ?_) (fun y0 => ?_)
                  · have y0 : (nk N i) = 3 := (nI_eq (a := (nk N i)) (b := 3) (by omega) (by omega)).mp y0
                    exfalso
                    omega
                  · have y0 : ¬ (nk N i) = 3 := fun q => y0 ((nI_eq (a := (nk N i)) (b := 3) (by omega) (by omega)).mpr q)
                    refine mf_kind X I (lv_at hl 6 rfl) dX2_work_205 dX2_work_206 ?_
                    refine lv_iload_n hx hb dX2_work_209 rfl (lv_at hl 7 rfl) ?_
                    refine ml_kind X I i rfl (by omega) (v := nI (nk N i)) e1 dX2_work_210 ?_
                    refine lv_iconst (v := nI 4) hx hb dX2_work_211 (by decide) ?_
                    refine lv_icmp_ne (tgt := 233) hx hb dX2_work_212 (by decide) (fun y0 => ?_) (fun y0 => ?_)
                    · have y0 : ¬ (nk N i) = 4 := fun q => y0 ((nI_eq (a := (nk N i)) (b := 4) (by omega) (by omega)).mpr q)
                      refine mf_kind X I (lv_at hl 6 rfl) dX2_work_233 dX2_work_234 ?_
                      refine lv_iload_n hx hb dX2_work_237 rfl (lv_at hl 7 rfl) ?_
                      refine ml_kind X I i rfl (by omega) (v := nI (nk N i)) e1 dX2_work_238 ?_
                      refine lv_bipush (v := nI 6) hx hb dX2_work_239 (by decide) ?_
                      refine lv_icmp_ne (tgt := 249) hx hb dX2_work_241 (by decide) (fun y0 => ?_) (fun y0 => ?_)
                      · have y0 : ¬ (nk N i) = 6 := fun q => y0 ((nI_eq (a := (nk N i)) (b := 6) (by omega) (by omega)).mpr q)
                        refine mf_kind X I (lv_at hl 6 rfl) dX2_work_249 dX2_work_250 ?_
                        refine lv_iload_n hx hb dX2_work_253 rfl (lv_at hl 7 rfl) ?_
                        refine ml_kind X I i rfl (by omega) (v := nI (nk N i)) e1 dX2_work_254 ?_
                        refine lv_iconst (v := nI 2) hx hb dX2_work_255 (by decide) ?_
                        refine lv_icmp_ne (tgt := 284) hx hb dX2_work_256 (by decide) (fun y0 => ?_) (fun y0 => ?_)
                        · have y0 : ¬ (nk N i) = 2 := fun q => y0 ((nI_eq (a := (nk N i)) (b := 2) (by omega) (by omega)).mpr q)
                          refine mf_kind X I (lv_at hl 6 rfl) dX2_work_284 dX2_work_285 ?_
                          refine lv_iload_n hx hb dX2_work_288 rfl (lv_at hl 7 rfl) ?_
                          refine ml_kind X I i rfl (by omega) (v := nI (nk N i)) e1 dX2_work_289 ?_
                          refine lv_bipush (v := nI 7) hx hb dX2_work_290 (by decide) ?_
                          refine lv_icmp_ne (tgt := 312) hx hb dX2_work_292 (by decide) (fun y0 => ?_) (fun y0 => ?_)
                          · have y0 : ¬ (nk N i) = 7 := fun q => y0 ((nI_eq (a := (nk N i)) (b := 7) (by omega) (by omega)).mpr q)
                            exfalso
                            omega
                          · have y0 : (nk N i) = 7 := (nI_eq (a := (nk N i)) (b := 7) (by omega) (by omega)).mp y0
                            refine lv_iload hx hb dX2_work_295 (lv_at hl 4 rfl) ?_
                            refine lv_iconst (v := nI 2) hx hb dX2_work_297 (by decide) ?_
                            refine lv_irem hx hb dX2_work_298 (by decide) ?_
                            refine kv_top (pk_rem (a := k) (d := 2) (by omega) (by decide) (by decide)) ?_
                            refine lv_iconst (v := nI 1) hx hb dX2_work_299 (by decide) ?_
                            refine lv_icmp_ne (tgt := 312) hx hb dX2_work_300 (by decide) (fun y7 => ?_) (fun y7 => ?_)
                            · have y7 : ¬ (k % 2) = 1 := fun q => y7 ((nI_eq (a := (k % 2)) (b := 1) (by omega) (by omega)).mpr q)
                              refine lv_iinc (v := nI (k + 1)) (lv' := [(4, .int (nI (k + 1))), (3, .int (sm + v)), (7, .int fm), (6, .int ot), (5, .int v), (2, .int (nI (na N i))), (0, .ref h), (1, .int (nI i))]) hx hb dX2_work_312 hl (k := 4) rfl (nI_1 k) (by decide) rfl (fun ls hl => ?_)
                              refine lv_goto (tgt := 107) hx hb dX2_work_315 (by decide) ?_
                              exact ih (k + 1) E (sm + v) σ1 (by omega) (by omega) hF hM (by exact mWk_7n hW g2 hkw q y7) H locs I ls (lv_sub hl [0, 1, 5, 6, 7] rfl)
                            · have y7 : (k % 2) = 1 := (nI_eq (a := (k % 2)) (b := 1) (by omega) (by omega)).mp y7
                              refine lv_aload_n hx hb dX2_work_303 rfl (lv_at hl 6 rfl) ?_
                              refine lv_iload hx hb dX2_work_304 (lv_at hl 1 rfl) ?_
                              refine lv_iload hx hb dX2_work_306 (lv_at hl 3 rfl) ?_
                              refine lv_isub hx hb dX2_work_308 ?_
                              refine m_callv X I (rest := []) (metX2_write l D c1 c2 h ad A σ1 E (fm - v) hM) (cwX2_write X.2.2.2.2.1 rfl rfl ⟨Nat.le_of_ble_eq_true rfl, Nat.le_of_ble_eq_true rfl⟩) rfl hl.1 rfl (Nat.le_of_ble_eq_true rfl) ⟨Nat.zero_le _, Nat.zero_le _⟩ dX2_work_309 (fun σ2 H locs hw I => ?_)
                              obtain ⟨hFw, hM2⟩ := hw
                              have hF2 : (∀ f, f ≠ 12 → f ≠ 13 → σ2 f = σ f) := fun f q1 q2 => (hFw f q1 q2).trans (hF f q1 q2)
                              have hF := hF2
                              have d1 : σ2 1 i = nI (nk N i) := by rw [hF 1 (by decide) (by decide)]; exact f1
                              have d3 : σ2 3 i = nI (nb N i) := by rw [hF 3 (by decide) (by decide)]; exact f3
                              have d6 : σ2 6 i = nP N i := by rw [hF 6 (by decide) (by decide)]; exact f6
                              have d10 : σ2 10 = σ 10 := hF 10 (by decide) (by decide)
                              have d11 : σ2 11 = σ 11 := hF 11 (by decide) (by decide)
                              refine lv_iinc (v := nI (k + 1)) (lv' := [(4, .int (nI (k + 1))), (3, .int (sm + v)), (7, .int fm), (6, .int ot), (5, .int v), (2, .int (nI (na N i))), (0, .ref h), (1, .int (nI i))]) hx hb dX2_work_312 hl (k := 4) rfl (nI_1 k) (by decide) rfl (fun ls hl => ?_)
                              refine lv_goto (tgt := 107) hx hb dX2_work_315 (by decide) ?_
                              exact ih (k + 1) (E ++ [fm - v]) (sm + v) σ2 (by omega) (by omega) hF2 hM2 (by rw [hv, hfm (by omega)]; exact mWk_7y hW g2 hkw q y7) H locs I ls (lv_sub hl [0, 1, 5, 6, 7] rfl)
                        · have y0 : (nk N i) = 2 := (nI_eq (a := (nk N i)) (b := 2) (by omega) (by omega)).mp y0
                          exfalso
                          omega
                      · have y0 : (nk N i) = 6 := (nI_eq (a := (nk N i)) (b := 6) (by omega) (by omega)).mp y0
                        exfalso
                        omega
                    · have y0 : (nk N i) = 4 := (nI_eq (a := (nk N i)) (b := 4) (by omega) (by omega)).mp y0
                      exfalso
                      omega
            refine lv_iload hx hb dX2_work_160 (lv_at hl 2 rfl) ?_
            refine lv_if_le (tgt := 177) hx hb dX2_work_162 (by decide) (fun b4 => ?_) (fun b4 => ?_)
            · have b4 : k ≤ 0 := (nI_leI (a := k) (b := 0) (by omega) (by omega)).mp b4
              refine lv_iconst (v := nI 0) hx hb dX2_work_177 (by decide) ?_
              exact cont (nI 0) (fun z => absurd z (by omega)) H locs I ls hl
            · have b4 : ¬ k ≤ 0 := fun q => b4 ((nI_leI (a := k) (b := 0) (by omega) (by omega)).mpr q)
              refine lv_aload_n hx hb dX2_work_165 rfl (lv_at hl 5 rfl) ?_
              refine lv_iload_n hx hb dX2_work_166 rfl (lv_at hl 4 rfl) ?_
              refine lv_iload hx hb dX2_work_167 (lv_at hl 2 rfl) ?_
              refine lv_iconst (v := nI 1) hx hb dX2_work_169 (by decide) ?_
              refine lv_isub hx hb dX2_work_170 ?_
              refine kv_top (pk_sub (a := k) (b := 1) (by omega)) ?_
              refine m_calli X I (rest := []) (metX2_get l D c1 c2 h ad A σ1 (na N i) (k - 1) g2 (by omega)) (cwX2_get X.2.2.2.2.1 rfl rfl ⟨Nat.le_of_ble_eq_true rfl, Nat.le_of_ble_eq_true rfl⟩) rfl hl.1 rfl (Nat.le_of_ble_eq_true rfl) ⟨Nat.zero_le _, Nat.zero_le _⟩ dX2_work_171 (fun fm σ2 H locs hfm I => ?_)
              obtain ⟨hs, hfm⟩ := hfm
              rw [hs] at I
              rw [e11] at hfm
              refine lv_goto (tgt := 178) hx hb dX2_work_174 (by decide) ?_
              exact cont fm (fun _ => hfm) H locs I ls hl
  refine mf_a X I (lv_at hl 0 rfl) dX2_work_0 dX2_work_1 ?_
  refine lv_iload_n hx hb dX2_work_4 rfl (lv_at hl 1 rfl) ?_
  refine ml_a X I i rfl (by omega) (v := nI (na N i)) f2 dX2_work_5 ?_
  refine lv_istore_n (lv' := [(2, .int (nI (na N i))), (0, .ref h), (1, .int (nI i))]) hx hb dX2_work_6 rfl hl (by decide) rfl (fun ls hl => ?_)
  refine lv_iconst (v := nI 0) hx hb dX2_work_7 (by decide) ?_
  refine lv_istore_n (lv' := [(3, .int (nI 0)), (2, .int (nI (na N i))), (0, .ref h), (1, .int (nI i))]) hx hb dX2_work_8 rfl hl (by decide) rfl (fun ls hl => ?_)
  refine lv_aload_n hx hb dX2_work_9 rfl (lv_at hl 2 rfl) ?_
  refine lv_iconst (v := nI 0) hx hb dX2_work_10 (by decide) ?_
  refine mp_count X I dX2_work_11 (fun H locs I => ?_)
  have hM0 : mM (su σ 13 0 (nI 0)) [] := mM_nil rfl
  refine mf_kind X I (lv_at hl 2 rfl) dX2_work_14 dX2_work_15 ?_
  refine lv_iload_n hx hb dX2_work_18 rfl (lv_at hl 3 rfl) ?_
  refine ml_kind X I i rfl (by omega) (v := nI (nk N i)) f1 dX2_work_19 ?_
  refine lv_if_ne (tgt := 63) hx hb dX2_work_20 (by decide) (fun k0 => ?_) (fun k0 => ?_)
  · have k0 : ¬ (nk N i) = 0 := fun q => k0 ((nI_eq (a := (nk N i)) (b := 0) (by omega) (by omega)).mpr q)
    have g6b := g6 k0
    obtain ⟨zb1, zb2⟩ := hz (nb N i) g6b
    refine mf_kind X I (lv_at hl 2 rfl) dX2_work_63 dX2_work_64 ?_
    refine lv_iload_n hx hb dX2_work_67 rfl (lv_at hl 3 rfl) ?_
    refine ml_kind X I i rfl (by omega) (v := nI (nk N i)) f1 dX2_work_68 ?_
    refine lv_iconst (v := nI 3) hx hb dX2_work_69 (by decide) ?_
    refine lv_icmp_ne (tgt := 83) hx hb dX2_work_70 (by decide) (fun k3 => ?_) (fun k3 => ?_)
    · have k3 : ¬ (nk N i) = 3 := fun q => k3 ((nI_eq (a := (nk N i)) (b := 3) (by omega) (by omega)).mpr q)
      refine mf_kind X I (lv_at hl 2 rfl) dX2_work_83 dX2_work_84 ?_
      refine lv_iload_n hx hb dX2_work_87 rfl (lv_at hl 3 rfl) ?_
      refine ml_kind X I i rfl (by omega) (v := nI (nk N i)) f1 dX2_work_88 ?_
      refine lv_iconst (v := nI 5) hx hb dX2_work_89 (by decide) ?_
      refine lv_icmp_ne (tgt := 104) hx hb dX2_work_90 (by decide) (fun k5 => ?_) (fun k5 => ?_)
      · have k5 : ¬ (nk N i) = 5 := fun q => k5 ((nI_eq (a := (nk N i)) (b := 5) (by omega) (by omega)).mpr q)
        refine lv_iconst (v := nI 0) hx hb dX2_work_104 (by decide) ?_
        refine lv_istore (lv' := [(4, .int (nI 0)), (3, .int (nI 0)), (2, .int (nI (na N i))), (0, .ref h), (1, .int (nI i))]) hx hb dX2_work_105 hl (by decide) rfl (fun ls hl => ?_)
        exact loop k0 k5 (w (na N i) + 1) 0 [] (nI 0) (su σ 13 0 (nI 0)) (by omega) (by omega) (fun f q1 q2 => su_other q2) hM0 (mWk_start k0 k3) _ _ I ls hl
      · have k5 : (nk N i) = 5 := (nI_eq (a := (nk N i)) (b := 5) (by omega) (by omega)).mp k5
        refine lv_aload_n hx hb dX2_work_93 rfl (lv_at hl 2 rfl) ?_
        refine lv_iload_n hx hb dX2_work_94 rfl (lv_at hl 1 rfl) ?_
        refine mf_b X I (lv_at hl 2 rfl) dX2_work_95 dX2_work_96 ?_
        refine lv_iload_n hx hb dX2_work_99 rfl (lv_at hl 3 rfl) ?_
        refine ml_b X I i rfl (by omega) (v := nI (nb N i)) f3 dX2_work_100 ?_
        refine m_callv X I (rest := []) (metX2_join l D c1 c2 h ad A (su σ 13 0 (nI 0)) w hz (na N i) (nb N i) g2 g6b hM0) (cwX2_join X.2.2.2.2.1 rfl rfl ⟨Nat.le_of_ble_eq_true rfl, Nat.le_of_ble_eq_true rfl⟩) rfl hl.1 rfl (Nat.le_of_ble_eq_true rfl) ⟨Nat.zero_le _, Nat.zero_le _⟩ dX2_work_101 (fun σ2 H locs hw I => ?_)
        obtain ⟨hFw, hM2⟩ := hw
        have hF : (∀ f, f ≠ 12 → f ≠ 13 → σ2 f = σ f) := fun f q1 q2 => (hFw f q1 q2).trans (su_other q2)
        have d1 : σ2 1 i = nI (nk N i) := by rw [hF 1 (by decide) (by decide)]; exact f1
        have d3 : σ2 3 i = nI (nb N i) := by rw [hF 3 (by decide) (by decide)]; exact f3
        have d6 : σ2 6 i = nP N i := by rw [hF 6 (by decide) (by decide)]; exact f6
        have d10 : σ2 10 = σ 10 := hF 10 (by decide) (by decide)
        have d11 : σ2 11 = σ 11 := hF 11 (by decide) (by decide)
        refine lv_iconst (v := nI 0) hx hb dX2_work_104 (by decide) ?_
        refine lv_istore (lv' := [(4, .int (nI 0)), (3, .int (nI 0)), (2, .int (nI (na N i))), (0, .ref h), (1, .int (nI i))]) hx hb dX2_work_105 hl (by decide) rfl (fun ls hl => ?_)
        refine mf_kind X I (lv_at hl 3 rfl) dX2_work_107 dX2_work_108 ?_
        refine lv_iload_n hx hb dX2_work_111 rfl (lv_at hl 4 rfl) ?_
        refine ml_kind X I i rfl (by omega) (v := nI (nk N i)) d1 dX2_work_112 ?_
        refine lv_if_eq (tgt := 318) hx hb dX2_work_113 (by decide) (fun b4 => ?_) (fun b4 => ?_)
        · have b4 : (nk N i) = 0 := (nI_eq (a := (nk N i)) (b := 0) (by omega) (by omega)).mp b4
          exfalso
          omega
        · have b4 : ¬ (nk N i) = 0 := fun q => b4 ((nI_eq (a := (nk N i)) (b := 0) (by omega) (by omega)).mpr q)
          refine mf_kind X I (lv_at hl 3 rfl) dX2_work_116 dX2_work_117 ?_
          refine lv_iload_n hx hb dX2_work_120 rfl (lv_at hl 4 rfl) ?_
          refine ml_kind X I i rfl (by omega) (v := nI (nk N i)) d1 dX2_work_121 ?_
          refine lv_iconst (v := nI 5) hx hb dX2_work_122 (by decide) ?_
          refine lv_icmp_eq (tgt := 318) hx hb dX2_work_123 (by decide) (fun b5 => ?_) (fun b5 => ?_)
          · have b5 : (nk N i) = 5 := (nI_eq (a := (nk N i)) (b := 5) (by omega) (by omega)).mp b5
            exact m_vret X I hr hlocks ⟨hF, by rw [out5 k5]; exact hM2⟩ dX2_work_318
          · have b5 : ¬ (nk N i) = 5 := fun q => b5 ((nI_eq (a := (nk N i)) (b := 5) (by omega) (by omega)).mpr q)
            exfalso
            omega
    · have k3 : (nk N i) = 3 := (nI_eq (a := (nk N i)) (b := 3) (by omega) (by omega)).mp k3
      refine lv_aload_n hx hb dX2_work_73 rfl (lv_at hl 2 rfl) ?_
      refine mf_p X I (lv_at hl 2 rfl) dX2_work_74 dX2_work_75 ?_
      refine lv_iload_n hx hb dX2_work_78 rfl (lv_at hl 3 rfl) ?_
      refine ml_p X I i rfl (by omega) (v := nP N i) f6 dX2_work_79 ?_
      refine m_callv X I (rest := []) (metX2_write l D c1 c2 h ad A (su σ 13 0 (nI 0)) [] (nP N i) hM0) (cwX2_write X.2.2.2.2.1 rfl rfl ⟨Nat.le_of_ble_eq_true rfl, Nat.le_of_ble_eq_true rfl⟩) rfl hl.1 rfl (Nat.le_of_ble_eq_true rfl) ⟨Nat.zero_le _, Nat.zero_le _⟩ dX2_work_80 (fun σ2 H locs hw I => ?_)
      obtain ⟨hFw, hM2⟩ := hw
      have hF : (∀ f, f ≠ 12 → f ≠ 13 → σ2 f = σ f) := fun f q1 q2 => (hFw f q1 q2).trans (su_other q2)
      have d1 : σ2 1 i = nI (nk N i) := by rw [hF 1 (by decide) (by decide)]; exact f1
      have d3 : σ2 3 i = nI (nb N i) := by rw [hF 3 (by decide) (by decide)]; exact f3
      have d6 : σ2 6 i = nP N i := by rw [hF 6 (by decide) (by decide)]; exact f6
      have d10 : σ2 10 = σ 10 := hF 10 (by decide) (by decide)
      have d11 : σ2 11 = σ 11 := hF 11 (by decide) (by decide)
      refine mf_kind X I (lv_at hl 2 rfl) dX2_work_83 dX2_work_84 ?_
      refine lv_iload_n hx hb dX2_work_87 rfl (lv_at hl 3 rfl) ?_
      refine ml_kind X I i rfl (by omega) (v := nI (nk N i)) d1 dX2_work_88 ?_
      refine lv_iconst (v := nI 5) hx hb dX2_work_89 (by decide) ?_
      refine lv_icmp_ne (tgt := 104) hx hb dX2_work_90 (by decide) (fun b3 => ?_) (fun b3 => ?_)
      · have b3 : ¬ (nk N i) = 5 := fun q => b3 ((nI_eq (a := (nk N i)) (b := 5) (by omega) (by omega)).mpr q)
        refine lv_iconst (v := nI 0) hx hb dX2_work_104 (by decide) ?_
        refine lv_istore (lv' := [(4, .int (nI 0)), (3, .int (nI 0)), (2, .int (nI (na N i))), (0, .ref h), (1, .int (nI i))]) hx hb dX2_work_105 hl (by decide) rfl (fun ls hl => ?_)
        exact loop k0 (by omega) (w (na N i) + 1) 0 _ (nI 0) σ2 (by omega) (by omega) hF hM2 (mWk_start3 k3) H locs I ls hl
      · have b3 : (nk N i) = 5 := (nI_eq (a := (nk N i)) (b := 5) (by omega) (by omega)).mp b3
        exfalso
        omega
  · have k0 : (nk N i) = 0 := (nI_eq (a := (nk N i)) (b := 0) (by omega) (by omega)).mp k0
    have sloop : ∀ (f k : Nat) (σ1 : KS), nb N i - k < f → k ≤ nb N i → (∀ f, f ≠ 12 → f ≠ 13 → σ1 f = σ f) → mM σ1 (pl_src (nP N i) (nQ N i) 0 k) → ∀ (H : Heap) (locs : List Loc), mI D c1 c2 h ad A s.heap σ1 H locs → ∀ ls : Array Slot, lv_has ls 8 [(4, .int (nI k)), (3, .int (nI 0)), (2, .int (nI (na N i))), (0, .ref h), (1, .int (nI i))] → W p l e ({ frames := 2, cells := 0, slots := 0, locals := 49 } : Room) s m args below meth c H locs 0 0 (MQ below (va_Qv (fun (σ' : KS) => (∀ f, f ≠ 12 → f ≠ 13 → σ' f = σ f) ∧ mM σ' (pl_out N i (mS σ w))) (mB D c1 c2 h ad A) A) args s 0 0 A) (F0 m 26 ls []) := by
      intro f
      induction f with
      | zero =>
        intro k σ1 q1
        exact absurd q1 (by omega)
      | succ f ih =>
        intro k σ1 hf hk hF hM H locs I ls hl
        have e1 : σ1 1 i = nI (nk N i) := by rw [hF 1 (by decide) (by decide)]; exact f1
        have e3 : σ1 3 i = nI (nb N i) := by rw [hF 3 (by decide) (by decide)]; exact f3
        have e6 : σ1 6 i = nP N i := by rw [hF 6 (by decide) (by decide)]; exact f6
        have e10 : σ1 10 = σ 10 := hF 10 (by decide) (by decide)
        have e11 : σ1 11 = σ 11 := hF 11 (by decide) (by decide)
        have e7 : σ1 7 i = nQ N i := by rw [hF 7 (by decide) (by decide)]; exact f7 k0
        refine lv_iload hx hb dX2_work_26 (lv_at hl 0 rfl) ?_
        refine mf_b X I (lv_at hl 3 rfl) dX2_work_28 dX2_work_29 ?_
        refine lv_iload_n hx hb dX2_work_32 rfl (lv_at hl 4 rfl) ?_
        refine ml_b X I i rfl (by omega) (v := nI (nb N i)) e3 dX2_work_33 ?_
        refine lv_icmp_ge (tgt := 63) hx hb dX2_work_34 (by decide) (fun b1 => ?_) (fun b1 => ?_)
        · have b1 : (nb N i) ≤ k := (nI_leI (a := (nb N i)) (b := k) (by omega) (by omega)).mp b1
          have hkn : k = nb N i := by omega
          refine mf_kind X I (lv_at hl 3 rfl) dX2_work_63 dX2_work_64 ?_
          refine lv_iload_n hx hb dX2_work_67 rfl (lv_at hl 4 rfl) ?_
          refine ml_kind X I i rfl (by omega) (v := nI (nk N i)) e1 dX2_work_68 ?_
          refine lv_iconst (v := nI 3) hx hb dX2_work_69 (by decide) ?_
          refine lv_icmp_ne (tgt := 83) hx hb dX2_work_70 (by decide) (fun b2 => ?_) (fun b2 => ?_)
          · have b2 : ¬ (nk N i) = 3 := fun q => b2 ((nI_eq (a := (nk N i)) (b := 3) (by omega) (by omega)).mpr q)
            refine mf_kind X I (lv_at hl 3 rfl) dX2_work_83 dX2_work_84 ?_
            refine lv_iload_n hx hb dX2_work_87 rfl (lv_at hl 4 rfl) ?_
            refine ml_kind X I i rfl (by omega) (v := nI (nk N i)) e1 dX2_work_88 ?_
            refine lv_iconst (v := nI 5) hx hb dX2_work_89 (by decide) ?_
            refine lv_icmp_ne (tgt := 104) hx hb dX2_work_90 (by decide) (fun b3 => ?_) (fun b3 => ?_)
            · have b3 : ¬ (nk N i) = 5 := fun q => b3 ((nI_eq (a := (nk N i)) (b := 5) (by omega) (by omega)).mpr q)
              refine lv_iconst (v := nI 0) hx hb dX2_work_104 (by decide) ?_
              refine lv_istore (lv' := [(4, .int (nI 0)), (3, .int (nI 0)), (2, .int (nI (na N i))), (0, .ref h), (1, .int (nI i))]) hx hb dX2_work_105 hl (by decide) rfl (fun ls hl => ?_)
              refine mf_kind X I (lv_at hl 3 rfl) dX2_work_107 dX2_work_108 ?_
              refine lv_iload_n hx hb dX2_work_111 rfl (lv_at hl 4 rfl) ?_
              refine ml_kind X I i rfl (by omega) (v := nI (nk N i)) e1 dX2_work_112 ?_
              refine lv_if_eq (tgt := 318) hx hb dX2_work_113 (by decide) (fun b4 => ?_) (fun b4 => ?_)
              · have b4 : (nk N i) = 0 := (nI_eq (a := (nk N i)) (b := 0) (by omega) (by omega)).mp b4
                exact m_vret X I hr hlocks ⟨hF, by rw [out0 k0 g5, ← hkn]; exact hM⟩ dX2_work_318
              · have b4 : ¬ (nk N i) = 0 := fun q => b4 ((nI_eq (a := (nk N i)) (b := 0) (by omega) (by omega)).mpr q)
                exfalso
                omega
            · have b3 : (nk N i) = 5 := (nI_eq (a := (nk N i)) (b := 5) (by omega) (by omega)).mp b3
              exfalso
              omega
          · have b2 : (nk N i) = 3 := (nI_eq (a := (nk N i)) (b := 3) (by omega) (by omega)).mp b2
            exfalso
            omega
        · have b1 : ¬ (nb N i) ≤ k := fun q => b1 ((nI_leI (a := (nb N i)) (b := k) (by omega) (by omega)).mpr q)
          refine lv_aload_n hx hb dX2_work_37 rfl (lv_at hl 3 rfl) ?_
          refine mf_p X I (lv_at hl 3 rfl) dX2_work_38 dX2_work_39 ?_
          refine lv_iload_n hx hb dX2_work_42 rfl (lv_at hl 4 rfl) ?_
          refine ml_p X I i rfl (by omega) (v := nP N i) e6 dX2_work_43 ?_
          refine lv_iload hx hb dX2_work_44 (lv_at hl 0 rfl) ?_
          refine mf_q X I (lv_at hl 3 rfl) dX2_work_46 dX2_work_47 ?_
          refine lv_iload_n hx hb dX2_work_50 rfl (lv_at hl 4 rfl) ?_
          refine ml_q X I i rfl (by omega) (v := nQ N i) e7 dX2_work_51 ?_
          refine lv_imul hx hb dX2_work_52 ?_
          refine lv_iadd hx hb dX2_work_53 ?_
          refine m_callv X I (rest := []) (metX2_write l D c1 c2 h ad A σ1 (pl_src (nP N i) (nQ N i) 0 k) ((nP N i) + ((nI k) * (nQ N i))) hM) (cwX2_write X.2.2.2.2.1 rfl rfl ⟨Nat.le_of_ble_eq_true rfl, Nat.le_of_ble_eq_true rfl⟩) rfl hl.1 rfl (Nat.le_of_ble_eq_true rfl) ⟨Nat.zero_le _, Nat.zero_le _⟩ dX2_work_54 (fun σ2 H locs hw I => ?_)
          obtain ⟨hFw, hM2⟩ := hw
          refine lv_iinc (v := nI (k + 1)) (lv' := [(4, .int (nI (k + 1))), (3, .int (nI 0)), (2, .int (nI (na N i))), (0, .ref h), (1, .int (nI i))]) hx hb dX2_work_57 hl (k := 0) rfl (nI_1 k) (by decide) rfl (fun ls hl => ?_)
          refine lv_goto (tgt := 26) hx hb dX2_work_60 (by decide) ?_
          exact ih (k + 1) σ2 (by omega) (by omega) (fun f q1 q2 => (hFw f q1 q2).trans (hF f q1 q2)) (by rw [pl_src_snoc]; exact hM2) H locs I ls (lv_sub hl [0, 1, 2, 3, 4] rfl)
    refine lv_iconst (v := nI 0) hx hb dX2_work_23 (by decide) ?_
    refine lv_istore (lv' := [(4, .int (nI 0)), (3, .int (nI 0)), (2, .int (nI (na N i))), (0, .ref h), (1, .int (nI i))]) hx hb dX2_work_24 hl (by decide) rfl (fun ls hl => ?_)
    exact sloop (nb N i + 1) 0 (su σ 13 0 (nI 0)) (by omega) (by omega) (fun f q1 q2 => su_other q2) hM0 _ _ I ls hl
end
section
def mTt (τ : KS) (w : Nat → Nat) : Nat := ks_sum (fun x => (mS τ w x).length) 10
/-- all that settle's rounds keep -/
def mRd (N : Net) (τ : KS) (w : Nat → Nat) : Prop := mNet N τ ∧ mSz τ w ∧ pl_MK N (mS τ w)
def mOutOk (N : Net) (τ : KS) (w : Nat → Nat) (i : Nat) : Prop := (pl_out N i (mS τ w)).take 20 = mS τ w (nc N i)
/-- what one process of a round does, once its streams are stored -/
theorem mProc {N : Net} {τ τ' : KS} {w w' : Nat → Nat} (h : mRd N τ w) {i : Nat} (hi : i < N.1) (hN' : mNet N τ') (hz' : mSz τ' w') (hSw : ∀ x, x < 10 → nWr N i x → mS τ' w' x = (pl_out N i (mS τ w)).take 20) (hSo : ∀ x, x < 10 → ¬ nWr N i x → mS τ' w' x = mS τ w x) :
    mRd N τ' w' ∧ mTt τ w ≤ mTt τ' w' ∧ ((w (nc N i) < ((pl_out N i (mS τ w)).take 20).length → mTt τ w < mTt τ' w') ∧ (¬ w (nc N i) < ((pl_out N i (mS τ w)).take 20).length → mOutOk N τ' w' i ∧ ∀ j, j < N.1 → mOutOk N τ w j → mOutOk N τ' w' j)) := by
  obtain ⟨hN, hz, hK⟩ := h
  have hOk := hN.1
  have hc := (hOk.2.1 i hi).2.2.1
  obtain ⟨k1, k2⟩ := pl_MK_step hOk hK hi hSw hSo
  have e1 := hSw _ hc (Or.inl rfl)
  refine ⟨⟨hN', hz', k1⟩, ks_sum_le (fun x hx => (k2 x hx).length_le), fun q => mTot k2 ⟨nc N i, hc, by rw [e1, mS_len]; exact q⟩, fun q => ?_⟩
  obtain ⟨m1, m2⟩ := mStep hOk hK hi hSw hSo (by rw [e1, mS_len]; omega)
  refine ⟨m2, fun j hj hq => ?_⟩
  unfold mOutOk at hq ⊢
  rw [pl_out_congr hOk m1 hj, m1 _ (hOk.2.1 j hj).2.2.1]
  exact hq

set_option maxHeartbeats 4000000 in
set_option maxRecDepth 100000 in
theorem metX2_settle (l : Launch) (D : va_G) (c1 c2 : ClassId) (h : Nat) (ad : Nat → Nat) (A : Nat → Prop) (σ : KS) (N : Net) (hN : mNet N σ) :
    Met l yX2_settle (ws_ yX2_settle cX2_settle 4 none) ({ frames := 3, cells := 0, slots := 0, locals := 76 } : Room) (mP D c1 c2 h ad A σ []) (va_Qv (fun (σ' : KS) => mNet N σ' ∧ ∃ w, mSz σ' w ∧ pl_Lfp N (mS σ' w)) (mB D c1 c2 h ad A) A) 0 0 A := by
  refine mM_of (by decide) rfl (Nat.le_of_ble_eq_true rfl) ?_
  intro p e s m args below meth c ls X hr hlocks I hl
  have hl : lv_has ls 4 [(0, .ref h)] := hl
  have hx := X.1
  have hb := X.2.1
  have hn8 := hN.1.1
  have main : ∀ (f rd : Nat) (g : Int32) (σ1 : KS) (w : Nat → Nat), 201 - rd < f → rd ≤ 201 → mRd N σ1 w → ((g = nI 1 ∧ rd ≤ mTt σ1 w) ∨ (g = nI 0 ∧ ∀ j, j < N.1 → mOutOk N σ1 w j)) → ∀ (H : Heap) (locs : List Loc), mI D c1 c2 h ad A s.heap σ1 H locs → ∀ ls : Array Slot, lv_has ls 4 [(2, .int (nI rd)), (1, .int g), (0, .ref h)] → W p l e ({ frames := 3, cells := 0, slots := 0, locals := 76 } : Room) s m args below meth c H locs 0 0 (MQ below (va_Qv (fun (σ' : KS) => mNet N σ' ∧ ∃ w, mSz σ' w ∧ pl_Lfp N (mS σ' w)) (mB D c1 c2 h ad A) A) args s 0 0 A) (F0 m 25 ls []) := by
    intro f
    induction f with
    | zero =>
      intro rd g σ1 w q1
      exact absurd q1 (by omega)
    | succ f ih =>
      intro rd g σ1 w hf hrd hR hg H locs I ls hl
      have htot : mTt σ1 w ≤ 200 := mTot_le (fun x hx => by rw [mS_len]; exact (hR.2.1 x hx).2)
      have inner : rd < 201 → rd ≤ mTt σ1 w → ∀ (f2 i : Nat) (g : Int32) (σ2 : KS) (w2 : Nat → Nat), N.1 - i < f2 → i ≤ N.1 → mRd N σ2 w2 → mTt σ1 w ≤ mTt σ2 w2 → ((g = nI 0 ∧ ∀ j, j < i → mOutOk N σ2 w2 j) ∨ (g = nI 1 ∧ mTt σ1 w < mTt σ2 w2)) → ∀ (H : Heap) (locs : List Loc), mI D c1 c2 h ad A s.heap σ2 H locs → ∀ ls : Array Slot, lv_has ls 4 [(3, .int (nI i)), (1, .int g), (2, .int (nI rd)), (0, .ref h)] → W p l e ({ frames := 3, cells := 0, slots := 0, locals := 76 } : Room) s m args below meth c H locs 0 0 (MQ below (va_Qv (fun (σ' : KS) => mNet N σ' ∧ ∃ w, mSz σ' w ∧ pl_Lfp N (mS σ' w)) (mB D c1 c2 h ad A) A) args s 0 0 A) (F0 m 40 ls []) := by
        intro hrd2 hrt f2
        induction f2 with
        | zero =>
          intro i g σ2 w2 q1
          exact absurd q1 (by omega)
        | succ f2 ih2 =>
          intro i g σ2 w2 hf2 hi hR2 hle hg2 H locs I ls hl
          have hn := hR2.1.2.1
          refine lv_iload_n hx hb dX2_settle_40 rfl (lv_at hl 0 rfl) ?_
          refine mf_n X I (v := nI N.1) hn (lv_at hl 3 rfl) dX2_settle_41 dX2_settle_42 ?_
          refine lv_icmp_ge (tgt := 99) hx hb dX2_settle_45 (by decide) (fun b1 => ?_) (fun b1 => ?_)
          · have b1 : N.1 ≤ i := (nI_leI (a := N.1) (b := i) (by omega) (by omega)).mp b1
            refine lv_iinc (v := nI (rd + 1)) (lv' := [(2, .int (nI (rd + 1))), (3, .int (nI i)), (1, .int g), (0, .ref h)]) hx hb dX2_settle_99 hl (k := 2) rfl (nI_1 rd) (by decide) rfl (fun ls hl => ?_)
            refine lv_goto (tgt := 25) hx hb dX2_settle_102 (by decide) ?_
            exact ih (rd + 1) g σ2 w2 (by omega) (by omega) hR2 (by
              rcases hg2 with ⟨q1, q2⟩ | ⟨q1, q2⟩
              · exact Or.inr ⟨q1, fun j hj => q2 j (by omega)⟩
              · exact Or.inl ⟨q1, by omega⟩) H locs I ls (lv_sub hl [0, 2, 3] rfl)
          · have b1 : ¬ N.1 ≤ i := fun q => b1 ((nI_leI (a := N.1) (b := i) (by omega) (by omega)).mpr q)
            have hi2 : i < N.1 := by omega
            obtain ⟨f1, f2', f3, f4, f5, f6, f7⟩ := hR2.1.2.2.1 i hi2
            obtain ⟨g1, g2, g3, g4, g5, g6, g7, g8⟩ := hR2.1.1.2.1 i hi2
            refine lv_aload_n hx hb dX2_settle_48 rfl (lv_at hl 3 rfl) ?_
            refine lv_iload_n hx hb dX2_settle_49 rfl (lv_at hl 0 rfl) ?_
            refine m_callv X I (rest := []) (metX2_work l D c1 c2 h ad A σ2 N w2 hR2.1 hR2.2.1 i hi2) (cwX2_work X.2.2.2.2.1 rfl rfl ⟨Nat.le_of_ble_eq_true rfl, Nat.le_of_ble_eq_true rfl⟩) rfl hl.1 rfl (Nat.le_of_ble_eq_true rfl) ⟨Nat.zero_le _, Nat.zero_le _⟩ dX2_settle_50 (fun σ3 H locs hw I => ?_)
            obtain ⟨hF3, hM3⟩ := hw
            have hz3 : mSz σ3 w2 := fun x hx => by rw [hF3 10 (by decide) (by decide)]; exact hR2.2.1 x hx
            have hS3 : ∀ x, mS σ3 w2 x = mS σ2 w2 x := fun x => by
              unfold mS
              rw [hF3 11 (by decide) (by decide)]
            have d4 : σ3 4 i = nI (nc N i) := by rw [hF3 4 (by decide) (by decide)]; exact f4
            refine lv_aload_n hx hb dX2_settle_53 rfl (lv_at hl 3 rfl) ?_
            refine mf_c X I (lv_at hl 3 rfl) dX2_settle_54 dX2_settle_55 ?_
            refine lv_iload_n hx hb dX2_settle_58 rfl (lv_at hl 0 rfl) ?_
            refine ml_c X I i rfl (by omega) (v := nI (nc N i)) d4 dX2_settle_59 ?_
            refine m_calli X I (rest := []) (metX2_store l D c1 c2 h ad A σ3 w2 hz3 (pl_out N i (mS σ2 w2)) hM3 (nc N i) g3) (cwX2_store X.2.2.2.2.1 rfl rfl ⟨Nat.le_of_ble_eq_true rfl, Nat.le_of_ble_eq_true rfl⟩) rfl hl.1 rfl (Nat.le_of_ble_eq_true rfl) ⟨Nat.zero_le _, Nat.zero_le _⟩ dX2_settle_60 (fun r1 σ4 H locs hw I => ?_)
            obtain ⟨hr1, hF4, hz4, hS4, hS4o⟩ := hw
            have hN4 : mNet N σ4 := mNet_congr hR2.1 (fun f hf => (hF4 f (by omega) (by omega)).trans (hF3 f (by omega) (by omega)))
            have hM4 : mM σ4 (pl_out N i (mS σ2 w2)) := mM_congr hM3 (hF4 12 (by decide) (by decide)) (hF4 13 (by decide) (by decide))
            have d1 : σ4 1 i = nI (nk N i) := (hN4.2.2.1 i hi2).1
            have d5 : σ4 5 i = nI (nd N i) := (hN4.2.2.1 i hi2).2.2.2.2.1
            have tail : ∀ (g1 : Int32), ((r1 = 0 ∧ g1 = g) ∨ (r1 = 1 ∧ g1 = nI 1)) → ∀ (H : Heap) (locs : List Loc), mI D c1 c2 h ad A s.heap σ4 H locs → ∀ ls : Array Slot, lv_has ls 4 [(1, .int g1), (3, .int (nI i)), (2, .int (nI rd)), (0, .ref h)] → W p l e ({ frames := 3, cells := 0, slots := 0, locals := 76 } : Room) s m args below meth c H locs 0 0 (MQ below (va_Qv (fun (σ' : KS) => mNet N σ' ∧ ∃ w, mSz σ' w ∧ pl_Lfp N (mS σ' w)) (mB D c1 c2 h ad A) A) args s 0 0 A) (F0 m 68 ls []) := by
              intro g1 hg1 H locs I ls hl
              refine mf_kind X I (lv_at hl 3 rfl) dX2_settle_68 dX2_settle_69 ?_
              refine lv_iload_n hx hb dX2_settle_72 rfl (lv_at hl 1 rfl) ?_
              refine ml_kind X I i rfl (by omega) (v := nI (nk N i)) d1 dX2_settle_73 ?_
              refine lv_iconst (v := nI 1) hx hb dX2_settle_74 (by decide) ?_
              refine lv_icmp_ne (tgt := 93) hx hb dX2_settle_75 (by decide) (fun k1 => ?_) (fun k1 => ?_)
              · have k1 : ¬ (nk N i) = 1 := fun q => k1 ((nI_eq (a := (nk N i)) (b := 1) (by omega) (by omega)).mpr q)
                refine lv_iinc (v := nI (i + 1)) (lv' := [(3, .int (nI (i + 1))), (1, .int g1), (2, .int (nI rd)), (0, .ref h)]) hx hb dX2_settle_93 hl (k := 1) rfl (nI_1 i) (by decide) rfl (fun ls hl => ?_)
                refine lv_goto (tgt := 40) hx hb dX2_settle_96 (by decide) ?_
                obtain ⟨p1, p2, p3, p4⟩ := mProc (τ' := σ4) (w' := nup w2 (nc N i) ((pl_out N i (mS σ2 w2)).take 20).length) hR2 hi2 hN4 hz4 (fun x hx hq => by
                  rcases hq with z | ⟨z, -⟩
                  · rw [← z]; exact hS4
                  · exact absurd z k1) (fun x hx hq => by
                  rw [hS4o x hx (fun z => hq (Or.inl z.symm)), hS3])
                exact ih2 (i + 1) g1 σ4 _ (by omega) (by omega) p1 (by omega) (by
                  rcases hg1 with ⟨q1, q2⟩ | ⟨q1, q2⟩
                  · have hq := vB_eq0 hr1 q1
                    obtain ⟨o1, o2⟩ := p4 hq
                    rcases hg2 with ⟨y1, y2⟩ | ⟨y1, y2⟩
                    · exact Or.inl ⟨q2.trans y1, fun j hj => by
                        rcases Nat.lt_succ_iff_lt_or_eq.mp hj with z | z
                        · exact o2 j (by omega) (y2 j z)
                        · subst z
                          exact o1⟩
                    · exact Or.inr ⟨q2.trans y1, by omega⟩
                  · have hq := vB_ne0 hr1 (by rw [q1]; decide)
                    exact Or.inr ⟨q2, Nat.lt_of_le_of_lt hle (p3 hq)⟩) H locs I ls (lv_sub hl [0, 1, 2, 3] rfl)
              · have k1 : (nk N i) = 1 := (nI_eq (a := (nk N i)) (b := 1) (by omega) (by omega)).mp k1
                refine lv_aload_n hx hb dX2_settle_78 rfl (lv_at hl 3 rfl) ?_
                refine mf_d X I (lv_at hl 3 rfl) dX2_settle_79 dX2_settle_80 ?_
                refine lv_iload_n hx hb dX2_settle_83 rfl (lv_at hl 1 rfl) ?_
                refine ml_d X I i rfl (by omega) (v := nI (nd N i)) d5 dX2_settle_84 ?_
                refine m_calli X I (rest := []) (metX2_store l D c1 c2 h ad A σ4 _ hz4 (pl_out N i (mS σ2 w2)) hM4 (nd N i) g4) (cwX2_store X.2.2.2.2.1 rfl rfl ⟨Nat.le_of_ble_eq_true rfl, Nat.le_of_ble_eq_true rfl⟩) rfl hl.1 rfl (Nat.le_of_ble_eq_true rfl) ⟨Nat.zero_le _, Nat.zero_le _⟩ dX2_settle_85 (fun r2 σ5 H locs hw I => ?_)
                obtain ⟨hr2, hF5, hz5, hS5, hS5o⟩ := hw
                have hcd := g8 k1
                have hN5 : mNet N σ5 := mNet_congr hN4 (fun f hf => hF5 f (by omega) (by omega))
                rw [nup_ne (fun z => hcd z.symm)] at hr2
                have hdc : w2 (nd N i) = w2 (nc N i) := by
                  have := congrArg List.length (hR2.2.2.2.2.2.1 i hi2 k1)
                  rwa [mS_len, mS_len] at this
                rw [hdc] at hr2
                obtain ⟨p1, p2, p3, p4⟩ := mProc (τ' := σ5) (w' := nup (nup w2 (nc N i) ((pl_out N i (mS σ2 w2)).take 20).length) (nd N i) ((pl_out N i (mS σ2 w2)).take 20).length) hR2 hi2 hN5 hz5 (fun x hx hq => by
                  rcases hq with z | ⟨-, z⟩
                  · rw [← z, hS5o _ g3 hcd]; exact hS4
                  · rw [← z]; exact hS5) (fun x hx hq => by
                  rw [hS5o x hx (fun z => hq (Or.inr ⟨k1, z.symm⟩)), hS4o x hx (fun z => hq (Or.inl z.symm)), hS3])
                refine lv_if_eq (tgt := 93) hx hb dX2_settle_88 (by decide) (fun b5 => ?_) (fun b5 => ?_)
                · refine lv_iinc (v := nI (i + 1)) (lv' := [(3, .int (nI (i + 1))), (1, .int g1), (2, .int (nI rd)), (0, .ref h)]) hx hb dX2_settle_93 hl (k := 1) rfl (nI_1 i) (by decide) rfl (fun ls hl => ?_)
                  refine lv_goto (tgt := 40) hx hb dX2_settle_96 (by decide) ?_
                  exact ih2 (i + 1) g1 σ5 _ (by omega) (by omega) p1 (by omega) (by
                    rcases hg1 with ⟨q1, q2⟩ | ⟨q1, q2⟩
                    · have hq := vB_eq0 hr1 q1
                      obtain ⟨o1, o2⟩ := p4 hq
                      rcases hg2 with ⟨y1, y2⟩ | ⟨y1, y2⟩
                      · exact Or.inl ⟨q2.trans y1, fun j hj => by
                          rcases Nat.lt_succ_iff_lt_or_eq.mp hj with z | z
                          · exact o2 j (by omega) (y2 j z)
                          · subst z
                            exact o1⟩
                      · exact Or.inr ⟨q2.trans y1, by omega⟩
                    · have hq := vB_ne0 hr1 (by rw [q1]; decide)
                      exact Or.inr ⟨q2, Nat.lt_of_le_of_lt hle (p3 hq)⟩) H locs I ls (lv_sub hl [0, 1, 2, 3] rfl)
                · refine lv_iconst (v := nI 1) hx hb dX2_settle_91 (by decide) ?_
                  refine lv_istore_n (lv' := [(1, .int (nI 1)), (3, .int (nI i)), (2, .int (nI rd)), (0, .ref h)]) hx hb dX2_settle_92 rfl hl (by decide) rfl (fun ls hl => ?_)
                  refine lv_iinc (v := nI (i + 1)) (lv' := [(3, .int (nI (i + 1))), (1, .int (nI 1)), (2, .int (nI rd)), (0, .ref h)]) hx hb dX2_settle_93 hl (k := 1) rfl (nI_1 i) (by decide) rfl (fun ls hl => ?_)
                  refine lv_goto (tgt := 40) hx hb dX2_settle_96 (by decide) ?_
                  exact ih2 (i + 1) (nI 1) σ5 _ (by omega) (by omega) p1 (by omega) (Or.inr ⟨rfl, Nat.lt_of_le_of_lt hle (p3 (vB_ne0 hr2 b5))⟩) H locs I ls (lv_sub hl [0, 1, 2, 3] rfl)
            refine lv_if_eq (tgt := 68) hx hb dX2_settle_63 (by decide) (fun b4 => ?_) (fun b4 => ?_)
            · exact tail g (Or.inl ⟨b4, rfl⟩) H locs I ls (lv_sub hl [1, 0, 2, 3] rfl)
            · refine lv_iconst (v := nI 1) hx hb dX2_settle_66 (by decide) ?_
              refine lv_istore_n (lv' := [(1, .int (nI 1)), (3, .int (nI i)), (2, .int (nI rd)), (0, .ref h)]) hx hb dX2_settle_67 rfl hl (by decide) rfl (fun ls hl => ?_)
              exact tail (nI 1) (Or.inr ⟨hr1.elim (fun q => q.1) (fun q => absurd q.1 b4), rfl⟩) H locs I ls (lv_sub hl [0, 1, 2, 3] rfl)
      refine lv_iload_n hx hb dX2_settle_25 rfl (lv_at hl 0 rfl) ?_
      refine lv_sipush (v := nI 201) hx hb dX2_settle_26 (by decide) ?_
      refine lv_icmp_ge (tgt := 105) hx hb dX2_settle_29 (by decide) (fun b1 => ?_) (fun b1 => ?_)
      · have b1 : 201 ≤ rd := (nI_leI (a := 201) (b := rd) (by omega) (by omega)).mp b1
        exact m_vret X I hr hlocks ⟨hR.1, w, hR.2.1, pl_MK_done hR.2.2 (by
            rcases hg with ⟨-, q⟩ | ⟨-, q⟩
            · omega
            · exact q)⟩ dX2_settle_105
      · have b1 : ¬ 201 ≤ rd := fun q => b1 ((nI_leI (a := 201) (b := rd) (by omega) (by omega)).mpr q)
        refine lv_iload_n hx hb dX2_settle_32 rfl (lv_at hl 1 rfl) ?_
        refine lv_if_eq (tgt := 105) hx hb dX2_settle_33 (by decide) (fun b2 => ?_) (fun b2 => ?_)
        · exact m_vret X I hr hlocks ⟨hR.1, w, hR.2.1, pl_MK_done hR.2.2 (by
              rcases hg with ⟨q, -⟩ | ⟨-, q⟩
              · exact absurd (q.symm.trans b2) (by decide)
              · exact q)⟩ dX2_settle_105
        · have hrt : rd ≤ mTt σ1 w := by
            rcases hg with ⟨-, q⟩ | ⟨q, -⟩
            · exact q
            · exact absurd (q.trans nI_0) b2
          refine lv_iconst (v := nI 0) hx hb dX2_settle_36 (by decide) ?_
          refine lv_istore_n (lv' := [(1, .int (nI 0)), (2, .int (nI rd)), (0, .ref h)]) hx hb dX2_settle_37 rfl hl (by decide) rfl (fun ls hl => ?_)
          refine lv_iconst (v := nI 0) hx hb dX2_settle_38 (by decide) ?_
          refine lv_istore_n (lv' := [(3, .int (nI 0)), (1, .int (nI 0)), (2, .int (nI rd)), (0, .ref h)]) hx hb dX2_settle_39 rfl hl (by decide) rfl (fun ls hl => ?_)
          exact inner (by omega) hrt (N.1 + 1) 0 (nI 0) σ1 w (by omega) (by omega) hR (Nat.le_refl _) (Or.inl ⟨rfl, fun j hj => absurd hj (by omega)⟩) H locs I ls (lv_sub hl [0, 1, 2, 3] rfl)
  have loop0 : ∀ (f i : Nat) (σ1 : KS), 10 - i < f → i ≤ 10 → mNet N σ1 → (∀ x, x < i → σ1 10 x = nI 0) → ∀ (H : Heap) (locs : List Loc), mI D c1 c2 h ad A s.heap σ1 H locs → ∀ ls : Array Slot, lv_has ls 4 [(1, .int (nI i)), (0, .ref h)] → W p l e ({ frames := 3, cells := 0, slots := 0, locals := 76 } : Room) s m args below meth c H locs 0 0 (MQ below (va_Qv (fun (σ' : KS) => mNet N σ' ∧ ∃ w, mSz σ' w ∧ pl_Lfp N (mS σ' w)) (mB D c1 c2 h ad A) A) args s 0 0 A) (F0 m 2 ls []) := by
    intro f
    induction f with
    | zero =>
      intro i σ1 q1
      exact absurd q1 (by omega)
    | succ f ih =>
      intro i σ1 hf hi hN1 hZ H locs I ls hl
      refine lv_iload_n hx hb dX2_settle_2 rfl (lv_at hl 0 rfl) ?_
      refine lv_bipush (v := nI 10) hx hb dX2_settle_3 (by decide) ?_
      refine lv_icmp_ge (tgt := 21) hx hb dX2_settle_5 (by decide) (fun b1 => ?_) (fun b1 => ?_)
      · have b1 : 10 ≤ i := (nI_leI (a := 10) (b := i) (by omega) (by omega)).mp b1
        refine lv_iconst (v := nI 1) hx hb dX2_settle_21 (by decide) ?_
        refine lv_istore_n (lv' := [(1, .int (nI 1)), (0, .ref h)]) hx hb dX2_settle_22 rfl hl (by decide) rfl (fun ls hl => ?_)
        refine lv_iconst (v := nI 0) hx hb dX2_settle_23 (by decide) ?_
        refine lv_istore_n (lv' := [(2, .int (nI 0)), (1, .int (nI 1)), (0, .ref h)]) hx hb dX2_settle_24 rfl hl (by decide) rfl (fun ls hl => ?_)
        exact main 202 0 (nI 1) σ1 (fun _ => 0) (by omega) (by omega) ⟨hN1, fun x hx => ⟨hZ x (by omega), Nat.zero_le _⟩, pl_MK_start (fun x _ => rfl) hN1.1⟩ (Or.inl ⟨rfl, Nat.zero_le _⟩) H locs I ls (lv_sub hl [0, 1, 2] rfl)
      · have b1 : ¬ 10 ≤ i := fun q => b1 ((nI_leI (a := 10) (b := i) (by omega) (by omega)).mpr q)
        refine mf_size X I (lv_at hl 1 rfl) dX2_settle_8 dX2_settle_9 ?_
        refine lv_iload_n hx hb dX2_settle_12 rfl (lv_at hl 0 rfl) ?_
        refine lv_iconst (v := nI 0) hx hb dX2_settle_13 (by decide) ?_
        refine ms_size X I i rfl (by omega) dX2_settle_14 (fun H locs I => ?_)
        refine lv_iinc (v := nI (i + 1)) (lv' := [(1, .int (nI (i + 1))), (0, .ref h)]) hx hb dX2_settle_15 hl (k := 0) rfl (nI_1 i) (by decide) rfl (fun ls hl => ?_)
        refine lv_goto (tgt := 2) hx hb dX2_settle_18 (by decide) ?_
        exact ih (i + 1) (su σ1 10 i (nI 0)) (by omega) (by omega) (mNet_congr hN1 (fun f hf => su_other (by omega))) (fun x hx => by
          rcases Nat.lt_succ_iff_lt_or_eq.mp hx with z | z
          · rw [su_ne (by omega)]
            exact hZ x z
          · subst z
            exact su_at _ _ _ _) H locs I ls (lv_sub hl [0, 1] rfl)
  refine lv_iconst (v := nI 0) hx hb dX2_settle_0 (by decide) ?_
  refine lv_istore_n (lv' := [(1, .int (nI 0)), (0, .ref h)]) hx hb dX2_settle_1 rfl hl (by decide) rfl (fun ls hl => ?_)
  exact loop0 11 0 σ (by omega) (by omega) hN (fun x hx => absurd hx (by omega)) _ _ I ls hl
end
section
theorem sRd_add {N : Net} {k a b c d : Nat} {p q : Int32} {x : Nat} : sRd (nAdd N k a b c d p q) x ↔ sRd N x ∨ (k ≠ 0 ∧ (a = x ∨ ((k = 2 ∨ k = 5) ∧ b = x))) := by
  constructor
  · rintro ⟨i, hi, h⟩
    have hi2 : i < N.1 + 1 := hi
    by_cases e : i < N.1
    · exact Or.inl ⟨i, e, (nAdd_rd e).mp h⟩
    · have e2 : i = N.1 := by omega
      subst e2
      exact Or.inr (nAdd_rdN.mp h)
  · rintro (⟨i, hi, h⟩ | h)
    · exact ⟨i, Nat.lt_succ_of_lt hi, (nAdd_rd hi).mpr h⟩
    · exact ⟨N.1, Nat.lt_succ_self _, nAdd_rdN.mpr h⟩
theorem sWr_add {N : Net} {k a b c d : Nat} {p q : Int32} {x : Nat} : sWr (nAdd N k a b c d p q) x ↔ sWr N x ∨ (c = x ∨ (k = 1 ∧ d = x)) := by
  constructor
  · rintro ⟨i, hi, h⟩
    have hi2 : i < N.1 + 1 := hi
    by_cases e : i < N.1
    · exact Or.inl ⟨i, e, (nAdd_wr e).mp h⟩
    · have e2 : i = N.1 := by omega
      subst e2
      exact Or.inr (nAdd_wrN.mp h)
  · rintro (⟨i, hi, h⟩ | h)
    · exact ⟨i, Nat.lt_succ_of_lt hi, (nAdd_wr hi).mpr h⟩
    · exact ⟨N.1, Nat.lt_succ_self _, nAdd_wrN.mpr h⟩
theorem vB_upd {f : Nat → Int32} {P : Nat → Prop} {a : Nat} (h : ∀ x, x < 10 → vB (f x) (P x)) : ∀ x, x < 10 → vB (upd f a (nI 1) x) (P x ∨ a = x) := by
  intro x hx
  by_cases e : x = a
  · subst e
    rw [pk_us]
    exact vB_1 (Or.inr rfl)
  · rw [pk_un e]
    exact vB_iff (h x hx) ⟨Or.inl, fun q => q.elim id (fun z => absurd z.symm e)⟩
theorem mNet_add {N : Net} {k a b c d : Nat} {p q : Int32} {σ σ' : KS} (hN : mNet N σ) (hok : nOk (nAdd N k a b c d p q)) (h0 : σ' 0 0 = nI (N.1 + 1)) (hold : ∀ f, 1 ≤ f → f ≤ 7 → ∀ i, i < N.1 → σ' f i = σ f i)
    (n1 : σ' 1 N.1 = nI k) (n2 : σ' 2 N.1 = nI a) (n3 : σ' 3 N.1 = nI b) (n4 : σ' 4 N.1 = nI c) (n5 : σ' 5 N.1 = nI d) (n6 : σ' 6 N.1 = p) (n7 : k = 0 → σ' 7 N.1 = q)
    (h8 : ∀ x, x < 10 → vB (σ' 8 x) (sRd N x ∨ (k ≠ 0 ∧ (a = x ∨ ((k = 2 ∨ k = 5) ∧ b = x))))) (h9 : ∀ x, x < 10 → vB (σ' 9 x) (sWr N x ∨ (c = x ∨ (k = 1 ∧ d = x)))) : mNet (nAdd N k a b c d p q) σ' := by
  obtain ⟨hOk, hn, hp, hrw⟩ := hN
  refine ⟨hok, h0, fun i hi => ?_, fun x hx => ⟨vB_iff (h8 x hx) sRd_add.symm, vB_iff (h9 x hx) sWr_add.symm⟩⟩
  have hi2 : i < N.1 + 1 := hi
  by_cases u : i < N.1
  · obtain ⟨e1, e2, e3, e4, e5, e6, e7⟩ := nAdd_old (k := k) (a := a) (b := b) (c := c) (d := d) (p := p) (q := q) u
    rw [e1, e2, e3, e4, e5, e6, e7, hold 1 (by decide) (by decide) i u, hold 2 (by decide) (by decide) i u, hold 3 (by decide) (by decide) i u, hold 4 (by decide) (by decide) i u, hold 5 (by decide) (by decide) i u, hold 6 (by decide) (by decide) i u, hold 7 (by decide) (by decide) i u]
    exact hp i u
  · have e : i = N.1 := by omega
    subst e
    obtain ⟨e1, e2, e3, e4, e5, e6, e7⟩ := nAdd_nk (N := N) (k := k) (a := a) (b := b) (c := c) (d := d) (p := p) (q := q)
    rw [e1, e2, e3, e4, e5, e6, e7]
    exact ⟨n1, n2, n3, n4, n5, n6, n7⟩
theorem sIn2 {x : Int32} (h : ¬ sBad x) : ∃ c : Nat, c < 10 ∧ x = nI c := sIn (fun q => h (Or.inl q)) (Int32.not_lt.mp (fun q => h (Or.inr q)))
theorem sRd_zero (N : Net) (x : Nat) : ¬ sRd (0, N.2) x := fun ⟨i, hi, _⟩ => Nat.not_lt_zero i hi
theorem sWr_zero (N : Net) (x : Nat) : ¬ sWr (0, N.2) x := fun ⟨i, hi, _⟩ => Nat.not_lt_zero i hi
end
section
set_option maxHeartbeats 4000000 in
set_option maxRecDepth 100000 in
theorem metX2_length (l : Launch) (D : va_G) (c1 c2 : ClassId) (h : Nat) (ad : Nat → Nat) (A : Nat → Prop) (σ : KS) (N : Net) (hO : mNet N σ) (x0 : Int32) :
    Met l yX2_length (ws_ yX2_length cX2_length 2 (some .int)) ({ frames := 4, cells := 0, slots := 0, locals := 99 } : Room) (mP D c1 c2 h ad A σ [.int x0]) (va_Qi (fun (r : Int32) (σ' : KS) => mNet N σ' ∧ sLen N x0 r) (mB D c1 c2 h ad A) A) 0 0 A := by
  refine mM_of (by decide) rfl (Nat.le_of_ble_eq_true rfl) ?_
  intro p e s m args below meth c ls X hr hlocks I hl
  have hl : lv_has ls 2 [(0, .ref h), (1, .int x0)] := hl
  have hx := X.1
  have hb := X.2.1
  refine lv_aload_n hx hb dX2_length_0 rfl (lv_at hl 0 rfl) ?_
  refine lv_iload_n hx hb dX2_length_1 rfl (lv_at hl 1 rfl) ?_
  refine m_calli X I (rest := []) (metX2_isChannel l D c1 c2 h ad A σ x0) (cwX2_isChannel X.2.2.2.2.1 rfl rfl ⟨Nat.le_of_ble_eq_true rfl, Nat.le_of_ble_eq_true rfl⟩) rfl hl.1 rfl (Nat.le_of_ble_eq_true rfl) ⟨Nat.zero_le _, Nat.zero_le _⟩ dX2_length_2 (fun r_hc σ1 H locs hc I => ?_)
  obtain ⟨hs, hc⟩ := hc
  rw [hs] at I
  refine lv_if_ne (tgt := 10) hx hb dX2_length_5 (by decide) (fun b1 => ?_) (fun b1 => ?_)
  · obtain ⟨c0, hc0, rfl⟩ := sIn2 (vB_ne0 hc b1)
    refine lv_aload_n hx hb dX2_length_10 rfl (lv_at hl 0 rfl) ?_
    refine m_callv X I (rest := []) (metX2_settle l D c1 c2 h ad A σ N hO) (cwX2_settle X.2.2.2.2.1 rfl rfl ⟨Nat.le_of_ble_eq_true rfl, Nat.le_of_ble_eq_true rfl⟩) rfl hl.1 rfl (Nat.le_of_ble_eq_true rfl) ⟨Nat.zero_le _, Nat.zero_le _⟩ dX2_length_11 (fun σ1 H locs hw I => ?_)
    obtain ⟨k1, w, k3, k4⟩ := hw
    refine mf_size X I (lv_at hl 0 rfl) dX2_length_14 dX2_length_15 ?_
    refine lv_iload_n hx hb dX2_length_18 rfl (lv_at hl 1 rfl) ?_
    refine ml_size X I c0 rfl (by omega) (v := nI (w c0)) (k3 c0 hc0).1 dX2_length_19 ?_
    exact m_iret X I hr hlocks ⟨k1, Or.inr ⟨c0, mS σ1 w, hc0, rfl, k4, by rw [mS_len]⟩⟩ dX2_length_20
  · refine lv_iconst (v := -1) hx hb dX2_length_8 (by decide) ?_
    exact m_iret X I hr hlocks ⟨hO, Or.inl ⟨(Classical.byContradiction fun q => vB_eq0 hc b1 q), rfl⟩⟩ dX2_length_9

set_option maxHeartbeats 4000000 in
set_option maxRecDepth 100000 in
theorem metX2_at (l : Launch) (D : va_G) (c1 c2 : ClassId) (h : Nat) (ad : Nat → Nat) (A : Nat → Prop) (σ : KS) (N : Net) (hO : mNet N σ) (x0 x1 : Int32) :
    Met l yX2_at (ws_ yX2_at cX2_at 3 (some .int)) ({ frames := 4, cells := 0, slots := 0, locals := 99 } : Room) (mP D c1 c2 h ad A σ [.int x0, .int x1]) (va_Qi (fun (r : Int32) (σ' : KS) => mNet N σ' ∧ sAt N x0 x1 r) (mB D c1 c2 h ad A) A) 0 0 A := by
  refine mM_of (by decide) rfl (Nat.le_of_ble_eq_true rfl) ?_
  intro p e s m args below meth c ls X hr hlocks I hl
  have hl : lv_has ls 3 [(0, .ref h), (1, .int x0), (2, .int x1)] := hl
  have hx := X.1
  have hb := X.2.1
  refine lv_aload_n hx hb dX2_at_0 rfl (lv_at hl 0 rfl) ?_
  refine lv_iload_n hx hb dX2_at_1 rfl (lv_at hl 1 rfl) ?_
  refine m_calli X I (rest := []) (metX2_isChannel l D c1 c2 h ad A σ x0) (cwX2_isChannel X.2.2.2.2.1 rfl rfl ⟨Nat.le_of_ble_eq_true rfl, Nat.le_of_ble_eq_true rfl⟩) rfl hl.1 rfl (Nat.le_of_ble_eq_true rfl) ⟨Nat.zero_le _, Nat.zero_le _⟩ dX2_at_2 (fun r_hc σ1 H locs hc I => ?_)
  obtain ⟨hs, hc⟩ := hc
  rw [hs] at I
  refine lv_if_ne (tgt := 10) hx hb dX2_at_5 (by decide) (fun b1 => ?_) (fun b1 => ?_)
  · obtain ⟨c0, hc0, rfl⟩ := sIn2 (vB_ne0 hc b1)
    refine lv_aload_n hx hb dX2_at_10 rfl (lv_at hl 0 rfl) ?_
    refine m_callv X I (rest := []) (metX2_settle l D c1 c2 h ad A σ N hO) (cwX2_settle X.2.2.2.2.1 rfl rfl ⟨Nat.le_of_ble_eq_true rfl, Nat.le_of_ble_eq_true rfl⟩) rfl hl.1 rfl (Nat.le_of_ble_eq_true rfl) ⟨Nat.zero_le _, Nat.zero_le _⟩ dX2_at_11 (fun σ1 H locs hw I => ?_)
    obtain ⟨k1, w, k3, k4⟩ := hw
    obtain ⟨k5, k6⟩ := k3 c0 hc0
    refine lv_iload_n hx hb dX2_at_14 rfl (lv_at hl 2 rfl) ?_
    refine lv_if_lt (tgt := 37) hx hb dX2_at_15 (by decide) (fun b3 => ?_) (fun b3 => ?_)
    · refine lv_iconst (v := nI 0) hx hb dX2_at_37 (by decide) ?_
      exact m_iret X I hr hlocks ⟨k1, Or.inr ⟨c0, mS σ1 w, hc0, rfl, k4, by rw [mS_len]; exact k6, Or.inr ⟨Or.inl b3, rfl⟩⟩⟩ dX2_at_38
    · refine lv_iload_n hx hb dX2_at_18 rfl (lv_at hl 2 rfl) ?_
      refine mf_size X I (lv_at hl 0 rfl) dX2_at_19 dX2_at_20 ?_
      refine lv_iload_n hx hb dX2_at_23 rfl (lv_at hl 1 rfl) ?_
      refine ml_size X I c0 rfl (by omega) (v := nI (w c0)) k5 dX2_at_24 ?_
      refine lv_icmp_ge (tgt := 37) hx hb dX2_at_25 (by decide) (fun b4 => ?_) (fun b4 => ?_)
      · refine lv_iconst (v := nI 0) hx hb dX2_at_37 (by decide) ?_
        exact m_iret X I hr hlocks ⟨k1, Or.inr ⟨c0, mS σ1 w, hc0, rfl, k4, by rw [mS_len]; exact k6, Or.inr ⟨Or.inr (by rw [mS_len]; exact b4), rfl⟩⟩⟩ dX2_at_38
      · obtain ⟨j0, hj0, rfl⟩ := nI_of b3
        have b4 : j0 < w c0 := (nI_ltI (by omega) (by omega)).mp (Int32.not_le.mp b4)
        refine lv_aload_n hx hb dX2_at_28 rfl (lv_at hl 0 rfl) ?_
        refine lv_iload_n hx hb dX2_at_29 rfl (lv_at hl 1 rfl) ?_
        refine lv_iload_n hx hb dX2_at_30 rfl (lv_at hl 2 rfl) ?_
        refine m_calli X I (rest := []) (metX2_get l D c1 c2 h ad A σ1 c0 j0 hc0 (by omega)) (cwX2_get X.2.2.2.2.1 rfl rfl ⟨Nat.le_of_ble_eq_true rfl, Nat.le_of_ble_eq_true rfl⟩) rfl hl.1 rfl (Nat.le_of_ble_eq_true rfl) ⟨Nat.zero_le _, Nat.zero_le _⟩ dX2_at_31 (fun rv σ2 H locs hv I => ?_)
        obtain ⟨hs, hv⟩ := hv
        rw [hs] at I
        refine lv_goto (tgt := 38) hx hb dX2_at_34 (by decide) ?_
        exact m_iret X I hr hlocks ⟨k1, Or.inr ⟨c0, mS σ1 w, hc0, rfl, k4, by rw [mS_len]; exact k6, Or.inl ⟨j0, by rw [mS_len]; exact b4, rfl, by rw [hv]; exact kS_get? b4⟩⟩⟩ dX2_at_38
  · refine lv_iconst (v := nI 0) hx hb dX2_at_8 (by decide) ?_
    exact m_iret X I hr hlocks ⟨hO, Or.inl ⟨(Classical.byContradiction fun q => vB_eq0 hc b1 q), rfl⟩⟩ dX2_at_9

set_option maxHeartbeats 4000000 in
set_option maxRecDepth 100000 in
theorem metX2_processes (l : Launch) (D : va_G) (c1 c2 : ClassId) (h : Nat) (ad : Nat → Nat) (A : Nat → Prop) (σ : KS) (N : Net) (hO : mNet N σ) :
    Met l yX2_processes (ws_ yX2_processes cX2_processes 1 (some .int)) ({ frames := 0, cells := 0, slots := 0, locals := 0 } : Room) (mP D c1 c2 h ad A σ []) (va_Qi (fun (r : Int32) (σ' : KS) => mNet N σ' ∧ r = nI N.1) (mB D c1 c2 h ad A) A) 0 0 A := by
  refine mM_of (by decide) rfl (Nat.le_of_ble_eq_true rfl) ?_
  intro p e s m args below meth c ls X hr hlocks I hl
  have hl : lv_has ls 1 [(0, .ref h)] := hl
  have hx := X.1
  have hb := X.2.1
  refine mf_n X I (v := nI N.1) hO.2.1 (lv_at hl 0 rfl) dX2_processes_0 dX2_processes_1 ?_
  exact m_iret X I hr hlocks ⟨hO, rfl⟩ dX2_processes_4

set_option maxHeartbeats 4000000 in
set_option maxRecDepth 100000 in
theorem metX2_total (l : Launch) (D : va_G) (c1 c2 : ClassId) (h : Nat) (ad : Nat → Nat) (A : Nat → Prop) (σ : KS) (N : Net) (hO : mNet N σ) :
    Met l yX2_total (ws_ yX2_total cX2_total 3 (some .int)) ({ frames := 4, cells := 0, slots := 0, locals := 99 } : Room) (mP D c1 c2 h ad A σ []) (va_Qi (fun (r : Int32) (σ' : KS) => mNet N σ' ∧ sTot N r) (mB D c1 c2 h ad A) A) 0 0 A := by
  refine mM_of (by decide) rfl (Nat.le_of_ble_eq_true rfl) ?_
  intro p e s m args below meth c ls X hr hlocks I hl
  have hl : lv_has ls 3 [(0, .ref h)] := hl
  have hx := X.1
  have hb := X.2.1
  refine lv_aload_n hx hb dX2_total_0 rfl (lv_at hl 0 rfl) ?_
  refine m_callv X I (rest := []) (metX2_settle l D c1 c2 h ad A σ N hO) (cwX2_settle X.2.2.2.2.1 rfl rfl ⟨Nat.le_of_ble_eq_true rfl, Nat.le_of_ble_eq_true rfl⟩) rfl hl.1 rfl (Nat.le_of_ble_eq_true rfl) ⟨Nat.zero_le _, Nat.zero_le _⟩ dX2_total_1 (fun σ1 H locs hw I => ?_)
  obtain ⟨k1, w, k3, k4⟩ := hw
  have loop : ∀ (f i : Nat), 10 - i < f → i ≤ 10 → ∀ ls : Array Slot, lv_has ls 3 [(2, .int (nI i)), (1, .int (nI (ks_sum w i))), (0, .ref h)] → W p l e ({ frames := 4, cells := 0, slots := 0, locals := 99 } : Room) s m args below meth c H locs 0 0 (MQ below (va_Qi (fun (r : Int32) (σ' : KS) => mNet N σ' ∧ sTot N r) (mB D c1 c2 h ad A) A) args s 0 0 A) (F0 m 8 ls []) := by
    intro f
    induction f with
    | zero =>
      intro i h1
      exact absurd h1 (by omega)
    | succ f ih =>
      intro i hf hi ls hl
      refine lv_iload_n hx hb dX2_total_8 rfl (lv_at hl 0 rfl) ?_
      refine lv_bipush (v := nI 10) hx hb dX2_total_9 (by decide) ?_
      refine lv_icmp_ge (tgt := 29) hx hb dX2_total_11 (by decide) (fun b1 => ?_) (fun b1 => ?_)
      · have b1 : 10 ≤ i := (nI_leI (a := 10) (b := i) (by omega) (by omega)).mp b1
        have hi10 : i = 10 := by omega
        subst hi10
        refine lv_iload_n hx hb dX2_total_29 rfl (lv_at hl 1 rfl) ?_
        exact m_iret X I hr hlocks ⟨k1, mS σ1 w, k4, by rw [ks_sum_congr (g := w) (fun x _ => mS_len σ1 w x)]⟩ dX2_total_30
      · have b1 : ¬ 10 ≤ i := fun q => b1 ((nI_leI (a := 10) (b := i) (by omega) (by omega)).mpr q)
        refine lv_iload_n hx hb dX2_total_14 rfl (lv_at hl 1 rfl) ?_
        refine mf_size X I (lv_at hl 2 rfl) dX2_total_15 dX2_total_16 ?_
        refine lv_iload_n hx hb dX2_total_19 rfl (lv_at hl 0 rfl) ?_
        refine ml_size X I i rfl (by omega) (v := nI (w i)) (k3 i (by omega)).1 dX2_total_20 ?_
        refine lv_iadd hx hb dX2_total_21 ?_
        refine kv_top (nI_add _ _) ?_
        refine lv_istore_n (lv' := [(1, .int (nI ((ks_sum w i) + (w i)))), (2, .int (nI i)), (0, .ref h)]) hx hb dX2_total_22 rfl hl (by decide) rfl (fun ls hl => ?_)
        refine lv_iinc (v := nI (i + 1)) (lv' := [(2, .int (nI (i + 1))), (1, .int (nI ((ks_sum w i) + (w i)))), (0, .ref h)]) hx hb dX2_total_23 hl (k := 1) rfl (nI_1 i) (by decide) rfl (fun ls hl => ?_)
        refine lv_goto (tgt := 8) hx hb dX2_total_26 (by decide) ?_
        exact ih (i + 1) (by omega) (by omega) ls (lv_sub hl [0, 1, 2] rfl)
  refine lv_iconst (v := nI 0) hx hb dX2_total_4 (by decide) ?_
  refine lv_istore_n (lv' := [(1, .int (nI 0)), (0, .ref h)]) hx hb dX2_total_5 rfl hl (by decide) rfl (fun ls hl => ?_)
  refine lv_iconst (v := nI 0) hx hb dX2_total_6 (by decide) ?_
  refine lv_istore_n (lv' := [(2, .int (nI 0)), (1, .int (nI 0)), (0, .ref h)]) hx hb dX2_total_7 rfl hl (by decide) rfl (fun ls hl => ?_)
  exact loop 11 0 (by omega) (by omega) ls hl

set_option maxHeartbeats 4000000 in
set_option maxRecDepth 100000 in
theorem metX2_firstDifference (l : Launch) (D : va_G) (c1 c2 : ClassId) (h : Nat) (ad : Nat → Nat) (A : Nat → Prop) (σ : KS) (N : Net) (hO : mNet N σ) (x0 x1 : Int32) :
    Met l yX2_firstDifference (ws_ yX2_firstDifference cX2_firstDifference 4 (some .int)) ({ frames := 4, cells := 0, slots := 0, locals := 99 } : Room) (mP D c1 c2 h ad A σ [.int x0, .int x1]) (va_Qi (fun (r : Int32) (σ' : KS) => mNet N σ' ∧ sDif N x0 x1 r) (mB D c1 c2 h ad A) A) 0 0 A := by
  refine mM_of (by decide) rfl (Nat.le_of_ble_eq_true rfl) ?_
  intro p e s m args below meth c ls X hr hlocks I hl
  have hl : lv_has ls 4 [(0, .ref h), (1, .int x0), (2, .int x1)] := hl
  have hx := X.1
  have hb := X.2.1
  refine lv_aload_n hx hb dX2_firstDifference_0 rfl (lv_at hl 0 rfl) ?_
  refine lv_iload_n hx hb dX2_firstDifference_1 rfl (lv_at hl 1 rfl) ?_
  refine m_calli X I (rest := []) (metX2_isChannel l D c1 c2 h ad A σ x0) (cwX2_isChannel X.2.2.2.2.1 rfl rfl ⟨Nat.le_of_ble_eq_true rfl, Nat.le_of_ble_eq_true rfl⟩) rfl hl.1 rfl (Nat.le_of_ble_eq_true rfl) ⟨Nat.zero_le _, Nat.zero_le _⟩ dX2_firstDifference_2 (fun r_hc σ1 H locs hc I => ?_)
  obtain ⟨hs, hc⟩ := hc
  rw [hs] at I
  refine lv_if_eq (tgt := 16) hx hb dX2_firstDifference_5 (by decide) (fun b1 => ?_) (fun b1 => ?_)
  · refine lv_bipush (v := -2) hx hb dX2_firstDifference_16 (by decide) ?_
    exact m_iret X I hr hlocks ⟨hO, Or.inl ⟨Or.inl (Classical.byContradiction fun q => vB_eq0 hc b1 q), rfl⟩⟩ dX2_firstDifference_18
  · refine lv_aload_n hx hb dX2_firstDifference_8 rfl (lv_at hl 0 rfl) ?_
    refine lv_iload_n hx hb dX2_firstDifference_9 rfl (lv_at hl 2 rfl) ?_
    refine m_calli X I (rest := []) (metX2_isChannel l D c1 c2 h ad A σ x1) (cwX2_isChannel X.2.2.2.2.1 rfl rfl ⟨Nat.le_of_ble_eq_true rfl, Nat.le_of_ble_eq_true rfl⟩) rfl hl.1 rfl (Nat.le_of_ble_eq_true rfl) ⟨Nat.zero_le _, Nat.zero_le _⟩ dX2_firstDifference_10 (fun r_hd σ1 H locs hd I => ?_)
    obtain ⟨hs, hd⟩ := hd
    rw [hs] at I
    refine lv_if_ne (tgt := 19) hx hb dX2_firstDifference_13 (by decide) (fun b2 => ?_) (fun b2 => ?_)
    · obtain ⟨c0, hc0, rfl⟩ := sIn2 (vB_ne0 hc b1)
      obtain ⟨d0, hd0, rfl⟩ := sIn2 (vB_ne0 hd b2)
      refine lv_aload_n hx hb dX2_firstDifference_19 rfl (lv_at hl 0 rfl) ?_
      refine m_callv X I (rest := []) (metX2_settle l D c1 c2 h ad A σ N hO) (cwX2_settle X.2.2.2.2.1 rfl rfl ⟨Nat.le_of_ble_eq_true rfl, Nat.le_of_ble_eq_true rfl⟩) rfl hl.1 rfl (Nat.le_of_ble_eq_true rfl) ⟨Nat.zero_le _, Nat.zero_le _⟩ dX2_firstDifference_20 (fun σ1 H locs hw I => ?_)
      obtain ⟨k1, w, k3, k4⟩ := hw
      obtain ⟨k5, k6⟩ := k3 c0 hc0
      obtain ⟨k7, k8⟩ := k3 d0 hd0
      have gs : ∀ x j, j < w x → (mS σ1 w x)[j]? = some (σ1 11 (20 * x + j)) := fun x j hj => kS_get? (σ := fun _ => σ1 11) hj
      have gn : ∀ x j, w x ≤ j → (mS σ1 w x)[j]? = none := fun x j hj => kS_none (σ := fun _ => σ1 11) hj
      have loop : ∀ (f k : Nat), 20 - k < f → k ≤ 20 → (∀ j, j < k → (mS σ1 w c0)[j]? = (mS σ1 w d0)[j]?) → ∀ (H : Heap) (locs : List Loc), mI D c1 c2 h ad A s.heap σ1 H locs → ∀ ls : Array Slot, lv_has ls 4 [(3, .int (nI k)), (0, .ref h), (1, .int (nI c0)), (2, .int (nI d0))] → W p l e ({ frames := 4, cells := 0, slots := 0, locals := 99 } : Room) s m args below meth c H locs 0 0 (MQ below (va_Qi (fun (r : Int32) (σ' : KS) => mNet N σ' ∧ sDif N (nI c0) (nI d0) r) (mB D c1 c2 h ad A) A) args s 0 0 A) (F0 m 25 ls []) := by
        intro f
        induction f with
        | zero =>
          intro k h1
          exact absurd h1 (by omega)
        | succ f ih =>
          intro k hf hk hk3 H locs I ls hl
          have c53 : (k < w c0 ∨ k < w d0) → k < 20 → ∀ ls : Array Slot, lv_has ls 4 [(3, .int (nI k)), (0, .ref h), (1, .int (nI c0)), (2, .int (nI d0))] → W p l e ({ frames := 4, cells := 0, slots := 0, locals := 99 } : Room) s m args below meth c H locs 0 0 (MQ below (va_Qi (fun (r : Int32) (σ' : KS) => mNet N σ' ∧ sDif N (nI c0) (nI d0) r) (mB D c1 c2 h ad A) A) args s 0 0 A) (F0 m 53 ls []) := by
            intro hor hk20 ls hl
            refine lv_iload_n hx hb dX2_firstDifference_53 rfl (lv_at hl 0 rfl) ?_
            refine mf_size X I (lv_at hl 1 rfl) dX2_firstDifference_54 dX2_firstDifference_55 ?_
            refine lv_iload_n hx hb dX2_firstDifference_58 rfl (lv_at hl 2 rfl) ?_
            refine ml_size X I c0 rfl (by omega) (v := nI (w c0)) k5 dX2_firstDifference_59 ?_
            refine lv_icmp_ge (tgt := 88) hx hb dX2_firstDifference_60 (by decide) (fun e1 => ?_) (fun e1 => ?_)
            · have e1 : (w c0) ≤ k := (nI_leI (a := (w c0)) (b := k) (by omega) (by omega)).mp e1
              refine lv_iload_n hx hb dX2_firstDifference_88 rfl (lv_at hl 0 rfl) ?_
              exact m_iret X I hr hlocks ⟨k1, Or.inr ⟨c0, d0, mS σ1 w, hc0, hd0, rfl, rfl, k4, Or.inr ⟨k, by omega, rfl, hk3, (by
                  rw [gn _ _ (by omega), gs _ _ (by omega)]
                  exact fun q => by cases q)⟩⟩⟩ dX2_firstDifference_89
            · have e1 : ¬ (w c0) ≤ k := fun q => e1 ((nI_leI (a := (w c0)) (b := k) (by omega) (by omega)).mpr q)
              refine lv_iload_n hx hb dX2_firstDifference_63 rfl (lv_at hl 0 rfl) ?_
              refine mf_size X I (lv_at hl 1 rfl) dX2_firstDifference_64 dX2_firstDifference_65 ?_
              refine lv_iload_n hx hb dX2_firstDifference_68 rfl (lv_at hl 3 rfl) ?_
              refine ml_size X I d0 rfl (by omega) (v := nI (w d0)) k7 dX2_firstDifference_69 ?_
              refine lv_icmp_ge (tgt := 88) hx hb dX2_firstDifference_70 (by decide) (fun e2 => ?_) (fun e2 => ?_)
              · have e2 : (w d0) ≤ k := (nI_leI (a := (w d0)) (b := k) (by omega) (by omega)).mp e2
                refine lv_iload_n hx hb dX2_firstDifference_88 rfl (lv_at hl 0 rfl) ?_
                exact m_iret X I hr hlocks ⟨k1, Or.inr ⟨c0, d0, mS σ1 w, hc0, hd0, rfl, rfl, k4, Or.inr ⟨k, by omega, rfl, hk3, (by
                    rw [gs _ _ (by omega), gn _ _ (by omega)]
                    exact fun q => by cases q)⟩⟩⟩ dX2_firstDifference_89
              · have e2 : ¬ (w d0) ≤ k := fun q => e2 ((nI_leI (a := (w d0)) (b := k) (by omega) (by omega)).mpr q)
                refine lv_aload_n hx hb dX2_firstDifference_73 rfl (lv_at hl 1 rfl) ?_
                refine lv_iload_n hx hb dX2_firstDifference_74 rfl (lv_at hl 2 rfl) ?_
                refine lv_iload_n hx hb dX2_firstDifference_75 rfl (lv_at hl 0 rfl) ?_
                refine m_calli X I (rest := []) (metX2_get l D c1 c2 h ad A σ1 c0 k hc0 (by omega)) (cwX2_get X.2.2.2.2.1 rfl rfl ⟨Nat.le_of_ble_eq_true rfl, Nat.le_of_ble_eq_true rfl⟩) rfl hl.1 rfl (Nat.le_of_ble_eq_true rfl) ⟨Nat.zero_le _, Nat.zero_le _⟩ dX2_firstDifference_76 (fun ra σ2 H locs ha I => ?_)
                obtain ⟨hs, ha⟩ := ha
                rw [hs] at I
                refine lv_aload_n hx hb dX2_firstDifference_79 rfl (lv_at hl 1 rfl) ?_
                refine lv_iload_n hx hb dX2_firstDifference_80 rfl (lv_at hl 3 rfl) ?_
                refine lv_iload_n hx hb dX2_firstDifference_81 rfl (lv_at hl 0 rfl) ?_
                refine m_calli X I (rest := [.int ra]) (metX2_get l D c1 c2 h ad A σ1 d0 k hd0 (by omega)) (cwX2_get X.2.2.2.2.1 rfl rfl ⟨Nat.le_of_ble_eq_true rfl, Nat.le_of_ble_eq_true rfl⟩) rfl hl.1 rfl (Nat.le_of_ble_eq_true rfl) ⟨Nat.zero_le _, Nat.zero_le _⟩ dX2_firstDifference_82 (fun rb σ2 H locs hb2 I => ?_)
                obtain ⟨hs, hb2⟩ := hb2
                rw [hs] at I
                refine lv_icmp_eq (tgt := 90) hx hb dX2_firstDifference_85 (by decide) (fun e3 => ?_) (fun e3 => ?_)
                · refine lv_iinc (v := nI (k + 1)) (lv' := [(3, .int (nI (k + 1))), (0, .ref h), (1, .int (nI c0)), (2, .int (nI d0))]) hx hb dX2_firstDifference_90 hl (k := 0) rfl (nI_1 k) (by decide) rfl (fun ls hl => ?_)
                  refine lv_goto (tgt := 25) hx hb dX2_firstDifference_93 (by decide) ?_
                  exact ih (k + 1) (by omega) (by omega) (fun j hj => by
                    rcases Nat.lt_succ_iff_lt_or_eq.mp hj with y | y
                    · exact hk3 j y
                    · subst y
                      rw [gs _ _ (by omega), gs _ _ (by omega), ← ha, ← hb2, e3]) H locs I ls (lv_sub hl [0, 1, 2, 3] rfl)
                · refine lv_iload_n hx hb dX2_firstDifference_88 rfl (lv_at hl 0 rfl) ?_
                  exact m_iret X I hr hlocks ⟨k1, Or.inr ⟨c0, d0, mS σ1 w, hc0, hd0, rfl, rfl, k4, Or.inr ⟨k, by omega, rfl, hk3, (by
                      rw [gs _ _ (by omega), gs _ _ (by omega), ← ha, ← hb2]
                      exact fun q => e3 (Option.some.inj q))⟩⟩⟩ dX2_firstDifference_89
          refine lv_iload_n hx hb dX2_firstDifference_25 rfl (lv_at hl 0 rfl) ?_
          refine lv_bipush (v := nI 20) hx hb dX2_firstDifference_26 (by decide) ?_
          refine lv_icmp_ge (tgt := 96) hx hb dX2_firstDifference_28 (by decide) (fun b3 => ?_) (fun b3 => ?_)
          · have b3 : 20 ≤ k := (nI_leI (a := 20) (b := k) (by omega) (by omega)).mp b3
            refine lv_iconst (v := -1) hx hb dX2_firstDifference_96 (by decide) ?_
            exact m_iret X I hr hlocks ⟨k1, Or.inr ⟨c0, d0, mS σ1 w, hc0, hd0, rfl, rfl, k4, Or.inl ⟨rfl, fun j => (by
                by_cases z : j < k
                · exact hk3 j z
                · rw [gn _ _ (by omega), gn _ _ (by omega)])⟩⟩⟩ dX2_firstDifference_97
          · have b3 : ¬ 20 ≤ k := fun q => b3 ((nI_leI (a := 20) (b := k) (by omega) (by omega)).mpr q)
            refine lv_iload_n hx hb dX2_firstDifference_31 rfl (lv_at hl 0 rfl) ?_
            refine mf_size X I (lv_at hl 1 rfl) dX2_firstDifference_32 dX2_firstDifference_33 ?_
            refine lv_iload_n hx hb dX2_firstDifference_36 rfl (lv_at hl 2 rfl) ?_
            refine ml_size X I c0 rfl (by omega) (v := nI (w c0)) k5 dX2_firstDifference_37 ?_
            refine lv_icmp_lt (tgt := 53) hx hb dX2_firstDifference_38 (by decide) (fun b4 => ?_) (fun b4 => ?_)
            · have b4 : k < (w c0) := (nI_ltI (a := k) (b := (w c0)) (by omega) (by omega)).mp b4
              exact c53 (Or.inl b4) (by omega) ls hl
            · have b4 : ¬ k < (w c0) := fun q => b4 ((nI_ltI (a := k) (b := (w c0)) (by omega) (by omega)).mpr q)
              refine lv_iload_n hx hb dX2_firstDifference_41 rfl (lv_at hl 0 rfl) ?_
              refine mf_size X I (lv_at hl 1 rfl) dX2_firstDifference_42 dX2_firstDifference_43 ?_
              refine lv_iload_n hx hb dX2_firstDifference_46 rfl (lv_at hl 3 rfl) ?_
              refine ml_size X I d0 rfl (by omega) (v := nI (w d0)) k7 dX2_firstDifference_47 ?_
              refine lv_icmp_lt (tgt := 53) hx hb dX2_firstDifference_48 (by decide) (fun b5 => ?_) (fun b5 => ?_)
              · have b5 : k < (w d0) := (nI_ltI (a := k) (b := (w d0)) (by omega) (by omega)).mp b5
                exact c53 (Or.inr b5) (by omega) ls hl
              · have b5 : ¬ k < (w d0) := fun q => b5 ((nI_ltI (a := k) (b := (w d0)) (by omega) (by omega)).mpr q)
                refine lv_iconst (v := -1) hx hb dX2_firstDifference_51 (by decide) ?_
                exact m_iret X I hr hlocks ⟨k1, Or.inr ⟨c0, d0, mS σ1 w, hc0, hd0, rfl, rfl, k4, Or.inl ⟨rfl, fun j => (by
                    by_cases z : j < k
                    · exact hk3 j z
                    · rw [gn _ _ (by omega), gn _ _ (by omega)])⟩⟩⟩ dX2_firstDifference_52
      refine lv_iconst (v := nI 0) hx hb dX2_firstDifference_23 (by decide) ?_
      refine lv_istore_n (lv' := [(3, .int (nI 0)), (0, .ref h), (1, .int (nI c0)), (2, .int (nI d0))]) hx hb dX2_firstDifference_24 rfl hl (by decide) rfl (fun ls hl => ?_)
      exact loop 21 0 (by omega) (by omega) (fun j hj => absurd hj (by omega)) _ _ I ls hl
    · refine lv_bipush (v := -2) hx hb dX2_firstDifference_16 (by decide) ?_
      exact m_iret X I hr hlocks ⟨hO, Or.inl ⟨Or.inr (Classical.byContradiction fun q => vB_eq0 hd b2 q), rfl⟩⟩ dX2_firstDifference_18

set_option maxHeartbeats 4000000 in
set_option maxRecDepth 100000 in
theorem metX2_clear (l : Launch) (D : va_G) (c1 c2 : ClassId) (h : Nat) (ad : Nat → Nat) (A : Nat → Prop) (σ : KS) (N : Net) (hO : mNet N σ) :
    Met l yX2_clear (ws_ yX2_clear cX2_clear 3 (some .int)) ({ frames := 0, cells := 0, slots := 0, locals := 0 } : Room) (mP D c1 c2 h ad A σ []) (va_Qi (fun (r : Int32) (σ' : KS) => mNet (0, N.2) σ' ∧ r = nI N.1) (mB D c1 c2 h ad A) A) 0 0 A := by
  refine mM_of (by decide) rfl (Nat.le_of_ble_eq_true rfl) ?_
  intro p e s m args below meth c ls X hr hlocks I hl
  have hl : lv_has ls 3 [(0, .ref h)] := hl
  have hx := X.1
  have hb := X.2.1
  have loop : ∀ (f i : Nat) (σ1 : KS), 10 - i < f → i ≤ 10 → σ1 0 0 = nI 0 → (∀ x, x < i → σ1 8 x = nI 0 ∧ σ1 9 x = nI 0) → ∀ (H : Heap) (locs : List Loc), mI D c1 c2 h ad A s.heap σ1 H locs → ∀ ls : Array Slot, lv_has ls 3 [(2, .int (nI i)), (1, .int (nI N.1)), (0, .ref h)] → W p l e ({ frames := 0, cells := 0, slots := 0, locals := 0 } : Room) s m args below meth c H locs 0 0 (MQ below (va_Qi (fun (r : Int32) (σ' : KS) => mNet (0, N.2) σ' ∧ r = nI N.1) (mB D c1 c2 h ad A) A) args s 0 0 A) (F0 m 12 ls []) := by
    intro f
    induction f with
    | zero =>
      intro i σ1 h1
      exact absurd h1 (by omega)
    | succ f ih =>
      intro i σ1 hf hi h0 hZ H locs I ls hl
      refine lv_iload_n hx hb dX2_clear_12 rfl (lv_at hl 0 rfl) ?_
      refine lv_bipush (v := nI 10) hx hb dX2_clear_13 (by decide) ?_
      refine lv_icmp_ge (tgt := 38) hx hb dX2_clear_15 (by decide) (fun b1 => ?_) (fun b1 => ?_)
      · have b1 : 10 ≤ i := (nI_leI (a := 10) (b := i) (by omega) (by omega)).mp b1
        refine lv_iload_n hx hb dX2_clear_38 rfl (lv_at hl 1 rfl) ?_
        exact m_iret X I hr hlocks ⟨⟨nOk_zero N, h0, fun i hi => absurd hi (Nat.not_lt_zero i), fun x hx => by
            obtain ⟨z1, z2⟩ := hZ x (by omega)
            rw [z1, z2]
            exact ⟨vB_0 (sRd_zero N x), vB_0 (sWr_zero N x)⟩⟩, rfl⟩ dX2_clear_39
      · have b1 : ¬ 10 ≤ i := fun q => b1 ((nI_leI (a := 10) (b := i) (by omega) (by omega)).mpr q)
        refine mf_read X I (lv_at hl 2 rfl) dX2_clear_18 dX2_clear_19 ?_
        refine lv_iload_n hx hb dX2_clear_22 rfl (lv_at hl 0 rfl) ?_
        refine lv_iconst (v := nI 0) hx hb dX2_clear_23 (by decide) ?_
        refine ms_read X I i rfl (by omega) rfl dX2_clear_24 (fun H locs I => ?_)
        refine mf_written X I (lv_at hl 2 rfl) dX2_clear_25 dX2_clear_26 ?_
        refine lv_iload_n hx hb dX2_clear_29 rfl (lv_at hl 0 rfl) ?_
        refine lv_iconst (v := nI 0) hx hb dX2_clear_30 (by decide) ?_
        refine ms_written X I i rfl (by omega) rfl dX2_clear_31 (fun H locs I => ?_)
        refine lv_iinc (v := nI (i + 1)) (lv' := [(2, .int (nI (i + 1))), (1, .int (nI N.1)), (0, .ref h)]) hx hb dX2_clear_32 hl (k := 0) rfl (nI_1 i) (by decide) rfl (fun ls hl => ?_)
        refine lv_goto (tgt := 12) hx hb dX2_clear_35 (by decide) ?_
        exact ih (i + 1) (su (su σ1 8 i (nI 0)) 9 i (nI 0)) (by omega) (by omega) h0 (fun x hx => by
          rcases Nat.lt_succ_iff_lt_or_eq.mp hx with z | z
          · rw [su_nj (by omega), su_nj (by omega), su_nj (by omega), su_nj (by omega)]
            exact hZ x z
          · subst z
            exact ⟨su_at σ1 8 x (nI 0), su_at _ _ _ _⟩) H locs I ls (lv_sub hl [0, 1, 2] rfl)
  refine mf_n X I (v := nI N.1) hO.2.1 (lv_at hl 0 rfl) dX2_clear_0 dX2_clear_1 ?_
  refine lv_istore_n (lv' := [(1, .int (nI N.1)), (0, .ref h)]) hx hb dX2_clear_4 rfl hl (by decide) rfl (fun ls hl => ?_)
  refine lv_aload_n hx hb dX2_clear_5 rfl (lv_at hl 1 rfl) ?_
  refine lv_iconst (v := nI 0) hx hb dX2_clear_6 (by decide) ?_
  refine mp_n X I dX2_clear_7 (fun H locs I => ?_)
  refine lv_iconst (v := nI 0) hx hb dX2_clear_10 (by decide) ?_
  refine lv_istore_n (lv' := [(2, .int (nI 0)), (1, .int (nI N.1)), (0, .ref h)]) hx hb dX2_clear_11 rfl hl (by decide) rfl (fun ls hl => ?_)
  exact loop 11 0 (su σ 0 0 (nI 0)) (by omega) (by omega) rfl (fun x hx => absurd hx (by omega)) _ _ I ls hl

set_option maxHeartbeats 4000000 in
set_option maxRecDepth 100000 in
theorem metX2_addProcess (l : Launch) (D : va_G) (c1 c2 : ClassId) (h : Nat) (ad : Nat → Nat) (A : Nat → Prop) (σ : KS) (n0 : Nat) (v1 v2 v3 v4 v5 : Int32) (hn : σ 0 0 = nI n0) (hn8 : n0 < 8) :
    Met l yX2_addProcess (ws_ yX2_addProcess cX2_addProcess 6 (some .int)) ({ frames := 0, cells := 0, slots := 0, locals := 0 } : Room) (mP D c1 c2 h ad A σ [.int v1, .int v2, .int v3, .int v4, .int v5]) (va_Qi (fun (r : Int32) (σ' : KS) => r = nI n0 ∧ σ' = (su (su (su (su (su (su σ 1 n0 v1) 2 n0 v2) 3 n0 v3) 4 n0 v4) 5 n0 v5) 0 0 (nI (n0 + 1)))) (mB D c1 c2 h ad A) A) 0 0 A := by
  refine mM_of (by decide) rfl (Nat.le_of_ble_eq_true rfl) ?_
  intro p e s m args below meth c ls X hr hlocks I hl
  have hl : lv_has ls 6 [(0, .ref h), (1, .int v1), (2, .int v2), (3, .int v3), (4, .int v4), (5, .int v5)] := hl
  have hx := X.1
  have hb := X.2.1
  refine mf_kind X I (lv_at hl 0 rfl) dX2_addProcess_0 dX2_addProcess_1 ?_
  refine mf_n X I (v := nI n0) hn (lv_at hl 0 rfl) dX2_addProcess_4 dX2_addProcess_5 ?_
  refine lv_iload_n hx hb dX2_addProcess_8 rfl (lv_at hl 1 rfl) ?_
  refine ms_kind X I n0 rfl (by omega) dX2_addProcess_9 (fun H locs I => ?_)
  refine mf_a X I (lv_at hl 0 rfl) dX2_addProcess_10 dX2_addProcess_11 ?_
  refine mf_n X I (v := nI n0) hn (lv_at hl 0 rfl) dX2_addProcess_14 dX2_addProcess_15 ?_
  refine lv_iload_n hx hb dX2_addProcess_18 rfl (lv_at hl 2 rfl) ?_
  refine ms_a X I n0 rfl (by omega) dX2_addProcess_19 (fun H locs I => ?_)
  refine mf_b X I (lv_at hl 0 rfl) dX2_addProcess_20 dX2_addProcess_21 ?_
  refine mf_n X I (v := nI n0) hn (lv_at hl 0 rfl) dX2_addProcess_24 dX2_addProcess_25 ?_
  refine lv_iload_n hx hb dX2_addProcess_28 rfl (lv_at hl 3 rfl) ?_
  refine ms_b X I n0 rfl (by omega) dX2_addProcess_29 (fun H locs I => ?_)
  refine mf_c X I (lv_at hl 0 rfl) dX2_addProcess_30 dX2_addProcess_31 ?_
  refine mf_n X I (v := nI n0) hn (lv_at hl 0 rfl) dX2_addProcess_34 dX2_addProcess_35 ?_
  refine lv_iload hx hb dX2_addProcess_38 (lv_at hl 4 rfl) ?_
  refine ms_c X I n0 rfl (by omega) dX2_addProcess_40 (fun H locs I => ?_)
  refine mf_d X I (lv_at hl 0 rfl) dX2_addProcess_41 dX2_addProcess_42 ?_
  refine mf_n X I (v := nI n0) hn (lv_at hl 0 rfl) dX2_addProcess_45 dX2_addProcess_46 ?_
  refine lv_iload hx hb dX2_addProcess_49 (lv_at hl 5 rfl) ?_
  refine ms_d X I n0 rfl (by omega) dX2_addProcess_51 (fun H locs I => ?_)
  refine lv_aload_n hx hb dX2_addProcess_52 rfl (lv_at hl 0 rfl) ?_
  refine lv_dup hx hb dX2_addProcess_53 rfl ?_
  refine mg_n X I (v := nI n0) hn dX2_addProcess_54 ?_
  refine lv_iconst (v := nI 1) hx hb dX2_addProcess_57 (by decide) ?_
  refine lv_iadd hx hb dX2_addProcess_58 ?_
  refine kv_top (nI_add _ _) ?_
  refine mp_n X I dX2_addProcess_59 (fun H locs I => ?_)
  refine mf_n X I (v := nI (n0 + 1)) (su_at (su (su (su (su (su σ 1 n0 v1) 2 n0 v2) 3 n0 v3) 4 n0 v4) 5 n0 v5) 0 0 (nI (n0 + 1))) (lv_at hl 0 rfl) dX2_addProcess_62 dX2_addProcess_63 ?_
  refine lv_iconst (v := nI 1) hx hb dX2_addProcess_66 (by decide) ?_
  refine lv_isub hx hb dX2_addProcess_67 ?_
  refine kv_top (show nI (n0 + 1) - nI 1 = nI n0 from pk_sub (a := n0 + 1) (b := 1) (by omega)) ?_
  exact m_iret X I hr hlocks ⟨rfl, rfl⟩ dX2_addProcess_68

set_option maxHeartbeats 4000000 in
set_option maxRecDepth 100000 in
theorem metX2_isTaken (l : Launch) (D : va_G) (c1 c2 : ClassId) (h : Nat) (ad : Nat → Nat) (A : Nat → Prop) (σ : KS) (N : Net) (hO : mNet N σ) (k a0 b0 y0 z0 : Nat) (hk : k ≤ 7) (ha : a0 < 10) (hb0 : b0 < 10) (hy : y0 < 10) (hz : z0 < 10) :
    Met l yX2_isTaken (ws_ yX2_isTaken cX2_isTaken 8 (some .boolean)) ({ frames := 0, cells := 0, slots := 0, locals := 0 } : Room) (mP D c1 c2 h ad A σ [.int (nI k), .int (nI a0), .int (nI b0), .int (nI y0), .int (nI z0)]) (va_Qi (fun (r : Int32) (σ' : KS) => σ' = σ ∧ vB r (sTkn N k a0 b0 y0 z0)) (mB D c1 c2 h ad A) A) 0 0 A := by
  refine mM_of (by decide) rfl (Nat.le_of_ble_eq_true rfl) ?_
  intro p e s m args below meth c ls X hr hlocks I hl
  have hl : lv_has ls 8 [(0, .ref h), (1, .int (nI k)), (2, .int (nI a0)), (3, .int (nI b0)), (4, .int (nI y0)), (5, .int (nI z0))] := hl
  have hx := X.1
  have hb := X.2.1
  have hrw := hO.2.2.2
  have tail : ∀ (tw cp : Int32), vB tw (k = 2 ∨ k = 5) → vB cp (k = 1) → ∀ ls : Array Slot, lv_has ls 8 [(7, .int cp), (6, .int tw), (0, .ref h), (1, .int (nI k)), (2, .int (nI a0)), (3, .int (nI b0)), (4, .int (nI y0)), (5, .int (nI z0))] → W p l e ({ frames := 0, cells := 0, slots := 0, locals := 0 } : Room) s m args below meth c s.heap [] 0 0 (MQ below (va_Qi (fun (r : Int32) (σ' : KS) => σ' = σ ∧ vB r (sTkn N k a0 b0 y0 z0)) (mB D c1 c2 h ad A) A) args s 0 0 A) (F0 m 29 ls []) := by
    intro tw cp htw hcp ls hl
    refine mf_read X I (lv_at hl 2 rfl) dX2_isTaken_29 dX2_isTaken_30 ?_
    refine lv_iload_n hx hb dX2_isTaken_33 rfl (lv_at hl 4 rfl) ?_
    refine ml_read X I a0 rfl (by omega) (v := σ 8 a0) rfl dX2_isTaken_34 ?_
    refine lv_if_ne (tgt := 77) hx hb dX2_isTaken_35 (by decide) (fun e1 => ?_) (fun e1 => ?_)
    · refine lv_iconst (v := nI 1) hx hb dX2_isTaken_77 (by decide) ?_
      exact m_zret X I hr hlocks rfl ⟨rfl, vB_1 (Or.inl (vB_ne0 (hrw a0 ha).1 e1))⟩ dX2_isTaken_78
    · have hA := vB_eq0 (hrw a0 ha).1 e1
      refine lv_iload hx hb dX2_isTaken_38 (lv_at hl 1 rfl) ?_
      refine lv_if_eq (tgt := 52) hx hb dX2_isTaken_40 (by decide) (fun e2 => ?_) (fun e2 => ?_)
      · have hB : ¬ ((k = 2 ∨ k = 5) ∧ sRd N b0) := fun q => vB_eq0 htw e2 q.1
        refine mf_written X I (lv_at hl 2 rfl) dX2_isTaken_52 dX2_isTaken_53 ?_
        refine lv_iload hx hb dX2_isTaken_56 (lv_at hl 6 rfl) ?_
        refine ml_written X I y0 rfl (by omega) (v := σ 9 y0) rfl dX2_isTaken_58 ?_
        refine lv_if_ne (tgt := 77) hx hb dX2_isTaken_59 (by decide) (fun e3 => ?_) (fun e3 => ?_)
        · refine lv_iconst (v := nI 1) hx hb dX2_isTaken_77 (by decide) ?_
          exact m_zret X I hr hlocks rfl ⟨rfl, vB_1 (Or.inr (Or.inr (Or.inl (vB_ne0 (hrw y0 hy).2 e3))))⟩ dX2_isTaken_78
        · have hC := vB_eq0 (hrw y0 hy).2 e3
          refine lv_iload hx hb dX2_isTaken_62 (lv_at hl 0 rfl) ?_
          refine lv_if_eq (tgt := 79) hx hb dX2_isTaken_64 (by decide) (fun e4 => ?_) (fun e4 => ?_)
          · have hD : ¬ (k = 1 ∧ sWr N z0) := fun q => vB_eq0 hcp e4 q.1
            refine lv_iload hx hb dX2_isTaken_79 (lv_at hl 1 rfl) ?_
            refine lv_if_eq (tgt := 89) hx hb dX2_isTaken_81 (by decide) (fun e5 => ?_) (fun e5 => ?_)
            · have hE : ¬ ((k = 2 ∨ k = 5) ∧ a0 = b0) := fun q => vB_eq0 htw e5 q.1
              refine lv_iload hx hb dX2_isTaken_89 (lv_at hl 0 rfl) ?_
              refine lv_if_eq (tgt := 105) hx hb dX2_isTaken_91 (by decide) (fun e7 => ?_) (fun e7 => ?_)
              · refine lv_iconst (v := nI 0) hx hb dX2_isTaken_105 (by decide) ?_
                exact m_zret X I hr hlocks rfl ⟨rfl, vB_0 (by
                    rintro (z | z | z | z | z | z)
                    · exact hA z
                    · exact hB z
                    · exact hC z
                    · exact hD z
                    · exact hE z
                    · exact vB_eq0 hcp e7 z.1)⟩ dX2_isTaken_106
              · refine lv_iload hx hb dX2_isTaken_94 (lv_at hl 6 rfl) ?_
                refine lv_iload hx hb dX2_isTaken_96 (lv_at hl 7 rfl) ?_
                refine lv_icmp_ne (tgt := 105) hx hb dX2_isTaken_98 (by decide) (fun e8 => ?_) (fun e8 => ?_)
                · have e8 : ¬ y0 = z0 := fun q => e8 ((nI_eq (a := y0) (b := z0) (by omega) (by omega)).mpr q)
                  refine lv_iconst (v := nI 0) hx hb dX2_isTaken_105 (by decide) ?_
                  exact m_zret X I hr hlocks rfl ⟨rfl, vB_0 (by
                      rintro (z | z | z | z | z | z)
                      · exact hA z
                      · exact hB z
                      · exact hC z
                      · exact hD z
                      · exact hE z
                      · exact e8 z.2)⟩ dX2_isTaken_106
                · have e8 : y0 = z0 := (nI_eq (a := y0) (b := z0) (by omega) (by omega)).mp e8
                  refine lv_iconst (v := nI 1) hx hb dX2_isTaken_101 (by decide) ?_
                  refine lv_goto (tgt := 106) hx hb dX2_isTaken_102 (by decide) ?_
                  exact m_zret X I hr hlocks rfl ⟨rfl, vB_1 (Or.inr (Or.inr (Or.inr (Or.inr (Or.inr ⟨vB_ne0 hcp e7, e8⟩)))))⟩ dX2_isTaken_106
            · refine lv_iload_n hx hb dX2_isTaken_84 rfl (lv_at hl 4 rfl) ?_
              refine lv_iload_n hx hb dX2_isTaken_85 rfl (lv_at hl 5 rfl) ?_
              refine lv_icmp_eq (tgt := 101) hx hb dX2_isTaken_86 (by decide) (fun e6 => ?_) (fun e6 => ?_)
              · have e6 : a0 = b0 := (nI_eq (a := a0) (b := b0) (by omega) (by omega)).mp e6
                refine lv_iconst (v := nI 1) hx hb dX2_isTaken_101 (by decide) ?_
                refine lv_goto (tgt := 106) hx hb dX2_isTaken_102 (by decide) ?_
                exact m_zret X I hr hlocks rfl ⟨rfl, vB_1 (Or.inr (Or.inr (Or.inr (Or.inr (Or.inl ⟨vB_ne0 htw e5, e6⟩)))))⟩ dX2_isTaken_106
              · have e6 : ¬ a0 = b0 := fun q => e6 ((nI_eq (a := a0) (b := b0) (by omega) (by omega)).mpr q)
                have hE : ¬ ((k = 2 ∨ k = 5) ∧ a0 = b0) := fun q => e6 q.2
                refine lv_iload hx hb dX2_isTaken_89 (lv_at hl 0 rfl) ?_
                refine lv_if_eq (tgt := 105) hx hb dX2_isTaken_91 (by decide) (fun e7 => ?_) (fun e7 => ?_)
                · refine lv_iconst (v := nI 0) hx hb dX2_isTaken_105 (by decide) ?_
                  exact m_zret X I hr hlocks rfl ⟨rfl, vB_0 (by
                      rintro (z | z | z | z | z | z)
                      · exact hA z
                      · exact hB z
                      · exact hC z
                      · exact hD z
                      · exact hE z
                      · exact vB_eq0 hcp e7 z.1)⟩ dX2_isTaken_106
                · refine lv_iload hx hb dX2_isTaken_94 (lv_at hl 6 rfl) ?_
                  refine lv_iload hx hb dX2_isTaken_96 (lv_at hl 7 rfl) ?_
                  refine lv_icmp_ne (tgt := 105) hx hb dX2_isTaken_98 (by decide) (fun e8 => ?_) (fun e8 => ?_)
                  · have e8 : ¬ y0 = z0 := fun q => e8 ((nI_eq (a := y0) (b := z0) (by omega) (by omega)).mpr q)
                    refine lv_iconst (v := nI 0) hx hb dX2_isTaken_105 (by decide) ?_
                    exact m_zret X I hr hlocks rfl ⟨rfl, vB_0 (by
                        rintro (z | z | z | z | z | z)
                        · exact hA z
                        · exact hB z
                        · exact hC z
                        · exact hD z
                        · exact hE z
                        · exact e8 z.2)⟩ dX2_isTaken_106
                  · have e8 : y0 = z0 := (nI_eq (a := y0) (b := z0) (by omega) (by omega)).mp e8
                    refine lv_iconst (v := nI 1) hx hb dX2_isTaken_101 (by decide) ?_
                    refine lv_goto (tgt := 106) hx hb dX2_isTaken_102 (by decide) ?_
                    exact m_zret X I hr hlocks rfl ⟨rfl, vB_1 (Or.inr (Or.inr (Or.inr (Or.inr (Or.inr ⟨vB_ne0 hcp e7, e8⟩)))))⟩ dX2_isTaken_106
          · refine mf_written X I (lv_at hl 2 rfl) dX2_isTaken_67 dX2_isTaken_68 ?_
            refine lv_iload hx hb dX2_isTaken_71 (lv_at hl 7 rfl) ?_
            refine ml_written X I z0 rfl (by omega) (v := σ 9 z0) rfl dX2_isTaken_73 ?_
            refine lv_if_eq (tgt := 79) hx hb dX2_isTaken_74 (by decide) (fun e9 => ?_) (fun e9 => ?_)
            · have hD : ¬ (k = 1 ∧ sWr N z0) := fun q => vB_eq0 (hrw z0 hz).2 e9 q.2
              refine lv_iload hx hb dX2_isTaken_79 (lv_at hl 1 rfl) ?_
              refine lv_if_eq (tgt := 89) hx hb dX2_isTaken_81 (by decide) (fun e5 => ?_) (fun e5 => ?_)
              · have hE : ¬ ((k = 2 ∨ k = 5) ∧ a0 = b0) := fun q => vB_eq0 htw e5 q.1
                refine lv_iload hx hb dX2_isTaken_89 (lv_at hl 0 rfl) ?_
                refine lv_if_eq (tgt := 105) hx hb dX2_isTaken_91 (by decide) (fun e7 => ?_) (fun e7 => ?_)
                · refine lv_iconst (v := nI 0) hx hb dX2_isTaken_105 (by decide) ?_
                  exact m_zret X I hr hlocks rfl ⟨rfl, vB_0 (by
                      rintro (z | z | z | z | z | z)
                      · exact hA z
                      · exact hB z
                      · exact hC z
                      · exact hD z
                      · exact hE z
                      · exact vB_eq0 hcp e7 z.1)⟩ dX2_isTaken_106
                · refine lv_iload hx hb dX2_isTaken_94 (lv_at hl 6 rfl) ?_
                  refine lv_iload hx hb dX2_isTaken_96 (lv_at hl 7 rfl) ?_
                  refine lv_icmp_ne (tgt := 105) hx hb dX2_isTaken_98 (by decide) (fun e8 => ?_) (fun e8 => ?_)
                  · have e8 : ¬ y0 = z0 := fun q => e8 ((nI_eq (a := y0) (b := z0) (by omega) (by omega)).mpr q)
                    refine lv_iconst (v := nI 0) hx hb dX2_isTaken_105 (by decide) ?_
                    exact m_zret X I hr hlocks rfl ⟨rfl, vB_0 (by
                        rintro (z | z | z | z | z | z)
                        · exact hA z
                        · exact hB z
                        · exact hC z
                        · exact hD z
                        · exact hE z
                        · exact e8 z.2)⟩ dX2_isTaken_106
                  · have e8 : y0 = z0 := (nI_eq (a := y0) (b := z0) (by omega) (by omega)).mp e8
                    refine lv_iconst (v := nI 1) hx hb dX2_isTaken_101 (by decide) ?_
                    refine lv_goto (tgt := 106) hx hb dX2_isTaken_102 (by decide) ?_
                    exact m_zret X I hr hlocks rfl ⟨rfl, vB_1 (Or.inr (Or.inr (Or.inr (Or.inr (Or.inr ⟨vB_ne0 hcp e7, e8⟩)))))⟩ dX2_isTaken_106
              · refine lv_iload_n hx hb dX2_isTaken_84 rfl (lv_at hl 4 rfl) ?_
                refine lv_iload_n hx hb dX2_isTaken_85 rfl (lv_at hl 5 rfl) ?_
                refine lv_icmp_eq (tgt := 101) hx hb dX2_isTaken_86 (by decide) (fun e6 => ?_) (fun e6 => ?_)
                · have e6 : a0 = b0 := (nI_eq (a := a0) (b := b0) (by omega) (by omega)).mp e6
                  refine lv_iconst (v := nI 1) hx hb dX2_isTaken_101 (by decide) ?_
                  refine lv_goto (tgt := 106) hx hb dX2_isTaken_102 (by decide) ?_
                  exact m_zret X I hr hlocks rfl ⟨rfl, vB_1 (Or.inr (Or.inr (Or.inr (Or.inr (Or.inl ⟨vB_ne0 htw e5, e6⟩)))))⟩ dX2_isTaken_106
                · have e6 : ¬ a0 = b0 := fun q => e6 ((nI_eq (a := a0) (b := b0) (by omega) (by omega)).mpr q)
                  have hE : ¬ ((k = 2 ∨ k = 5) ∧ a0 = b0) := fun q => e6 q.2
                  refine lv_iload hx hb dX2_isTaken_89 (lv_at hl 0 rfl) ?_
                  refine lv_if_eq (tgt := 105) hx hb dX2_isTaken_91 (by decide) (fun e7 => ?_) (fun e7 => ?_)
                  · refine lv_iconst (v := nI 0) hx hb dX2_isTaken_105 (by decide) ?_
                    exact m_zret X I hr hlocks rfl ⟨rfl, vB_0 (by
                        rintro (z | z | z | z | z | z)
                        · exact hA z
                        · exact hB z
                        · exact hC z
                        · exact hD z
                        · exact hE z
                        · exact vB_eq0 hcp e7 z.1)⟩ dX2_isTaken_106
                  · refine lv_iload hx hb dX2_isTaken_94 (lv_at hl 6 rfl) ?_
                    refine lv_iload hx hb dX2_isTaken_96 (lv_at hl 7 rfl) ?_
                    refine lv_icmp_ne (tgt := 105) hx hb dX2_isTaken_98 (by decide) (fun e8 => ?_) (fun e8 => ?_)
                    · have e8 : ¬ y0 = z0 := fun q => e8 ((nI_eq (a := y0) (b := z0) (by omega) (by omega)).mpr q)
                      refine lv_iconst (v := nI 0) hx hb dX2_isTaken_105 (by decide) ?_
                      exact m_zret X I hr hlocks rfl ⟨rfl, vB_0 (by
                          rintro (z | z | z | z | z | z)
                          · exact hA z
                          · exact hB z
                          · exact hC z
                          · exact hD z
                          · exact hE z
                          · exact e8 z.2)⟩ dX2_isTaken_106
                    · have e8 : y0 = z0 := (nI_eq (a := y0) (b := z0) (by omega) (by omega)).mp e8
                      refine lv_iconst (v := nI 1) hx hb dX2_isTaken_101 (by decide) ?_
                      refine lv_goto (tgt := 106) hx hb dX2_isTaken_102 (by decide) ?_
                      exact m_zret X I hr hlocks rfl ⟨rfl, vB_1 (Or.inr (Or.inr (Or.inr (Or.inr (Or.inr ⟨vB_ne0 hcp e7, e8⟩)))))⟩ dX2_isTaken_106
            · refine lv_iconst (v := nI 1) hx hb dX2_isTaken_77 (by decide) ?_
              exact m_zret X I hr hlocks rfl ⟨rfl, vB_1 (Or.inr (Or.inr (Or.inr (Or.inl ⟨vB_ne0 hcp e4, vB_ne0 (hrw z0 hz).2 e9⟩))))⟩ dX2_isTaken_78
      · refine mf_read X I (lv_at hl 2 rfl) dX2_isTaken_43 dX2_isTaken_44 ?_
        refine lv_iload_n hx hb dX2_isTaken_47 rfl (lv_at hl 5 rfl) ?_
        refine ml_read X I b0 rfl (by omega) (v := σ 8 b0) rfl dX2_isTaken_48 ?_
        refine lv_if_ne (tgt := 77) hx hb dX2_isTaken_49 (by decide) (fun e0 => ?_) (fun e0 => ?_)
        · refine lv_iconst (v := nI 1) hx hb dX2_isTaken_77 (by decide) ?_
          exact m_zret X I hr hlocks rfl ⟨rfl, vB_1 (Or.inr (Or.inl ⟨vB_ne0 htw e2, vB_ne0 (hrw b0 hb0).1 e0⟩))⟩ dX2_isTaken_78
        · have hB : ¬ ((k = 2 ∨ k = 5) ∧ sRd N b0) := fun q => vB_eq0 (hrw b0 hb0).1 e0 q.2
          refine mf_written X I (lv_at hl 2 rfl) dX2_isTaken_52 dX2_isTaken_53 ?_
          refine lv_iload hx hb dX2_isTaken_56 (lv_at hl 6 rfl) ?_
          refine ml_written X I y0 rfl (by omega) (v := σ 9 y0) rfl dX2_isTaken_58 ?_
          refine lv_if_ne (tgt := 77) hx hb dX2_isTaken_59 (by decide) (fun e3 => ?_) (fun e3 => ?_)
          · refine lv_iconst (v := nI 1) hx hb dX2_isTaken_77 (by decide) ?_
            exact m_zret X I hr hlocks rfl ⟨rfl, vB_1 (Or.inr (Or.inr (Or.inl (vB_ne0 (hrw y0 hy).2 e3))))⟩ dX2_isTaken_78
          · have hC := vB_eq0 (hrw y0 hy).2 e3
            refine lv_iload hx hb dX2_isTaken_62 (lv_at hl 0 rfl) ?_
            refine lv_if_eq (tgt := 79) hx hb dX2_isTaken_64 (by decide) (fun e4 => ?_) (fun e4 => ?_)
            · have hD : ¬ (k = 1 ∧ sWr N z0) := fun q => vB_eq0 hcp e4 q.1
              refine lv_iload hx hb dX2_isTaken_79 (lv_at hl 1 rfl) ?_
              refine lv_if_eq (tgt := 89) hx hb dX2_isTaken_81 (by decide) (fun e5 => ?_) (fun e5 => ?_)
              · have hE : ¬ ((k = 2 ∨ k = 5) ∧ a0 = b0) := fun q => vB_eq0 htw e5 q.1
                refine lv_iload hx hb dX2_isTaken_89 (lv_at hl 0 rfl) ?_
                refine lv_if_eq (tgt := 105) hx hb dX2_isTaken_91 (by decide) (fun e7 => ?_) (fun e7 => ?_)
                · refine lv_iconst (v := nI 0) hx hb dX2_isTaken_105 (by decide) ?_
                  exact m_zret X I hr hlocks rfl ⟨rfl, vB_0 (by
                      rintro (z | z | z | z | z | z)
                      · exact hA z
                      · exact hB z
                      · exact hC z
                      · exact hD z
                      · exact hE z
                      · exact vB_eq0 hcp e7 z.1)⟩ dX2_isTaken_106
                · refine lv_iload hx hb dX2_isTaken_94 (lv_at hl 6 rfl) ?_
                  refine lv_iload hx hb dX2_isTaken_96 (lv_at hl 7 rfl) ?_
                  refine lv_icmp_ne (tgt := 105) hx hb dX2_isTaken_98 (by decide) (fun e8 => ?_) (fun e8 => ?_)
                  · have e8 : ¬ y0 = z0 := fun q => e8 ((nI_eq (a := y0) (b := z0) (by omega) (by omega)).mpr q)
                    refine lv_iconst (v := nI 0) hx hb dX2_isTaken_105 (by decide) ?_
                    exact m_zret X I hr hlocks rfl ⟨rfl, vB_0 (by
                        rintro (z | z | z | z | z | z)
                        · exact hA z
                        · exact hB z
                        · exact hC z
                        · exact hD z
                        · exact hE z
                        · exact e8 z.2)⟩ dX2_isTaken_106
                  · have e8 : y0 = z0 := (nI_eq (a := y0) (b := z0) (by omega) (by omega)).mp e8
                    refine lv_iconst (v := nI 1) hx hb dX2_isTaken_101 (by decide) ?_
                    refine lv_goto (tgt := 106) hx hb dX2_isTaken_102 (by decide) ?_
                    exact m_zret X I hr hlocks rfl ⟨rfl, vB_1 (Or.inr (Or.inr (Or.inr (Or.inr (Or.inr ⟨vB_ne0 hcp e7, e8⟩)))))⟩ dX2_isTaken_106
              · refine lv_iload_n hx hb dX2_isTaken_84 rfl (lv_at hl 4 rfl) ?_
                refine lv_iload_n hx hb dX2_isTaken_85 rfl (lv_at hl 5 rfl) ?_
                refine lv_icmp_eq (tgt := 101) hx hb dX2_isTaken_86 (by decide) (fun e6 => ?_) (fun e6 => ?_)
                · have e6 : a0 = b0 := (nI_eq (a := a0) (b := b0) (by omega) (by omega)).mp e6
                  refine lv_iconst (v := nI 1) hx hb dX2_isTaken_101 (by decide) ?_
                  refine lv_goto (tgt := 106) hx hb dX2_isTaken_102 (by decide) ?_
                  exact m_zret X I hr hlocks rfl ⟨rfl, vB_1 (Or.inr (Or.inr (Or.inr (Or.inr (Or.inl ⟨vB_ne0 htw e5, e6⟩)))))⟩ dX2_isTaken_106
                · have e6 : ¬ a0 = b0 := fun q => e6 ((nI_eq (a := a0) (b := b0) (by omega) (by omega)).mpr q)
                  have hE : ¬ ((k = 2 ∨ k = 5) ∧ a0 = b0) := fun q => e6 q.2
                  refine lv_iload hx hb dX2_isTaken_89 (lv_at hl 0 rfl) ?_
                  refine lv_if_eq (tgt := 105) hx hb dX2_isTaken_91 (by decide) (fun e7 => ?_) (fun e7 => ?_)
                  · refine lv_iconst (v := nI 0) hx hb dX2_isTaken_105 (by decide) ?_
                    exact m_zret X I hr hlocks rfl ⟨rfl, vB_0 (by
                        rintro (z | z | z | z | z | z)
                        · exact hA z
                        · exact hB z
                        · exact hC z
                        · exact hD z
                        · exact hE z
                        · exact vB_eq0 hcp e7 z.1)⟩ dX2_isTaken_106
                  · refine lv_iload hx hb dX2_isTaken_94 (lv_at hl 6 rfl) ?_
                    refine lv_iload hx hb dX2_isTaken_96 (lv_at hl 7 rfl) ?_
                    refine lv_icmp_ne (tgt := 105) hx hb dX2_isTaken_98 (by decide) (fun e8 => ?_) (fun e8 => ?_)
                    · have e8 : ¬ y0 = z0 := fun q => e8 ((nI_eq (a := y0) (b := z0) (by omega) (by omega)).mpr q)
                      refine lv_iconst (v := nI 0) hx hb dX2_isTaken_105 (by decide) ?_
                      exact m_zret X I hr hlocks rfl ⟨rfl, vB_0 (by
                          rintro (z | z | z | z | z | z)
                          · exact hA z
                          · exact hB z
                          · exact hC z
                          · exact hD z
                          · exact hE z
                          · exact e8 z.2)⟩ dX2_isTaken_106
                    · have e8 : y0 = z0 := (nI_eq (a := y0) (b := z0) (by omega) (by omega)).mp e8
                      refine lv_iconst (v := nI 1) hx hb dX2_isTaken_101 (by decide) ?_
                      refine lv_goto (tgt := 106) hx hb dX2_isTaken_102 (by decide) ?_
                      exact m_zret X I hr hlocks rfl ⟨rfl, vB_1 (Or.inr (Or.inr (Or.inr (Or.inr (Or.inr ⟨vB_ne0 hcp e7, e8⟩)))))⟩ dX2_isTaken_106
            · refine mf_written X I (lv_at hl 2 rfl) dX2_isTaken_67 dX2_isTaken_68 ?_
              refine lv_iload hx hb dX2_isTaken_71 (lv_at hl 7 rfl) ?_
              refine ml_written X I z0 rfl (by omega) (v := σ 9 z0) rfl dX2_isTaken_73 ?_
              refine lv_if_eq (tgt := 79) hx hb dX2_isTaken_74 (by decide) (fun e9 => ?_) (fun e9 => ?_)
              · have hD : ¬ (k = 1 ∧ sWr N z0) := fun q => vB_eq0 (hrw z0 hz).2 e9 q.2
                refine lv_iload hx hb dX2_isTaken_79 (lv_at hl 1 rfl) ?_
                refine lv_if_eq (tgt := 89) hx hb dX2_isTaken_81 (by decide) (fun e5 => ?_) (fun e5 => ?_)
                · have hE : ¬ ((k = 2 ∨ k = 5) ∧ a0 = b0) := fun q => vB_eq0 htw e5 q.1
                  refine lv_iload hx hb dX2_isTaken_89 (lv_at hl 0 rfl) ?_
                  refine lv_if_eq (tgt := 105) hx hb dX2_isTaken_91 (by decide) (fun e7 => ?_) (fun e7 => ?_)
                  · refine lv_iconst (v := nI 0) hx hb dX2_isTaken_105 (by decide) ?_
                    exact m_zret X I hr hlocks rfl ⟨rfl, vB_0 (by
                        rintro (z | z | z | z | z | z)
                        · exact hA z
                        · exact hB z
                        · exact hC z
                        · exact hD z
                        · exact hE z
                        · exact vB_eq0 hcp e7 z.1)⟩ dX2_isTaken_106
                  · refine lv_iload hx hb dX2_isTaken_94 (lv_at hl 6 rfl) ?_
                    refine lv_iload hx hb dX2_isTaken_96 (lv_at hl 7 rfl) ?_
                    refine lv_icmp_ne (tgt := 105) hx hb dX2_isTaken_98 (by decide) (fun e8 => ?_) (fun e8 => ?_)
                    · have e8 : ¬ y0 = z0 := fun q => e8 ((nI_eq (a := y0) (b := z0) (by omega) (by omega)).mpr q)
                      refine lv_iconst (v := nI 0) hx hb dX2_isTaken_105 (by decide) ?_
                      exact m_zret X I hr hlocks rfl ⟨rfl, vB_0 (by
                          rintro (z | z | z | z | z | z)
                          · exact hA z
                          · exact hB z
                          · exact hC z
                          · exact hD z
                          · exact hE z
                          · exact e8 z.2)⟩ dX2_isTaken_106
                    · have e8 : y0 = z0 := (nI_eq (a := y0) (b := z0) (by omega) (by omega)).mp e8
                      refine lv_iconst (v := nI 1) hx hb dX2_isTaken_101 (by decide) ?_
                      refine lv_goto (tgt := 106) hx hb dX2_isTaken_102 (by decide) ?_
                      exact m_zret X I hr hlocks rfl ⟨rfl, vB_1 (Or.inr (Or.inr (Or.inr (Or.inr (Or.inr ⟨vB_ne0 hcp e7, e8⟩)))))⟩ dX2_isTaken_106
                · refine lv_iload_n hx hb dX2_isTaken_84 rfl (lv_at hl 4 rfl) ?_
                  refine lv_iload_n hx hb dX2_isTaken_85 rfl (lv_at hl 5 rfl) ?_
                  refine lv_icmp_eq (tgt := 101) hx hb dX2_isTaken_86 (by decide) (fun e6 => ?_) (fun e6 => ?_)
                  · have e6 : a0 = b0 := (nI_eq (a := a0) (b := b0) (by omega) (by omega)).mp e6
                    refine lv_iconst (v := nI 1) hx hb dX2_isTaken_101 (by decide) ?_
                    refine lv_goto (tgt := 106) hx hb dX2_isTaken_102 (by decide) ?_
                    exact m_zret X I hr hlocks rfl ⟨rfl, vB_1 (Or.inr (Or.inr (Or.inr (Or.inr (Or.inl ⟨vB_ne0 htw e5, e6⟩)))))⟩ dX2_isTaken_106
                  · have e6 : ¬ a0 = b0 := fun q => e6 ((nI_eq (a := a0) (b := b0) (by omega) (by omega)).mpr q)
                    have hE : ¬ ((k = 2 ∨ k = 5) ∧ a0 = b0) := fun q => e6 q.2
                    refine lv_iload hx hb dX2_isTaken_89 (lv_at hl 0 rfl) ?_
                    refine lv_if_eq (tgt := 105) hx hb dX2_isTaken_91 (by decide) (fun e7 => ?_) (fun e7 => ?_)
                    · refine lv_iconst (v := nI 0) hx hb dX2_isTaken_105 (by decide) ?_
                      exact m_zret X I hr hlocks rfl ⟨rfl, vB_0 (by
                          rintro (z | z | z | z | z | z)
                          · exact hA z
                          · exact hB z
                          · exact hC z
                          · exact hD z
                          · exact hE z
                          · exact vB_eq0 hcp e7 z.1)⟩ dX2_isTaken_106
                    · refine lv_iload hx hb dX2_isTaken_94 (lv_at hl 6 rfl) ?_
                      refine lv_iload hx hb dX2_isTaken_96 (lv_at hl 7 rfl) ?_
                      refine lv_icmp_ne (tgt := 105) hx hb dX2_isTaken_98 (by decide) (fun e8 => ?_) (fun e8 => ?_)
                      · have e8 : ¬ y0 = z0 := fun q => e8 ((nI_eq (a := y0) (b := z0) (by omega) (by omega)).mpr q)
                        refine lv_iconst (v := nI 0) hx hb dX2_isTaken_105 (by decide) ?_
                        exact m_zret X I hr hlocks rfl ⟨rfl, vB_0 (by
                            rintro (z | z | z | z | z | z)
                            · exact hA z
                            · exact hB z
                            · exact hC z
                            · exact hD z
                            · exact hE z
                            · exact e8 z.2)⟩ dX2_isTaken_106
                      · have e8 : y0 = z0 := (nI_eq (a := y0) (b := z0) (by omega) (by omega)).mp e8
                        refine lv_iconst (v := nI 1) hx hb dX2_isTaken_101 (by decide) ?_
                        refine lv_goto (tgt := 106) hx hb dX2_isTaken_102 (by decide) ?_
                        exact m_zret X I hr hlocks rfl ⟨rfl, vB_1 (Or.inr (Or.inr (Or.inr (Or.inr (Or.inr ⟨vB_ne0 hcp e7, e8⟩)))))⟩ dX2_isTaken_106
              · refine lv_iconst (v := nI 1) hx hb dX2_isTaken_77 (by decide) ?_
                exact m_zret X I hr hlocks rfl ⟨rfl, vB_1 (Or.inr (Or.inr (Or.inr (Or.inl ⟨vB_ne0 hcp e4, vB_ne0 (hrw z0 hz).2 e9⟩))))⟩ dX2_isTaken_78
  refine lv_iload_n hx hb dX2_isTaken_0 rfl (lv_at hl 1 rfl) ?_
  refine lv_iconst (v := nI 2) hx hb dX2_isTaken_1 (by decide) ?_
  refine lv_icmp_eq (tgt := 10) hx hb dX2_isTaken_2 (by decide) (fun f1 => ?_) (fun f1 => ?_)
  · have f1 : k = 2 := (nI_eq (a := k) (b := 2) (by omega) (by omega)).mp f1
    refine lv_iconst (v := nI 1) hx hb dX2_isTaken_10 (by decide) ?_
    refine lv_goto (tgt := 15) hx hb dX2_isTaken_11 (by decide) ?_
    refine lv_istore (lv' := [(6, .int (nI 1)), (0, .ref h), (1, .int (nI k)), (2, .int (nI a0)), (3, .int (nI b0)), (4, .int (nI y0)), (5, .int (nI z0))]) hx hb dX2_isTaken_15 hl (by decide) rfl (fun ls hl => ?_)
    refine lv_iload_n hx hb dX2_isTaken_17 rfl (lv_at hl 2 rfl) ?_
    refine lv_iconst (v := nI 1) hx hb dX2_isTaken_18 (by decide) ?_
    refine lv_icmp_ne (tgt := 26) hx hb dX2_isTaken_19 (by decide) (fun f3 => ?_) (fun f3 => ?_)
    · have f3 : ¬ k = 1 := fun q => f3 ((nI_eq (a := k) (b := 1) (by omega) (by omega)).mpr q)
      refine lv_iconst (v := nI 0) hx hb dX2_isTaken_26 (by decide) ?_
      refine lv_istore (lv' := [(7, .int (nI 0)), (6, .int (nI 1)), (0, .ref h), (1, .int (nI k)), (2, .int (nI a0)), (3, .int (nI b0)), (4, .int (nI y0)), (5, .int (nI z0))]) hx hb dX2_isTaken_27 hl (by decide) rfl (fun ls hl => ?_)
      exact tail _ _ (vB_1 (Or.inl f1)) (vB_0 f3) ls hl
    · have f3 : k = 1 := (nI_eq (a := k) (b := 1) (by omega) (by omega)).mp f3
      refine lv_iconst (v := nI 1) hx hb dX2_isTaken_22 (by decide) ?_
      refine lv_goto (tgt := 27) hx hb dX2_isTaken_23 (by decide) ?_
      refine lv_istore (lv' := [(7, .int (nI 1)), (6, .int (nI 1)), (0, .ref h), (1, .int (nI k)), (2, .int (nI a0)), (3, .int (nI b0)), (4, .int (nI y0)), (5, .int (nI z0))]) hx hb dX2_isTaken_27 hl (by decide) rfl (fun ls hl => ?_)
      exact tail _ _ (vB_1 (Or.inl f1)) (vB_1 f3) ls hl
  · have f1 : ¬ k = 2 := fun q => f1 ((nI_eq (a := k) (b := 2) (by omega) (by omega)).mpr q)
    refine lv_iload_n hx hb dX2_isTaken_5 rfl (lv_at hl 1 rfl) ?_
    refine lv_iconst (v := nI 5) hx hb dX2_isTaken_6 (by decide) ?_
    refine lv_icmp_ne (tgt := 14) hx hb dX2_isTaken_7 (by decide) (fun f2 => ?_) (fun f2 => ?_)
    · have f2 : ¬ k = 5 := fun q => f2 ((nI_eq (a := k) (b := 5) (by omega) (by omega)).mpr q)
      refine lv_iconst (v := nI 0) hx hb dX2_isTaken_14 (by decide) ?_
      refine lv_istore (lv' := [(6, .int (nI 0)), (0, .ref h), (1, .int (nI k)), (2, .int (nI a0)), (3, .int (nI b0)), (4, .int (nI y0)), (5, .int (nI z0))]) hx hb dX2_isTaken_15 hl (by decide) rfl (fun ls hl => ?_)
      refine lv_iload_n hx hb dX2_isTaken_17 rfl (lv_at hl 2 rfl) ?_
      refine lv_iconst (v := nI 1) hx hb dX2_isTaken_18 (by decide) ?_
      refine lv_icmp_ne (tgt := 26) hx hb dX2_isTaken_19 (by decide) (fun f3 => ?_) (fun f3 => ?_)
      · have f3 : ¬ k = 1 := fun q => f3 ((nI_eq (a := k) (b := 1) (by omega) (by omega)).mpr q)
        refine lv_iconst (v := nI 0) hx hb dX2_isTaken_26 (by decide) ?_
        refine lv_istore (lv' := [(7, .int (nI 0)), (6, .int (nI 0)), (0, .ref h), (1, .int (nI k)), (2, .int (nI a0)), (3, .int (nI b0)), (4, .int (nI y0)), (5, .int (nI z0))]) hx hb dX2_isTaken_27 hl (by decide) rfl (fun ls hl => ?_)
        exact tail _ _ (vB_0 (fun q => q.elim f1 f2)) (vB_0 f3) ls hl
      · have f3 : k = 1 := (nI_eq (a := k) (b := 1) (by omega) (by omega)).mp f3
        refine lv_iconst (v := nI 1) hx hb dX2_isTaken_22 (by decide) ?_
        refine lv_goto (tgt := 27) hx hb dX2_isTaken_23 (by decide) ?_
        refine lv_istore (lv' := [(7, .int (nI 1)), (6, .int (nI 0)), (0, .ref h), (1, .int (nI k)), (2, .int (nI a0)), (3, .int (nI b0)), (4, .int (nI y0)), (5, .int (nI z0))]) hx hb dX2_isTaken_27 hl (by decide) rfl (fun ls hl => ?_)
        exact tail _ _ (vB_0 (fun q => q.elim f1 f2)) (vB_1 f3) ls hl
    · have f2 : k = 5 := (nI_eq (a := k) (b := 5) (by omega) (by omega)).mp f2
      refine lv_iconst (v := nI 1) hx hb dX2_isTaken_10 (by decide) ?_
      refine lv_goto (tgt := 15) hx hb dX2_isTaken_11 (by decide) ?_
      refine lv_istore (lv' := [(6, .int (nI 1)), (0, .ref h), (1, .int (nI k)), (2, .int (nI a0)), (3, .int (nI b0)), (4, .int (nI y0)), (5, .int (nI z0))]) hx hb dX2_isTaken_15 hl (by decide) rfl (fun ls hl => ?_)
      refine lv_iload_n hx hb dX2_isTaken_17 rfl (lv_at hl 2 rfl) ?_
      refine lv_iconst (v := nI 1) hx hb dX2_isTaken_18 (by decide) ?_
      refine lv_icmp_ne (tgt := 26) hx hb dX2_isTaken_19 (by decide) (fun f3 => ?_) (fun f3 => ?_)
      · have f3 : ¬ k = 1 := fun q => f3 ((nI_eq (a := k) (b := 1) (by omega) (by omega)).mpr q)
        refine lv_iconst (v := nI 0) hx hb dX2_isTaken_26 (by decide) ?_
        refine lv_istore (lv' := [(7, .int (nI 0)), (6, .int (nI 1)), (0, .ref h), (1, .int (nI k)), (2, .int (nI a0)), (3, .int (nI b0)), (4, .int (nI y0)), (5, .int (nI z0))]) hx hb dX2_isTaken_27 hl (by decide) rfl (fun ls hl => ?_)
        exact tail _ _ (vB_1 (Or.inr f2)) (vB_0 f3) ls hl
      · have f3 : k = 1 := (nI_eq (a := k) (b := 1) (by omega) (by omega)).mp f3
        refine lv_iconst (v := nI 1) hx hb dX2_isTaken_22 (by decide) ?_
        refine lv_goto (tgt := 27) hx hb dX2_isTaken_23 (by decide) ?_
        refine lv_istore (lv' := [(7, .int (nI 1)), (6, .int (nI 1)), (0, .ref h), (1, .int (nI k)), (2, .int (nI a0)), (3, .int (nI b0)), (4, .int (nI y0)), (5, .int (nI z0))]) hx hb dX2_isTaken_27 hl (by decide) rfl (fun ls hl => ?_)
        exact tail _ _ (vB_1 (Or.inr f2)) (vB_1 f3) ls hl

set_option maxHeartbeats 4000000 in
set_option maxRecDepth 100000 in
theorem metX2_source (l : Launch) (D : va_G) (c1 c2 : ClassId) (h : Nat) (ad : Nat → Nat) (A : Nat → Prop) (σ : KS) (N : Net) (hO : mNet N σ) (x0 x1 x2 : Int32) :
    Met l yX2_source (ws_ yX2_source cX2_source 4 (some .int)) ({ frames := 1, cells := 0, slots := 0, locals := 25 } : Room) (mP D c1 c2 h ad A σ [.int x0, .int x1, .int x2]) (va_Qi (fun (r : Int32) (σ' : KS) => ∃ N', mNet N' σ' ∧ sSrc N x0 x1 x2 r N') (mB D c1 c2 h ad A) A) 0 0 A := by
  refine mM_of (by decide) rfl (Nat.le_of_ble_eq_true rfl) ?_
  intro p e s m args below meth c ls X hr hlocks I hl
  have hl : lv_has ls 4 [(0, .ref h), (1, .int x0), (2, .int x1), (3, .int x2)] := hl
  have hx := X.1
  have hb := X.2.1
  have hn8 := hO.1.1
  have hrw := hO.2.2.2
  refine mf_n X I (v := nI N.1) hO.2.1 (lv_at hl 0 rfl) dX2_source_0 dX2_source_1 ?_
  refine lv_bipush (v := nI 8) hx hb dX2_source_4 (by decide) ?_
  refine lv_icmp_ne (tgt := 12) hx hb dX2_source_6 (by decide) (fun b1 => ?_) (fun b1 => ?_)
  · have b1 : ¬ N.1 = 8 := fun q => b1 ((nI_eq (a := N.1) (b := 8) (by omega) (by omega)).mpr q)
    have b1 : N.1 < 8 := by omega
    by_cases hx0 : x0 < 0
    · refine lv_iload_n hx hb dX2_source_12 rfl (lv_at hl 1 rfl) ?_
      refine lv_if_lt (tgt := 34) hx hb dX2_source_13 (by decide) (fun b2 => ?_) (fun b2 => ?_)
      · refine lv_iconst (v := -1) hx hb dX2_source_34 (by decide) ?_
        exact m_iret X I hr hlocks ⟨N, hO, Or.inr (Or.inl ⟨b1, Or.inl b2, rfl, rfl⟩)⟩ dX2_source_35
      · exact absurd hx0 b2
    · obtain ⟨k, hk, rfl⟩ := nI_of hx0
      refine lv_iload_n hx hb dX2_source_12 rfl (lv_at hl 1 rfl) ?_
      refine lv_if_lt (tgt := 34) hx hb dX2_source_13 (by decide) (fun b2 => ?_) (fun b2 => ?_)
      · exact absurd b2 hx0
      · refine lv_iload_n hx hb dX2_source_16 rfl (lv_at hl 1 rfl) ?_
        refine lv_bipush (v := nI 16) hx hb dX2_source_17 (by decide) ?_
        refine lv_idiv hx hb dX2_source_19 (by decide) ?_
        refine kv_top (pk_div (a := k) (d := 16) (by omega) (by decide) (by decide)) ?_
        refine lv_bipush (v := nI 9) hx hb dX2_source_20 (by decide) ?_
        refine lv_icmp_gt (tgt := 34) hx hb dX2_source_22 (by decide) (fun b3 => ?_) (fun b3 => ?_)
        · have b3 : 9 < (k / 16) := (nI_ltI (a := 9) (b := (k / 16)) (by omega) (by omega)).mp b3
          refine lv_iconst (v := -1) hx hb dX2_source_34 (by decide) ?_
          exact m_iret X I hr hlocks ⟨N, hO, Or.inr (Or.inl ⟨b1, Or.inr ⟨k, hk, rfl, Or.inl b3⟩, rfl, rfl⟩)⟩ dX2_source_35
        · have b3 : ¬ 9 < (k / 16) := fun q => b3 ((nI_ltI (a := 9) (b := (k / 16)) (by omega) (by omega)).mpr q)
          refine lv_iload_n hx hb dX2_source_25 rfl (lv_at hl 1 rfl) ?_
          refine lv_bipush (v := nI 16) hx hb dX2_source_26 (by decide) ?_
          refine lv_irem hx hb dX2_source_28 (by decide) ?_
          refine kv_top (pk_rem (a := k) (d := 16) (by omega) (by decide) (by decide)) ?_
          refine lv_bipush (v := nI 12) hx hb dX2_source_29 (by decide) ?_
          refine lv_icmp_le (tgt := 36) hx hb dX2_source_31 (by decide) (fun b4 => ?_) (fun b4 => ?_)
          · have b4 : (k % 16) ≤ 12 := (nI_leI (a := (k % 16)) (b := 12) (by omega) (by omega)).mp b4
            have hwr := (hrw (k / 16) (by omega)).2
            refine mf_written X I (lv_at hl 0 rfl) dX2_source_36 dX2_source_37 ?_
            refine lv_iload_n hx hb dX2_source_40 rfl (lv_at hl 1 rfl) ?_
            refine lv_bipush (v := nI 16) hx hb dX2_source_41 (by decide) ?_
            refine lv_idiv hx hb dX2_source_43 (by decide) ?_
            refine kv_top (pk_div (a := k) (d := 16) (by omega) (by decide) (by decide)) ?_
            refine ml_written X I (k / 16) rfl (by omega) (v := σ 9 (k / 16)) rfl dX2_source_44 ?_
            refine lv_if_eq (tgt := 51) hx hb dX2_source_45 (by decide) (fun b5 => ?_) (fun b5 => ?_)
            · have hw := vB_eq0 hwr b5
              refine mf_written X I (lv_at hl 0 rfl) dX2_source_51 dX2_source_52 ?_
              refine lv_iload_n hx hb dX2_source_55 rfl (lv_at hl 1 rfl) ?_
              refine lv_bipush (v := nI 16) hx hb dX2_source_56 (by decide) ?_
              refine lv_idiv hx hb dX2_source_58 (by decide) ?_
              refine kv_top (pk_div (a := k) (d := 16) (by omega) (by decide) (by decide)) ?_
              refine lv_iconst (v := nI 1) hx hb dX2_source_59 (by decide) ?_
              refine ms_written X I (k / 16) rfl (by omega) rfl dX2_source_60 (fun H locs I => ?_)
              refine mf_p X I (lv_at hl 0 rfl) dX2_source_61 dX2_source_62 ?_
              refine mf_n X I (v := nI N.1) hO.2.1 (lv_at hl 0 rfl) dX2_source_65 dX2_source_66 ?_
              refine lv_iload_n hx hb dX2_source_69 rfl (lv_at hl 2 rfl) ?_
              refine ms_p X I N.1 rfl (by omega) dX2_source_70 (fun H locs I => ?_)
              refine mf_q X I (lv_at hl 0 rfl) dX2_source_71 dX2_source_72 ?_
              refine mf_n X I (v := nI N.1) hO.2.1 (lv_at hl 0 rfl) dX2_source_75 dX2_source_76 ?_
              refine lv_iload_n hx hb dX2_source_79 rfl (lv_at hl 3 rfl) ?_
              refine ms_q X I N.1 rfl (by omega) dX2_source_80 (fun H locs I => ?_)
              refine lv_aload_n hx hb dX2_source_81 rfl (lv_at hl 0 rfl) ?_
              refine lv_iconst (v := nI 0) hx hb dX2_source_82 (by decide) ?_
              refine lv_iconst (v := nI 0) hx hb dX2_source_83 (by decide) ?_
              refine lv_iload_n hx hb dX2_source_84 rfl (lv_at hl 1 rfl) ?_
              refine lv_bipush (v := nI 16) hx hb dX2_source_85 (by decide) ?_
              refine lv_irem hx hb dX2_source_87 (by decide) ?_
              refine kv_top (pk_rem (a := k) (d := 16) (by omega) (by decide) (by decide)) ?_
              refine lv_iload_n hx hb dX2_source_88 rfl (lv_at hl 1 rfl) ?_
              refine lv_bipush (v := nI 16) hx hb dX2_source_89 (by decide) ?_
              refine lv_idiv hx hb dX2_source_91 (by decide) ?_
              refine kv_top (pk_div (a := k) (d := 16) (by omega) (by decide) (by decide)) ?_
              refine lv_iconst (v := nI 0) hx hb dX2_source_92 (by decide) ?_
              refine m_calli X I (rest := []) (metX2_addProcess l D c1 c2 h ad A (su (su (su σ 9 (k / 16) (nI 1)) 6 N.1 x1) 7 N.1 x2) N.1 (nI 0) (nI 0) (nI (k % 16)) (nI (k / 16)) (nI 0) hO.2.1 (by omega)) (cwX2_addProcess X.2.2.2.2.1 rfl rfl ⟨Nat.le_of_ble_eq_true rfl, Nat.le_of_ble_eq_true rfl⟩) rfl hl.1 rfl (Nat.le_of_ble_eq_true rfl) ⟨Nat.zero_le _, Nat.zero_le _⟩ dX2_source_93 (fun r2 σ1 H locs hv I => ?_)
              obtain ⟨hr2, hs1⟩ := hv
              subst hr2
              rw [hs1] at I
              have hok : nOk (nAdd N 0 0 (k % 16) (k / 16) 0 x1 x2) := nOk_add hO.1 (by omega) ⟨by omega, by omega, by omega, by omega, by omega, fun q => absurd rfl q, fun q => by omega, fun q => by omega⟩ (fun q => absurd rfl q) (fun q => by omega) hw (fun q => by omega)
              exact m_iret X I hr hlocks ⟨_, mNet_add hO hok rfl (fun f h1 h7 i hi => by rw [su_other (by omega), su_nj (by omega), su_nj (by omega), su_nj (by omega), su_nj (by omega), su_nj (by omega), su_nj (by omega), su_nj (by omega), su_other (by omega)]) (su_at (su (su (su σ 9 (k / 16) (nI 1)) 6 N.1 x1) 7 N.1 x2) 1 N.1 (nI 0)) (su_at (su (su (su (su σ 9 (k / 16) (nI 1)) 6 N.1 x1) 7 N.1 x2) 1 N.1 (nI 0)) 2 N.1 (nI 0)) (su_at (su (su (su (su (su σ 9 (k / 16) (nI 1)) 6 N.1 x1) 7 N.1 x2) 1 N.1 (nI 0)) 2 N.1 (nI 0)) 3 N.1 (nI (k % 16))) (su_at (su (su (su (su (su (su σ 9 (k / 16) (nI 1)) 6 N.1 x1) 7 N.1 x2) 1 N.1 (nI 0)) 2 N.1 (nI 0)) 3 N.1 (nI (k % 16))) 4 N.1 (nI (k / 16))) (su_at (su (su (su (su (su (su (su σ 9 (k / 16) (nI 1)) 6 N.1 x1) 7 N.1 x2) 1 N.1 (nI 0)) 2 N.1 (nI 0)) 3 N.1 (nI (k % 16))) 4 N.1 (nI (k / 16))) 5 N.1 (nI 0)) (su_at (su σ 9 (k / 16) (nI 1)) 6 N.1 x1) (fun _ => (su_at (su (su σ 9 (k / 16) (nI 1)) 6 N.1 x1) 7 N.1 x2)) (fun x hx => vB_iff (hrw x hx).1 ⟨Or.inl, fun z => z.elim id (fun y => absurd rfl y.1)⟩) (fun x hx => vB_iff (vB_upd (f := σ 9) (P := sWr N) (a := k / 16) (fun y hy => (hrw y hy).2) x hx) ⟨fun z => z.elim Or.inl (fun y => Or.inr (Or.inl y)), fun z => z.elim Or.inl (fun y => y.elim Or.inr (fun t => by omega))⟩), Or.inr (Or.inr ⟨b1, k, hk, rfl, by omega, b4, Or.inr ⟨hw, rfl, rfl⟩⟩)⟩ dX2_source_96
            · refine lv_bipush (v := -3) hx hb dX2_source_48 (by decide) ?_
              exact m_iret X I hr hlocks ⟨N, hO, Or.inr (Or.inr ⟨b1, k, hk, rfl, by omega, b4, Or.inl ⟨vB_ne0 hwr b5, rfl, rfl⟩⟩)⟩ dX2_source_50
          · have b4 : ¬ (k % 16) ≤ 12 := fun q => b4 ((nI_leI (a := (k % 16)) (b := 12) (by omega) (by omega)).mpr q)
            refine lv_iconst (v := -1) hx hb dX2_source_34 (by decide) ?_
            exact m_iret X I hr hlocks ⟨N, hO, Or.inr (Or.inl ⟨b1, Or.inr ⟨k, hk, rfl, Or.inr (by omega)⟩, rfl, rfl⟩)⟩ dX2_source_35
  · have b1 : N.1 = 8 := (nI_eq (a := N.1) (b := 8) (by omega) (by omega)).mp b1
    refine lv_bipush (v := -2) hx hb dX2_source_9 (by decide) ?_
    exact m_iret X I hr hlocks ⟨N, hO, Or.inl ⟨by omega, rfl, rfl⟩⟩ dX2_source_11

set_option maxHeartbeats 4000000 in
set_option maxRecDepth 100000 in
theorem metX2_process (l : Launch) (D : va_G) (c1 c2 : ClassId) (h : Nat) (ad : Nat → Nat) (A : Nat → Prop) (σ : KS) (N : Net) (hO : mNet N σ) (x0 x1 x2 : Int32) :
    Met l yX2_process (ws_ yX2_process cX2_process 8 (some .int)) ({ frames := 1, cells := 0, slots := 0, locals := 27 } : Room) (mP D c1 c2 h ad A σ [.int x0, .int x1, .int x2]) (va_Qi (fun (r : Int32) (σ' : KS) => ∃ N', mNet N' σ' ∧ sPrc N x0 x1 x2 r N') (mB D c1 c2 h ad A) A) 0 0 A := by
  refine mM_of (by decide) rfl (Nat.le_of_ble_eq_true rfl) ?_
  intro p e s m args below meth c ls X hr hlocks I hl
  have hl : lv_has ls 8 [(0, .ref h), (1, .int x0), (2, .int x1), (3, .int x2)] := hl
  have hx := X.1
  have hb := X.2.1
  have hn8 := hO.1.1
  have hrw := hO.2.2.2
  refine mf_n X I (v := nI N.1) hO.2.1 (lv_at hl 0 rfl) dX2_process_0 dX2_process_1 ?_
  refine lv_bipush (v := nI 8) hx hb dX2_process_4 (by decide) ?_
  refine lv_icmp_ne (tgt := 12) hx hb dX2_process_6 (by decide) (fun b1 => ?_) (fun b1 => ?_)
  · have b1 : ¬ N.1 = 8 := fun q => b1 ((nI_eq (a := N.1) (b := 8) (by omega) (by omega)).mpr q)
    have b1 : N.1 < 8 := by omega
    refine lv_iload_n hx hb dX2_process_12 rfl (lv_at hl 1 rfl) ?_
    refine lv_iconst (v := nI 1) hx hb dX2_process_13 (by decide) ?_
    refine lv_icmp_lt (tgt := 34) hx hb dX2_process_14 (by decide) (fun b2 => ?_) (fun b2 => ?_)
    · refine lv_iconst (v := -1) hx hb dX2_process_34 (by decide) ?_
      exact m_iret X I hr hlocks ⟨N, hO, Or.inr (Or.inl ⟨b1, Or.inl b2, rfl, rfl⟩)⟩ dX2_process_35
    · refine lv_iload_n hx hb dX2_process_17 rfl (lv_at hl 1 rfl) ?_
      refine lv_bipush (v := nI 7) hx hb dX2_process_18 (by decide) ?_
      refine lv_icmp_gt (tgt := 34) hx hb dX2_process_20 (by decide) (fun b3 => ?_) (fun b3 => ?_)
      · refine lv_iconst (v := -1) hx hb dX2_process_34 (by decide) ?_
        exact m_iret X I hr hlocks ⟨N, hO, Or.inr (Or.inl ⟨b1, Or.inr (Or.inl b3), rfl, rfl⟩)⟩ dX2_process_35
      · refine lv_iload_n hx hb dX2_process_23 rfl (lv_at hl 2 rfl) ?_
        refine lv_if_lt (tgt := 34) hx hb dX2_process_24 (by decide) (fun b4 => ?_) (fun b4 => ?_)
        · refine lv_iconst (v := -1) hx hb dX2_process_34 (by decide) ?_
          exact m_iret X I hr hlocks ⟨N, hO, Or.inr (Or.inl ⟨b1, Or.inr (Or.inr (Or.inl b4)), rfl, rfl⟩)⟩ dX2_process_35
        · refine lv_iload_n hx hb dX2_process_27 rfl (lv_at hl 2 rfl) ?_
          refine lv_sipush (v := nI 9999) hx hb dX2_process_28 (by decide) ?_
          refine lv_icmp_le (tgt := 36) hx hb dX2_process_31 (by decide) (fun b5 => ?_) (fun b5 => ?_)
          · obtain ⟨k, hk7, rfl⟩ := nI_of2 (M := nI 7) (n := 7) (by decide) (fun q => b2 (Int32.lt_trans q (by decide))) (Int32.not_lt.mp b3)
            obtain ⟨p0, hp9, rfl⟩ := nI_of2 (M := nI 9999) (n := 9999) (by decide) b4 b5
            have hk1 : 1 ≤ k := (nI_leI (by omega) (by omega)).mp (Int32.not_lt.mp b2)
            refine lv_iload_n hx hb dX2_process_36 rfl (lv_at hl 2 rfl) ?_
            refine lv_sipush (v := nI 1000) hx hb dX2_process_37 (by decide) ?_
            refine lv_idiv hx hb dX2_process_40 (by decide) ?_
            refine kv_top (pk_div (a := p0) (d := 1000) (by omega) (by decide) (by decide)) ?_
            refine lv_istore (lv' := [(4, .int (nI (p0 / 1000))), (0, .ref h), (1, .int (nI k)), (2, .int (nI p0)), (3, .int x2)]) hx hb dX2_process_41 hl (by decide) rfl (fun ls hl => ?_)
            refine lv_iload_n hx hb dX2_process_43 rfl (lv_at hl 3 rfl) ?_
            refine lv_bipush (v := nI 100) hx hb dX2_process_44 (by decide) ?_
            refine lv_idiv hx hb dX2_process_46 (by decide) ?_
            refine kv_top (pk_div (a := p0) (d := 100) (by omega) (by decide) (by decide)) ?_
            refine lv_bipush (v := nI 10) hx hb dX2_process_47 (by decide) ?_
            refine lv_irem hx hb dX2_process_49 (by decide) ?_
            refine kv_top (pk_rem (a := (p0 / 100)) (d := 10) (by omega) (by decide) (by decide)) ?_
            refine lv_istore (lv' := [(5, .int (nI ((p0 / 100) % 10))), (4, .int (nI (p0 / 1000))), (0, .ref h), (1, .int (nI k)), (2, .int (nI p0)), (3, .int x2)]) hx hb dX2_process_50 hl (by decide) rfl (fun ls hl => ?_)
            refine lv_iload_n hx hb dX2_process_52 rfl (lv_at hl 4 rfl) ?_
            refine lv_bipush (v := nI 10) hx hb dX2_process_53 (by decide) ?_
            refine lv_idiv hx hb dX2_process_55 (by decide) ?_
            refine kv_top (pk_div (a := p0) (d := 10) (by omega) (by decide) (by decide)) ?_
            refine lv_bipush (v := nI 10) hx hb dX2_process_56 (by decide) ?_
            refine lv_irem hx hb dX2_process_58 (by decide) ?_
            refine kv_top (pk_rem (a := (p0 / 10)) (d := 10) (by omega) (by decide) (by decide)) ?_
            refine lv_istore (lv' := [(6, .int (nI ((p0 / 10) % 10))), (5, .int (nI ((p0 / 100) % 10))), (4, .int (nI (p0 / 1000))), (0, .ref h), (1, .int (nI k)), (2, .int (nI p0)), (3, .int x2)]) hx hb dX2_process_59 hl (by decide) rfl (fun ls hl => ?_)
            refine lv_iload_n hx hb dX2_process_61 rfl (lv_at hl 5 rfl) ?_
            refine lv_bipush (v := nI 10) hx hb dX2_process_62 (by decide) ?_
            refine lv_irem hx hb dX2_process_64 (by decide) ?_
            refine kv_top (pk_rem (a := p0) (d := 10) (by omega) (by decide) (by decide)) ?_
            refine lv_istore (lv' := [(7, .int (nI (p0 % 10))), (6, .int (nI ((p0 / 10) % 10))), (5, .int (nI ((p0 / 100) % 10))), (4, .int (nI (p0 / 1000))), (0, .ref h), (1, .int (nI k)), (2, .int (nI p0)), (3, .int x2)]) hx hb dX2_process_65 hl (by decide) rfl (fun ls hl => ?_)
            refine lv_aload_n hx hb dX2_process_67 rfl (lv_at hl 4 rfl) ?_
            refine lv_iload_n hx hb dX2_process_68 rfl (lv_at hl 5 rfl) ?_
            refine lv_iload hx hb dX2_process_69 (lv_at hl 3 rfl) ?_
            refine lv_iload hx hb dX2_process_71 (lv_at hl 2 rfl) ?_
            refine lv_iload hx hb dX2_process_73 (lv_at hl 1 rfl) ?_
            refine lv_iload hx hb dX2_process_75 (lv_at hl 0 rfl) ?_
            refine m_calli X I (rest := []) (metX2_isTaken l D c1 c2 h ad A σ N hO k (p0 / 1000) (p0 / 100 % 10) (p0 / 10 % 10) (p0 % 10) hk7 (by omega) (by omega) (by omega) (by omega)) (cwX2_isTaken X.2.2.2.2.1 rfl rfl ⟨Nat.le_of_ble_eq_true rfl, Nat.le_of_ble_eq_true rfl⟩) rfl hl.1 rfl (Nat.le_of_ble_eq_true rfl) ⟨Nat.zero_le _, Nat.zero_le _⟩ dX2_process_77 (fun r1 σ1 H locs ht I => ?_)
            obtain ⟨hs, ht⟩ := ht
            rw [hs] at I
            refine lv_if_eq (tgt := 86) hx hb dX2_process_80 (by decide) (fun e1 => ?_) (fun e1 => ?_)
            · have hnt := vB_eq0 ht e1
              have hok : nOk (nAdd N k (p0 / 1000) (p0 / 100 % 10) (p0 / 10 % 10) (p0 % 10) x2 0) := nOk_add hO.1 (by omega) ⟨by omega, by omega, by omega, by omega, by omega, fun _ => by omega, fun z q => hnt (Or.inr (Or.inr (Or.inr (Or.inr (Or.inl ⟨z, q⟩))))), fun z q => hnt (Or.inr (Or.inr (Or.inr (Or.inr (Or.inr ⟨z, q⟩)))))⟩ (fun _ q => hnt (Or.inl q)) (fun z q => hnt (Or.inr (Or.inl ⟨z, q⟩))) (fun q => hnt (Or.inr (Or.inr (Or.inl q)))) (fun z q => hnt (Or.inr (Or.inr (Or.inr (Or.inl ⟨z, q⟩)))))
              refine mf_read X I (lv_at hl 4 rfl) dX2_process_86 dX2_process_87 ?_
              refine lv_iload hx hb dX2_process_90 (lv_at hl 3 rfl) ?_
              refine lv_iconst (v := nI 1) hx hb dX2_process_92 (by decide) ?_
              refine ms_read X I (p0 / 1000) rfl (by omega) rfl dX2_process_93 (fun H locs I => ?_)
              refine mf_written X I (lv_at hl 4 rfl) dX2_process_94 dX2_process_95 ?_
              refine lv_iload hx hb dX2_process_98 (lv_at hl 1 rfl) ?_
              refine lv_iconst (v := nI 1) hx hb dX2_process_100 (by decide) ?_
              refine ms_written X I ((p0 / 10) % 10) rfl (by omega) rfl dX2_process_101 (fun H locs I => ?_)
              refine lv_iload_n hx hb dX2_process_102 rfl (lv_at hl 5 rfl) ?_
              refine lv_iconst (v := nI 2) hx hb dX2_process_103 (by decide) ?_
              refine lv_icmp_eq (tgt := 112) hx hb dX2_process_104 (by decide) (fun f1 => ?_) (fun f1 => ?_)
              · have f1 : k = 2 := (nI_eq (a := k) (b := 2) (by omega) (by omega)).mp f1
                have h2 : k = 2 ∨ k = 5 := Or.inl f1
                refine mf_read X I (lv_at hl 4 rfl) dX2_process_112 dX2_process_113 ?_
                refine lv_iload hx hb dX2_process_116 (lv_at hl 2 rfl) ?_
                refine lv_iconst (v := nI 1) hx hb dX2_process_118 (by decide) ?_
                refine ms_read X I ((p0 / 100) % 10) rfl (by omega) rfl dX2_process_119 (fun H locs I => ?_)
                refine lv_iload_n hx hb dX2_process_120 rfl (lv_at hl 5 rfl) ?_
                refine lv_iconst (v := nI 1) hx hb dX2_process_121 (by decide) ?_
                refine lv_icmp_ne (tgt := 133) hx hb dX2_process_122 (by decide) (fun h1 => ?_) (fun h1 => ?_)
                · have h1 : ¬ k = 1 := fun q => h1 ((nI_eq (a := k) (b := 1) (by omega) (by omega)).mpr q)
                  refine mf_p X I (lv_at hl 4 rfl) dX2_process_133 dX2_process_134 ?_
                  refine mf_n X I (v := nI N.1) hO.2.1 (lv_at hl 4 rfl) dX2_process_137 dX2_process_138 ?_
                  refine lv_iload_n hx hb dX2_process_141 rfl (lv_at hl 7 rfl) ?_
                  refine ms_p X I N.1 rfl (by omega) dX2_process_142 (fun H locs I => ?_)
                  refine lv_aload_n hx hb dX2_process_143 rfl (lv_at hl 4 rfl) ?_
                  refine lv_iload_n hx hb dX2_process_144 rfl (lv_at hl 5 rfl) ?_
                  refine lv_iload hx hb dX2_process_145 (lv_at hl 3 rfl) ?_
                  refine lv_iload hx hb dX2_process_147 (lv_at hl 2 rfl) ?_
                  refine lv_iload hx hb dX2_process_149 (lv_at hl 1 rfl) ?_
                  refine lv_iload hx hb dX2_process_151 (lv_at hl 0 rfl) ?_
                  refine m_calli X I (rest := []) (metX2_addProcess l D c1 c2 h ad A (su (su (su (su σ 8 (p0 / 1000) (nI 1)) 9 ((p0 / 10) % 10) (nI 1)) 8 ((p0 / 100) % 10) (nI 1)) 6 N.1 x2) N.1 (nI k) (nI (p0 / 1000)) (nI (p0 / 100 % 10)) (nI (p0 / 10 % 10)) (nI (p0 % 10)) hO.2.1 (by omega)) (cwX2_addProcess X.2.2.2.2.1 rfl rfl ⟨Nat.le_of_ble_eq_true rfl, Nat.le_of_ble_eq_true rfl⟩) rfl hl.1 rfl (Nat.le_of_ble_eq_true rfl) ⟨Nat.zero_le _, Nat.zero_le _⟩ dX2_process_153 (fun r2 σ1 H locs hv I => ?_)
                  obtain ⟨hr2, hs1⟩ := hv
                  subst hr2
                  rw [hs1] at I
                  exact m_iret X I hr hlocks ⟨_, mNet_add hO hok rfl (fun f h1 h7 i hi => by rw [su_other (by omega), su_nj (by omega), su_nj (by omega), su_nj (by omega), su_nj (by omega), su_nj (by omega), su_nj (by omega), su_other (by omega), su_other (by omega), su_other (by omega)]) (su_at (su (su (su (su σ 8 (p0 / 1000) (nI 1)) 9 ((p0 / 10) % 10) (nI 1)) 8 ((p0 / 100) % 10) (nI 1)) 6 N.1 x2) 1 N.1 (nI k)) (su_at (su (su (su (su (su σ 8 (p0 / 1000) (nI 1)) 9 ((p0 / 10) % 10) (nI 1)) 8 ((p0 / 100) % 10) (nI 1)) 6 N.1 x2) 1 N.1 (nI k)) 2 N.1 (nI (p0 / 1000))) (su_at (su (su (su (su (su (su σ 8 (p0 / 1000) (nI 1)) 9 ((p0 / 10) % 10) (nI 1)) 8 ((p0 / 100) % 10) (nI 1)) 6 N.1 x2) 1 N.1 (nI k)) 2 N.1 (nI (p0 / 1000))) 3 N.1 (nI (p0 / 100 % 10))) (su_at (su (su (su (su (su (su (su σ 8 (p0 / 1000) (nI 1)) 9 ((p0 / 10) % 10) (nI 1)) 8 ((p0 / 100) % 10) (nI 1)) 6 N.1 x2) 1 N.1 (nI k)) 2 N.1 (nI (p0 / 1000))) 3 N.1 (nI (p0 / 100 % 10))) 4 N.1 (nI (p0 / 10 % 10))) (su_at (su (su (su (su (su (su (su (su σ 8 (p0 / 1000) (nI 1)) 9 ((p0 / 10) % 10) (nI 1)) 8 ((p0 / 100) % 10) (nI 1)) 6 N.1 x2) 1 N.1 (nI k)) 2 N.1 (nI (p0 / 1000))) 3 N.1 (nI (p0 / 100 % 10))) 4 N.1 (nI (p0 / 10 % 10))) 5 N.1 (nI (p0 % 10))) (su_at (su (su (su σ 8 (p0 / 1000) (nI 1)) 9 ((p0 / 10) % 10) (nI 1)) 8 ((p0 / 100) % 10) (nI 1)) 6 N.1 x2) (fun z => absurd z (by omega)) (fun x hx => vB_iff (vB_upd (P := fun x => sRd N x ∨ p0 / 1000 = x) (a := p0 / 100 % 10) (vB_upd (f := σ 8) (P := sRd N) (a := p0 / 1000) (fun y hy => (hrw y hy).1)) x hx) ⟨fun z => z.elim (fun y => y.elim Or.inl (fun t => Or.inr ⟨by omega, Or.inl t⟩)) (fun t => Or.inr ⟨by omega, Or.inr ⟨h2, t⟩⟩), fun z => z.elim (fun y => Or.inl (Or.inl y)) (fun y => y.2.elim (fun t => Or.inl (Or.inr t)) (fun t => Or.inr t.2))⟩) (fun x hx => vB_iff (vB_upd (f := σ 9) (P := sWr N) (a := p0 / 10 % 10) (fun y hy => (hrw y hy).2) x hx) ⟨fun z => z.elim Or.inl (fun t => Or.inr (Or.inl t)), fun z => z.elim Or.inl (fun y => y.elim Or.inr (fun t => absurd t.1 h1))⟩), Or.inr (Or.inr ⟨b1, k, p0, rfl, rfl, hk1, hk7, hp9, Or.inr ⟨hnt, rfl, rfl⟩⟩)⟩ dX2_process_156
                · have h1 : k = 1 := (nI_eq (a := k) (b := 1) (by omega) (by omega)).mp h1
                  refine mf_written X I (lv_at hl 4 rfl) dX2_process_125 dX2_process_126 ?_
                  refine lv_iload hx hb dX2_process_129 (lv_at hl 0 rfl) ?_
                  refine lv_iconst (v := nI 1) hx hb dX2_process_131 (by decide) ?_
                  refine ms_written X I (p0 % 10) rfl (by omega) rfl dX2_process_132 (fun H locs I => ?_)
                  refine mf_p X I (lv_at hl 4 rfl) dX2_process_133 dX2_process_134 ?_
                  refine mf_n X I (v := nI N.1) hO.2.1 (lv_at hl 4 rfl) dX2_process_137 dX2_process_138 ?_
                  refine lv_iload_n hx hb dX2_process_141 rfl (lv_at hl 7 rfl) ?_
                  refine ms_p X I N.1 rfl (by omega) dX2_process_142 (fun H locs I => ?_)
                  refine lv_aload_n hx hb dX2_process_143 rfl (lv_at hl 4 rfl) ?_
                  refine lv_iload_n hx hb dX2_process_144 rfl (lv_at hl 5 rfl) ?_
                  refine lv_iload hx hb dX2_process_145 (lv_at hl 3 rfl) ?_
                  refine lv_iload hx hb dX2_process_147 (lv_at hl 2 rfl) ?_
                  refine lv_iload hx hb dX2_process_149 (lv_at hl 1 rfl) ?_
                  refine lv_iload hx hb dX2_process_151 (lv_at hl 0 rfl) ?_
                  refine m_calli X I (rest := []) (metX2_addProcess l D c1 c2 h ad A (su (su (su (su (su σ 8 (p0 / 1000) (nI 1)) 9 ((p0 / 10) % 10) (nI 1)) 8 ((p0 / 100) % 10) (nI 1)) 9 (p0 % 10) (nI 1)) 6 N.1 x2) N.1 (nI k) (nI (p0 / 1000)) (nI (p0 / 100 % 10)) (nI (p0 / 10 % 10)) (nI (p0 % 10)) hO.2.1 (by omega)) (cwX2_addProcess X.2.2.2.2.1 rfl rfl ⟨Nat.le_of_ble_eq_true rfl, Nat.le_of_ble_eq_true rfl⟩) rfl hl.1 rfl (Nat.le_of_ble_eq_true rfl) ⟨Nat.zero_le _, Nat.zero_le _⟩ dX2_process_153 (fun r2 σ1 H locs hv I => ?_)
                  obtain ⟨hr2, hs1⟩ := hv
                  subst hr2
                  rw [hs1] at I
                  exact m_iret X I hr hlocks ⟨_, mNet_add hO hok rfl (fun f h1 h7 i hi => by rw [su_other (by omega), su_nj (by omega), su_nj (by omega), su_nj (by omega), su_nj (by omega), su_nj (by omega), su_nj (by omega), su_other (by omega), su_other (by omega), su_other (by omega), su_other (by omega)]) (su_at (su (su (su (su (su σ 8 (p0 / 1000) (nI 1)) 9 ((p0 / 10) % 10) (nI 1)) 8 ((p0 / 100) % 10) (nI 1)) 9 (p0 % 10) (nI 1)) 6 N.1 x2) 1 N.1 (nI k)) (su_at (su (su (su (su (su (su σ 8 (p0 / 1000) (nI 1)) 9 ((p0 / 10) % 10) (nI 1)) 8 ((p0 / 100) % 10) (nI 1)) 9 (p0 % 10) (nI 1)) 6 N.1 x2) 1 N.1 (nI k)) 2 N.1 (nI (p0 / 1000))) (su_at (su (su (su (su (su (su (su σ 8 (p0 / 1000) (nI 1)) 9 ((p0 / 10) % 10) (nI 1)) 8 ((p0 / 100) % 10) (nI 1)) 9 (p0 % 10) (nI 1)) 6 N.1 x2) 1 N.1 (nI k)) 2 N.1 (nI (p0 / 1000))) 3 N.1 (nI (p0 / 100 % 10))) (su_at (su (su (su (su (su (su (su (su σ 8 (p0 / 1000) (nI 1)) 9 ((p0 / 10) % 10) (nI 1)) 8 ((p0 / 100) % 10) (nI 1)) 9 (p0 % 10) (nI 1)) 6 N.1 x2) 1 N.1 (nI k)) 2 N.1 (nI (p0 / 1000))) 3 N.1 (nI (p0 / 100 % 10))) 4 N.1 (nI (p0 / 10 % 10))) (su_at (su (su (su (su (su (su (su (su (su σ 8 (p0 / 1000) (nI 1)) 9 ((p0 / 10) % 10) (nI 1)) 8 ((p0 / 100) % 10) (nI 1)) 9 (p0 % 10) (nI 1)) 6 N.1 x2) 1 N.1 (nI k)) 2 N.1 (nI (p0 / 1000))) 3 N.1 (nI (p0 / 100 % 10))) 4 N.1 (nI (p0 / 10 % 10))) 5 N.1 (nI (p0 % 10))) (su_at (su (su (su (su σ 8 (p0 / 1000) (nI 1)) 9 ((p0 / 10) % 10) (nI 1)) 8 ((p0 / 100) % 10) (nI 1)) 9 (p0 % 10) (nI 1)) 6 N.1 x2) (fun z => absurd z (by omega)) (fun x hx => vB_iff (vB_upd (P := fun x => sRd N x ∨ p0 / 1000 = x) (a := p0 / 100 % 10) (vB_upd (f := σ 8) (P := sRd N) (a := p0 / 1000) (fun y hy => (hrw y hy).1)) x hx) ⟨fun z => z.elim (fun y => y.elim Or.inl (fun t => Or.inr ⟨by omega, Or.inl t⟩)) (fun t => Or.inr ⟨by omega, Or.inr ⟨h2, t⟩⟩), fun z => z.elim (fun y => Or.inl (Or.inl y)) (fun y => y.2.elim (fun t => Or.inl (Or.inr t)) (fun t => Or.inr t.2))⟩) (fun x hx => vB_iff (vB_upd (P := fun x => sWr N x ∨ p0 / 10 % 10 = x) (a := p0 % 10) (vB_upd (f := σ 9) (P := sWr N) (a := p0 / 10 % 10) (fun y hy => (hrw y hy).2)) x hx) ⟨fun z => z.elim (fun y => y.elim Or.inl (fun t => Or.inr (Or.inl t))) (fun t => Or.inr (Or.inr ⟨h1, t⟩)), fun z => z.elim (fun y => Or.inl (Or.inl y)) (fun y => y.elim (fun t => Or.inl (Or.inr t)) (fun t => Or.inr t.2))⟩), Or.inr (Or.inr ⟨b1, k, p0, rfl, rfl, hk1, hk7, hp9, Or.inr ⟨hnt, rfl, rfl⟩⟩)⟩ dX2_process_156
              · have f1 : ¬ k = 2 := fun q => f1 ((nI_eq (a := k) (b := 2) (by omega) (by omega)).mpr q)
                refine lv_iload_n hx hb dX2_process_107 rfl (lv_at hl 5 rfl) ?_
                refine lv_iconst (v := nI 5) hx hb dX2_process_108 (by decide) ?_
                refine lv_icmp_ne (tgt := 120) hx hb dX2_process_109 (by decide) (fun f2 => ?_) (fun f2 => ?_)
                · have f2 : ¬ k = 5 := fun q => f2 ((nI_eq (a := k) (b := 5) (by omega) (by omega)).mpr q)
                  have h2 : ¬ (k = 2 ∨ k = 5) := fun q => q.elim f1 f2
                  refine lv_iload_n hx hb dX2_process_120 rfl (lv_at hl 5 rfl) ?_
                  refine lv_iconst (v := nI 1) hx hb dX2_process_121 (by decide) ?_
                  refine lv_icmp_ne (tgt := 133) hx hb dX2_process_122 (by decide) (fun h1 => ?_) (fun h1 => ?_)
                  · have h1 : ¬ k = 1 := fun q => h1 ((nI_eq (a := k) (b := 1) (by omega) (by omega)).mpr q)
                    refine mf_p X I (lv_at hl 4 rfl) dX2_process_133 dX2_process_134 ?_
                    refine mf_n X I (v := nI N.1) hO.2.1 (lv_at hl 4 rfl) dX2_process_137 dX2_process_138 ?_
                    refine lv_iload_n hx hb dX2_process_141 rfl (lv_at hl 7 rfl) ?_
                    refine ms_p X I N.1 rfl (by omega) dX2_process_142 (fun H locs I => ?_)
                    refine lv_aload_n hx hb dX2_process_143 rfl (lv_at hl 4 rfl) ?_
                    refine lv_iload_n hx hb dX2_process_144 rfl (lv_at hl 5 rfl) ?_
                    refine lv_iload hx hb dX2_process_145 (lv_at hl 3 rfl) ?_
                    refine lv_iload hx hb dX2_process_147 (lv_at hl 2 rfl) ?_
                    refine lv_iload hx hb dX2_process_149 (lv_at hl 1 rfl) ?_
                    refine lv_iload hx hb dX2_process_151 (lv_at hl 0 rfl) ?_
                    refine m_calli X I (rest := []) (metX2_addProcess l D c1 c2 h ad A (su (su (su σ 8 (p0 / 1000) (nI 1)) 9 ((p0 / 10) % 10) (nI 1)) 6 N.1 x2) N.1 (nI k) (nI (p0 / 1000)) (nI (p0 / 100 % 10)) (nI (p0 / 10 % 10)) (nI (p0 % 10)) hO.2.1 (by omega)) (cwX2_addProcess X.2.2.2.2.1 rfl rfl ⟨Nat.le_of_ble_eq_true rfl, Nat.le_of_ble_eq_true rfl⟩) rfl hl.1 rfl (Nat.le_of_ble_eq_true rfl) ⟨Nat.zero_le _, Nat.zero_le _⟩ dX2_process_153 (fun r2 σ1 H locs hv I => ?_)
                    obtain ⟨hr2, hs1⟩ := hv
                    subst hr2
                    rw [hs1] at I
                    exact m_iret X I hr hlocks ⟨_, mNet_add hO hok rfl (fun f h1 h7 i hi => by rw [su_other (by omega), su_nj (by omega), su_nj (by omega), su_nj (by omega), su_nj (by omega), su_nj (by omega), su_nj (by omega), su_other (by omega), su_other (by omega)]) (su_at (su (su (su σ 8 (p0 / 1000) (nI 1)) 9 ((p0 / 10) % 10) (nI 1)) 6 N.1 x2) 1 N.1 (nI k)) (su_at (su (su (su (su σ 8 (p0 / 1000) (nI 1)) 9 ((p0 / 10) % 10) (nI 1)) 6 N.1 x2) 1 N.1 (nI k)) 2 N.1 (nI (p0 / 1000))) (su_at (su (su (su (su (su σ 8 (p0 / 1000) (nI 1)) 9 ((p0 / 10) % 10) (nI 1)) 6 N.1 x2) 1 N.1 (nI k)) 2 N.1 (nI (p0 / 1000))) 3 N.1 (nI (p0 / 100 % 10))) (su_at (su (su (su (su (su (su σ 8 (p0 / 1000) (nI 1)) 9 ((p0 / 10) % 10) (nI 1)) 6 N.1 x2) 1 N.1 (nI k)) 2 N.1 (nI (p0 / 1000))) 3 N.1 (nI (p0 / 100 % 10))) 4 N.1 (nI (p0 / 10 % 10))) (su_at (su (su (su (su (su (su (su σ 8 (p0 / 1000) (nI 1)) 9 ((p0 / 10) % 10) (nI 1)) 6 N.1 x2) 1 N.1 (nI k)) 2 N.1 (nI (p0 / 1000))) 3 N.1 (nI (p0 / 100 % 10))) 4 N.1 (nI (p0 / 10 % 10))) 5 N.1 (nI (p0 % 10))) (su_at (su (su σ 8 (p0 / 1000) (nI 1)) 9 ((p0 / 10) % 10) (nI 1)) 6 N.1 x2) (fun z => absurd z (by omega)) (fun x hx => vB_iff (vB_upd (f := σ 8) (P := sRd N) (a := p0 / 1000) (fun y hy => (hrw y hy).1) x hx) ⟨fun z => z.elim Or.inl (fun t => Or.inr ⟨by omega, Or.inl t⟩), fun z => z.elim Or.inl (fun y => y.2.elim Or.inr (fun t => absurd t.1 h2))⟩) (fun x hx => vB_iff (vB_upd (f := σ 9) (P := sWr N) (a := p0 / 10 % 10) (fun y hy => (hrw y hy).2) x hx) ⟨fun z => z.elim Or.inl (fun t => Or.inr (Or.inl t)), fun z => z.elim Or.inl (fun y => y.elim Or.inr (fun t => absurd t.1 h1))⟩), Or.inr (Or.inr ⟨b1, k, p0, rfl, rfl, hk1, hk7, hp9, Or.inr ⟨hnt, rfl, rfl⟩⟩)⟩ dX2_process_156
                  · have h1 : k = 1 := (nI_eq (a := k) (b := 1) (by omega) (by omega)).mp h1
                    refine mf_written X I (lv_at hl 4 rfl) dX2_process_125 dX2_process_126 ?_
                    refine lv_iload hx hb dX2_process_129 (lv_at hl 0 rfl) ?_
                    refine lv_iconst (v := nI 1) hx hb dX2_process_131 (by decide) ?_
                    refine ms_written X I (p0 % 10) rfl (by omega) rfl dX2_process_132 (fun H locs I => ?_)
                    refine mf_p X I (lv_at hl 4 rfl) dX2_process_133 dX2_process_134 ?_
                    refine mf_n X I (v := nI N.1) hO.2.1 (lv_at hl 4 rfl) dX2_process_137 dX2_process_138 ?_
                    refine lv_iload_n hx hb dX2_process_141 rfl (lv_at hl 7 rfl) ?_
                    refine ms_p X I N.1 rfl (by omega) dX2_process_142 (fun H locs I => ?_)
                    refine lv_aload_n hx hb dX2_process_143 rfl (lv_at hl 4 rfl) ?_
                    refine lv_iload_n hx hb dX2_process_144 rfl (lv_at hl 5 rfl) ?_
                    refine lv_iload hx hb dX2_process_145 (lv_at hl 3 rfl) ?_
                    refine lv_iload hx hb dX2_process_147 (lv_at hl 2 rfl) ?_
                    refine lv_iload hx hb dX2_process_149 (lv_at hl 1 rfl) ?_
                    refine lv_iload hx hb dX2_process_151 (lv_at hl 0 rfl) ?_
                    refine m_calli X I (rest := []) (metX2_addProcess l D c1 c2 h ad A (su (su (su (su σ 8 (p0 / 1000) (nI 1)) 9 ((p0 / 10) % 10) (nI 1)) 9 (p0 % 10) (nI 1)) 6 N.1 x2) N.1 (nI k) (nI (p0 / 1000)) (nI (p0 / 100 % 10)) (nI (p0 / 10 % 10)) (nI (p0 % 10)) hO.2.1 (by omega)) (cwX2_addProcess X.2.2.2.2.1 rfl rfl ⟨Nat.le_of_ble_eq_true rfl, Nat.le_of_ble_eq_true rfl⟩) rfl hl.1 rfl (Nat.le_of_ble_eq_true rfl) ⟨Nat.zero_le _, Nat.zero_le _⟩ dX2_process_153 (fun r2 σ1 H locs hv I => ?_)
                    obtain ⟨hr2, hs1⟩ := hv
                    subst hr2
                    rw [hs1] at I
                    exact m_iret X I hr hlocks ⟨_, mNet_add hO hok rfl (fun f h1 h7 i hi => by rw [su_other (by omega), su_nj (by omega), su_nj (by omega), su_nj (by omega), su_nj (by omega), su_nj (by omega), su_nj (by omega), su_other (by omega), su_other (by omega), su_other (by omega)]) (su_at (su (su (su (su σ 8 (p0 / 1000) (nI 1)) 9 ((p0 / 10) % 10) (nI 1)) 9 (p0 % 10) (nI 1)) 6 N.1 x2) 1 N.1 (nI k)) (su_at (su (su (su (su (su σ 8 (p0 / 1000) (nI 1)) 9 ((p0 / 10) % 10) (nI 1)) 9 (p0 % 10) (nI 1)) 6 N.1 x2) 1 N.1 (nI k)) 2 N.1 (nI (p0 / 1000))) (su_at (su (su (su (su (su (su σ 8 (p0 / 1000) (nI 1)) 9 ((p0 / 10) % 10) (nI 1)) 9 (p0 % 10) (nI 1)) 6 N.1 x2) 1 N.1 (nI k)) 2 N.1 (nI (p0 / 1000))) 3 N.1 (nI (p0 / 100 % 10))) (su_at (su (su (su (su (su (su (su σ 8 (p0 / 1000) (nI 1)) 9 ((p0 / 10) % 10) (nI 1)) 9 (p0 % 10) (nI 1)) 6 N.1 x2) 1 N.1 (nI k)) 2 N.1 (nI (p0 / 1000))) 3 N.1 (nI (p0 / 100 % 10))) 4 N.1 (nI (p0 / 10 % 10))) (su_at (su (su (su (su (su (su (su (su σ 8 (p0 / 1000) (nI 1)) 9 ((p0 / 10) % 10) (nI 1)) 9 (p0 % 10) (nI 1)) 6 N.1 x2) 1 N.1 (nI k)) 2 N.1 (nI (p0 / 1000))) 3 N.1 (nI (p0 / 100 % 10))) 4 N.1 (nI (p0 / 10 % 10))) 5 N.1 (nI (p0 % 10))) (su_at (su (su (su σ 8 (p0 / 1000) (nI 1)) 9 ((p0 / 10) % 10) (nI 1)) 9 (p0 % 10) (nI 1)) 6 N.1 x2) (fun z => absurd z (by omega)) (fun x hx => vB_iff (vB_upd (f := σ 8) (P := sRd N) (a := p0 / 1000) (fun y hy => (hrw y hy).1) x hx) ⟨fun z => z.elim Or.inl (fun t => Or.inr ⟨by omega, Or.inl t⟩), fun z => z.elim Or.inl (fun y => y.2.elim Or.inr (fun t => absurd t.1 h2))⟩) (fun x hx => vB_iff (vB_upd (P := fun x => sWr N x ∨ p0 / 10 % 10 = x) (a := p0 % 10) (vB_upd (f := σ 9) (P := sWr N) (a := p0 / 10 % 10) (fun y hy => (hrw y hy).2)) x hx) ⟨fun z => z.elim (fun y => y.elim Or.inl (fun t => Or.inr (Or.inl t))) (fun t => Or.inr (Or.inr ⟨h1, t⟩)), fun z => z.elim (fun y => Or.inl (Or.inl y)) (fun y => y.elim (fun t => Or.inl (Or.inr t)) (fun t => Or.inr t.2))⟩), Or.inr (Or.inr ⟨b1, k, p0, rfl, rfl, hk1, hk7, hp9, Or.inr ⟨hnt, rfl, rfl⟩⟩)⟩ dX2_process_156
                · have f2 : k = 5 := (nI_eq (a := k) (b := 5) (by omega) (by omega)).mp f2
                  have h2 : k = 2 ∨ k = 5 := Or.inr f2
                  refine mf_read X I (lv_at hl 4 rfl) dX2_process_112 dX2_process_113 ?_
                  refine lv_iload hx hb dX2_process_116 (lv_at hl 2 rfl) ?_
                  refine lv_iconst (v := nI 1) hx hb dX2_process_118 (by decide) ?_
                  refine ms_read X I ((p0 / 100) % 10) rfl (by omega) rfl dX2_process_119 (fun H locs I => ?_)
                  refine lv_iload_n hx hb dX2_process_120 rfl (lv_at hl 5 rfl) ?_
                  refine lv_iconst (v := nI 1) hx hb dX2_process_121 (by decide) ?_
                  refine lv_icmp_ne (tgt := 133) hx hb dX2_process_122 (by decide) (fun h1 => ?_) (fun h1 => ?_)
                  · have h1 : ¬ k = 1 := fun q => h1 ((nI_eq (a := k) (b := 1) (by omega) (by omega)).mpr q)
                    refine mf_p X I (lv_at hl 4 rfl) dX2_process_133 dX2_process_134 ?_
                    refine mf_n X I (v := nI N.1) hO.2.1 (lv_at hl 4 rfl) dX2_process_137 dX2_process_138 ?_
                    refine lv_iload_n hx hb dX2_process_141 rfl (lv_at hl 7 rfl) ?_
                    refine ms_p X I N.1 rfl (by omega) dX2_process_142 (fun H locs I => ?_)
                    refine lv_aload_n hx hb dX2_process_143 rfl (lv_at hl 4 rfl) ?_
                    refine lv_iload_n hx hb dX2_process_144 rfl (lv_at hl 5 rfl) ?_
                    refine lv_iload hx hb dX2_process_145 (lv_at hl 3 rfl) ?_
                    refine lv_iload hx hb dX2_process_147 (lv_at hl 2 rfl) ?_
                    refine lv_iload hx hb dX2_process_149 (lv_at hl 1 rfl) ?_
                    refine lv_iload hx hb dX2_process_151 (lv_at hl 0 rfl) ?_
                    refine m_calli X I (rest := []) (metX2_addProcess l D c1 c2 h ad A (su (su (su (su σ 8 (p0 / 1000) (nI 1)) 9 ((p0 / 10) % 10) (nI 1)) 8 ((p0 / 100) % 10) (nI 1)) 6 N.1 x2) N.1 (nI k) (nI (p0 / 1000)) (nI (p0 / 100 % 10)) (nI (p0 / 10 % 10)) (nI (p0 % 10)) hO.2.1 (by omega)) (cwX2_addProcess X.2.2.2.2.1 rfl rfl ⟨Nat.le_of_ble_eq_true rfl, Nat.le_of_ble_eq_true rfl⟩) rfl hl.1 rfl (Nat.le_of_ble_eq_true rfl) ⟨Nat.zero_le _, Nat.zero_le _⟩ dX2_process_153 (fun r2 σ1 H locs hv I => ?_)
                    obtain ⟨hr2, hs1⟩ := hv
                    subst hr2
                    rw [hs1] at I
                    exact m_iret X I hr hlocks ⟨_, mNet_add hO hok rfl (fun f h1 h7 i hi => by rw [su_other (by omega), su_nj (by omega), su_nj (by omega), su_nj (by omega), su_nj (by omega), su_nj (by omega), su_nj (by omega), su_other (by omega), su_other (by omega), su_other (by omega)]) (su_at (su (su (su (su σ 8 (p0 / 1000) (nI 1)) 9 ((p0 / 10) % 10) (nI 1)) 8 ((p0 / 100) % 10) (nI 1)) 6 N.1 x2) 1 N.1 (nI k)) (su_at (su (su (su (su (su σ 8 (p0 / 1000) (nI 1)) 9 ((p0 / 10) % 10) (nI 1)) 8 ((p0 / 100) % 10) (nI 1)) 6 N.1 x2) 1 N.1 (nI k)) 2 N.1 (nI (p0 / 1000))) (su_at (su (su (su (su (su (su σ 8 (p0 / 1000) (nI 1)) 9 ((p0 / 10) % 10) (nI 1)) 8 ((p0 / 100) % 10) (nI 1)) 6 N.1 x2) 1 N.1 (nI k)) 2 N.1 (nI (p0 / 1000))) 3 N.1 (nI (p0 / 100 % 10))) (su_at (su (su (su (su (su (su (su σ 8 (p0 / 1000) (nI 1)) 9 ((p0 / 10) % 10) (nI 1)) 8 ((p0 / 100) % 10) (nI 1)) 6 N.1 x2) 1 N.1 (nI k)) 2 N.1 (nI (p0 / 1000))) 3 N.1 (nI (p0 / 100 % 10))) 4 N.1 (nI (p0 / 10 % 10))) (su_at (su (su (su (su (su (su (su (su σ 8 (p0 / 1000) (nI 1)) 9 ((p0 / 10) % 10) (nI 1)) 8 ((p0 / 100) % 10) (nI 1)) 6 N.1 x2) 1 N.1 (nI k)) 2 N.1 (nI (p0 / 1000))) 3 N.1 (nI (p0 / 100 % 10))) 4 N.1 (nI (p0 / 10 % 10))) 5 N.1 (nI (p0 % 10))) (su_at (su (su (su σ 8 (p0 / 1000) (nI 1)) 9 ((p0 / 10) % 10) (nI 1)) 8 ((p0 / 100) % 10) (nI 1)) 6 N.1 x2) (fun z => absurd z (by omega)) (fun x hx => vB_iff (vB_upd (P := fun x => sRd N x ∨ p0 / 1000 = x) (a := p0 / 100 % 10) (vB_upd (f := σ 8) (P := sRd N) (a := p0 / 1000) (fun y hy => (hrw y hy).1)) x hx) ⟨fun z => z.elim (fun y => y.elim Or.inl (fun t => Or.inr ⟨by omega, Or.inl t⟩)) (fun t => Or.inr ⟨by omega, Or.inr ⟨h2, t⟩⟩), fun z => z.elim (fun y => Or.inl (Or.inl y)) (fun y => y.2.elim (fun t => Or.inl (Or.inr t)) (fun t => Or.inr t.2))⟩) (fun x hx => vB_iff (vB_upd (f := σ 9) (P := sWr N) (a := p0 / 10 % 10) (fun y hy => (hrw y hy).2) x hx) ⟨fun z => z.elim Or.inl (fun t => Or.inr (Or.inl t)), fun z => z.elim Or.inl (fun y => y.elim Or.inr (fun t => absurd t.1 h1))⟩), Or.inr (Or.inr ⟨b1, k, p0, rfl, rfl, hk1, hk7, hp9, Or.inr ⟨hnt, rfl, rfl⟩⟩)⟩ dX2_process_156
                  · have h1 : k = 1 := (nI_eq (a := k) (b := 1) (by omega) (by omega)).mp h1
                    refine mf_written X I (lv_at hl 4 rfl) dX2_process_125 dX2_process_126 ?_
                    refine lv_iload hx hb dX2_process_129 (lv_at hl 0 rfl) ?_
                    refine lv_iconst (v := nI 1) hx hb dX2_process_131 (by decide) ?_
                    refine ms_written X I (p0 % 10) rfl (by omega) rfl dX2_process_132 (fun H locs I => ?_)
                    refine mf_p X I (lv_at hl 4 rfl) dX2_process_133 dX2_process_134 ?_
                    refine mf_n X I (v := nI N.1) hO.2.1 (lv_at hl 4 rfl) dX2_process_137 dX2_process_138 ?_
                    refine lv_iload_n hx hb dX2_process_141 rfl (lv_at hl 7 rfl) ?_
                    refine ms_p X I N.1 rfl (by omega) dX2_process_142 (fun H locs I => ?_)
                    refine lv_aload_n hx hb dX2_process_143 rfl (lv_at hl 4 rfl) ?_
                    refine lv_iload_n hx hb dX2_process_144 rfl (lv_at hl 5 rfl) ?_
                    refine lv_iload hx hb dX2_process_145 (lv_at hl 3 rfl) ?_
                    refine lv_iload hx hb dX2_process_147 (lv_at hl 2 rfl) ?_
                    refine lv_iload hx hb dX2_process_149 (lv_at hl 1 rfl) ?_
                    refine lv_iload hx hb dX2_process_151 (lv_at hl 0 rfl) ?_
                    refine m_calli X I (rest := []) (metX2_addProcess l D c1 c2 h ad A (su (su (su (su (su σ 8 (p0 / 1000) (nI 1)) 9 ((p0 / 10) % 10) (nI 1)) 8 ((p0 / 100) % 10) (nI 1)) 9 (p0 % 10) (nI 1)) 6 N.1 x2) N.1 (nI k) (nI (p0 / 1000)) (nI (p0 / 100 % 10)) (nI (p0 / 10 % 10)) (nI (p0 % 10)) hO.2.1 (by omega)) (cwX2_addProcess X.2.2.2.2.1 rfl rfl ⟨Nat.le_of_ble_eq_true rfl, Nat.le_of_ble_eq_true rfl⟩) rfl hl.1 rfl (Nat.le_of_ble_eq_true rfl) ⟨Nat.zero_le _, Nat.zero_le _⟩ dX2_process_153 (fun r2 σ1 H locs hv I => ?_)
                    obtain ⟨hr2, hs1⟩ := hv
                    subst hr2
                    rw [hs1] at I
                    exact m_iret X I hr hlocks ⟨_, mNet_add hO hok rfl (fun f h1 h7 i hi => by rw [su_other (by omega), su_nj (by omega), su_nj (by omega), su_nj (by omega), su_nj (by omega), su_nj (by omega), su_nj (by omega), su_other (by omega), su_other (by omega), su_other (by omega), su_other (by omega)]) (su_at (su (su (su (su (su σ 8 (p0 / 1000) (nI 1)) 9 ((p0 / 10) % 10) (nI 1)) 8 ((p0 / 100) % 10) (nI 1)) 9 (p0 % 10) (nI 1)) 6 N.1 x2) 1 N.1 (nI k)) (su_at (su (su (su (su (su (su σ 8 (p0 / 1000) (nI 1)) 9 ((p0 / 10) % 10) (nI 1)) 8 ((p0 / 100) % 10) (nI 1)) 9 (p0 % 10) (nI 1)) 6 N.1 x2) 1 N.1 (nI k)) 2 N.1 (nI (p0 / 1000))) (su_at (su (su (su (su (su (su (su σ 8 (p0 / 1000) (nI 1)) 9 ((p0 / 10) % 10) (nI 1)) 8 ((p0 / 100) % 10) (nI 1)) 9 (p0 % 10) (nI 1)) 6 N.1 x2) 1 N.1 (nI k)) 2 N.1 (nI (p0 / 1000))) 3 N.1 (nI (p0 / 100 % 10))) (su_at (su (su (su (su (su (su (su (su σ 8 (p0 / 1000) (nI 1)) 9 ((p0 / 10) % 10) (nI 1)) 8 ((p0 / 100) % 10) (nI 1)) 9 (p0 % 10) (nI 1)) 6 N.1 x2) 1 N.1 (nI k)) 2 N.1 (nI (p0 / 1000))) 3 N.1 (nI (p0 / 100 % 10))) 4 N.1 (nI (p0 / 10 % 10))) (su_at (su (su (su (su (su (su (su (su (su σ 8 (p0 / 1000) (nI 1)) 9 ((p0 / 10) % 10) (nI 1)) 8 ((p0 / 100) % 10) (nI 1)) 9 (p0 % 10) (nI 1)) 6 N.1 x2) 1 N.1 (nI k)) 2 N.1 (nI (p0 / 1000))) 3 N.1 (nI (p0 / 100 % 10))) 4 N.1 (nI (p0 / 10 % 10))) 5 N.1 (nI (p0 % 10))) (su_at (su (su (su (su σ 8 (p0 / 1000) (nI 1)) 9 ((p0 / 10) % 10) (nI 1)) 8 ((p0 / 100) % 10) (nI 1)) 9 (p0 % 10) (nI 1)) 6 N.1 x2) (fun z => absurd z (by omega)) (fun x hx => vB_iff (vB_upd (P := fun x => sRd N x ∨ p0 / 1000 = x) (a := p0 / 100 % 10) (vB_upd (f := σ 8) (P := sRd N) (a := p0 / 1000) (fun y hy => (hrw y hy).1)) x hx) ⟨fun z => z.elim (fun y => y.elim Or.inl (fun t => Or.inr ⟨by omega, Or.inl t⟩)) (fun t => Or.inr ⟨by omega, Or.inr ⟨h2, t⟩⟩), fun z => z.elim (fun y => Or.inl (Or.inl y)) (fun y => y.2.elim (fun t => Or.inl (Or.inr t)) (fun t => Or.inr t.2))⟩) (fun x hx => vB_iff (vB_upd (P := fun x => sWr N x ∨ p0 / 10 % 10 = x) (a := p0 % 10) (vB_upd (f := σ 9) (P := sWr N) (a := p0 / 10 % 10) (fun y hy => (hrw y hy).2)) x hx) ⟨fun z => z.elim (fun y => y.elim Or.inl (fun t => Or.inr (Or.inl t))) (fun t => Or.inr (Or.inr ⟨h1, t⟩)), fun z => z.elim (fun y => Or.inl (Or.inl y)) (fun y => y.elim (fun t => Or.inl (Or.inr t)) (fun t => Or.inr t.2))⟩), Or.inr (Or.inr ⟨b1, k, p0, rfl, rfl, hk1, hk7, hp9, Or.inr ⟨hnt, rfl, rfl⟩⟩)⟩ dX2_process_156
            · refine lv_bipush (v := -3) hx hb dX2_process_83 (by decide) ?_
              exact m_iret X I hr hlocks ⟨N, hO, Or.inr (Or.inr ⟨b1, k, p0, rfl, rfl, hk1, hk7, hp9, Or.inl ⟨vB_ne0 ht e1, rfl, rfl⟩⟩)⟩ dX2_process_85
          · refine lv_iconst (v := -1) hx hb dX2_process_34 (by decide) ?_
            exact m_iret X I hr hlocks ⟨N, hO, Or.inr (Or.inl ⟨b1, Or.inr (Or.inr (Or.inr (Int32.not_le.mp b5))), rfl, rfl⟩)⟩ dX2_process_35
  · have b1 : N.1 = 8 := (nI_eq (a := N.1) (b := 8) (by omega) (by omega)).mp b1
    refine lv_bipush (v := -2) hx hb dX2_process_9 (by decide) ?_
    exact m_iret X I hr hlocks ⟨N, hO, Or.inl ⟨by omega, rfl, rfl⟩⟩ dX2_process_11
end
section
/-- no process yet -/
def nN0 : Net := (0, fun _ _ => 0, fun _ => 0, fun _ => 0)
def kZ : KS := fun _ _ => 0
theorem RA_byte {D : va_G} {cl : List vw_C} {tys : List (ClassId × FieldType)} {s : State} (hK : va_K D cl tys s) {a b : Nat} {c1 c2 : ClassId} {ty : FieldType} (ht : ty = .byte ∨ ty = .int ∨ ty = .boolean) (h1 : tys[a]? = some (c1, ty)) (h2 : tys[b]? = some (c2, ty)) : c2 = c1 := by
  have e1 := (hK.2 a _ h1).2
  have e2 := (hK.2 b _ h2).2
  rcases ht with q | q | q <;> subst q <;> exact Option.some.inj (e2.symm.trans e1)

set_option maxHeartbeats 8000000 in
set_option maxRecDepth 100000 in
theorem metX1_init (l : Launch) (D : va_G) (h sz : Nat) (x0 : Int32) : Met l yX1_init (ws_ yX1_init cX1_init 2 none) ({ frames := 1, cells := 13, slots := 302, locals := 12 } : Room) (va_Pc [.ref h, .int x0] (fun U => U.heap.size = sz ∧ va_P D vwCl [(h, .inr (0, [.int 0, .int 0, .null, .null, .null, .null, .null, .null, .null, .int 0, .null, .null, .null, .null, .null, .null]))] U.heap ∧ va_K D vwCl [] U ∧ va_D (fun _ => True) [(h, .inr (0, [.int 0, .int 0, .null, .null, .null, .null, .null, .null, .null, .int 0, .null, .null, .null, .null, .null, .null]))])) (va_Qv (fun (u : KS) => kObj nN0 u) (fun (u : KS) (t : State) => ∃ (c1 c2 : ClassId) (ad : Nat → Nat), kB D c1 c2 h ad (va_A [(h, .inr (0, [.int 0, .int 0, .null, .null, .null, .null, .null, .null, .null, .int 0, .null, .null, .null, .null, .null, .null]))] sz) u t) (va_A [(h, .inr (0, [.int 0, .int 0, .null, .null, .null, .null, .null, .null, .null, .int 0, .null, .null, .null, .null, .null, .null]))] sz)) 13 302 (va_A [(h, .inr (0, [.int 0, .int 0, .null, .null, .null, .null, .null, .null, .null, .int 0, .null, .null, .null, .null, .null, .null]))] sz) := by
  refine Met.ofW (cc := cX1_init) (maxL := 2) (ret := none) (by decide) rfl ?_
  intro p e s m args below meth c s₁ B hml hv
  obtain ⟨rfl, hsz, hP, hK, hD0⟩ := hv
  have hx := B.exec
  have hb := B.bytes
  have hr := B.returns
  have hts := atoms_spec (ws := ws_ yX1_init cX1_init 2 none) B.pre
  have hts : ∀ w ∈ lw_all, w.before _ s = true := fun w h => hts w (List.mem_cons_of_mem _ h)
  have hown : s.vm.findClass RX1 = some m.cls := findClass_of_methodNamed B.named
  have hlocks := B.notSynchronized
  have hin : meth.name = "<init>" := (name_of_methodNamed B.named B.method).1
  subst hsz
  have hD := hD0.self (sz := s.heap.size)
  generalize hAe : va_A [(h, .inr (0, [.int 0, .int 0, .null, .null, .null, .null, .null, .null, .null, .int 0, .null, .null, .null, .null, .null, .null]))] s.heap.size = A at hD ⊢
  have hA : ∀ q : Nat, s.heap.size ≤ q → A q := fun q h => by rw [← hAe]; exact Or.inr h
  have hS : va_S A s.heap s.heap [] := va_S.rf
  have hP : va_P D vwCl [(h, .inr (0, [.int 0, .int 0, .null, .null, .null, .null, .null, .null, .null, .int 0, .null, .null, .null, .null, .null, .null]))] s.heap := hP
  have hl := lv_entry ([.ref h, .int x0]) (n := 2) (Nat.le_of_ble_eq_true rfl)
  rw [lg_entry_eq]
  generalize (lg_sl ([.ref h, .int x0]) ++ List.replicate (2 - (lg_sl ([.ref h, .int x0])).length) Slot.unset).toArray = ls at hl ⊢
  have hl : lv_has ls 2 [(0, .ref h), (1, .int x0)] := hl
  refine lv_aload_n hx hb dX1_init_0 rfl (lv_at hl 0 rfl) ?_
  refine W.objInit hx hb hown (hts _ q32) (hts _ q33) (hts _ q34) rfl (by rw [hml]; exact hl.1) rfl dX1_init_1 (Nat.le_of_ble_eq_true rfl) (Nat.le_of_ble_eq_true rfl) ?_
  refine W.eq (g2 := F0 m 4 ls []) rfl ?_
  refine lv_aload_n hx hb dX1_init_4 rfl (lv_at hl 0 rfl) ?_
  refine lv_bipush (v := nI 8) hx hb dX1_init_5 (by decide) ?_
  refine va_newa (atype := .byte) (ty := .byte) (a0 := (8, .inl (kZ 2))) hx hb (hts _ q84) rfl hK hP hD hS hA (fun _ => rfl) (by decide) (by decide) (by decide) (Nat.le_of_ble_eq_true rfl) (Nat.le_of_ble_eq_true rfl) dX1_init_7 (fun q2 cA H hK hP hD hS => ?_)
  refine W.widen (k := 1) (n := 8) (Nat.le_of_ble_eq_true rfl) (Nat.le_of_ble_eq_true rfl) ?_
  obtain ⟨c_2, rfl⟩ : ∃ z, z = cA := ⟨_, rfl⟩
  have hK : va_K D vwCl [(c_2, .byte)] s := hK
  have hP : va_P D vwCl [(h, .inr (0, [.int 0, .int 0, .null, .null, .null, .null, .null, .null, .null, .int 0, .null, .null, .null, .null, .null, .null])), (q2, .inl (c_2, 8, .inl (kZ 2)))] H := hP
  have hD : va_D A [(h, .inr (0, [.int 0, .int 0, .null, .null, .null, .null, .null, .null, .null, .int 0, .null, .null, .null, .null, .null, .null])), (q2, .inl (c_2, 8, .inl (kZ 2)))] := hD
  refine va_putF (D := D) (ci := 0) (v := .ref q2) (ty := .array .byte) (C := RX1) (T := TX1) (N := 16) hx hb hts in_X1 tyX1 tyX1_ok nmX1 hown hK hP hD hS 0 rfl rfl 2 (by decide) (hts _ q37) (fun _ h9 => h9) rfl hin rfl (by decide +kernel) rfl rfl (Nat.le_of_ble_eq_true rfl) dX1_init_9 (fun H locs hP hD hS => ?_)
  have hP : va_P D vwCl [(h, .inr (0, [.int 0, .int 0, .ref q2, .null, .null, .null, .null, .null, .null, .int 0, .null, .null, .null, .null, .null, .null])), (q2, .inl (c_2, 8, .inl (kZ 2)))] H := hP
  have hD : va_D A [(h, .inr (0, [.int 0, .int 0, .ref q2, .null, .null, .null, .null, .null, .null, .int 0, .null, .null, .null, .null, .null, .null])), (q2, .inl (c_2, 8, .inl (kZ 2)))] := hD
  refine lv_aload_n hx hb dX1_init_12 rfl (lv_at hl 0 rfl) ?_
  refine lv_bipush (v := nI 8) hx hb dX1_init_13 (by decide) ?_
  refine va_newa (atype := .byte) (ty := .byte) (a0 := (8, .inl (kZ 3))) hx hb (hts _ q84) rfl hK hP hD hS hA (fun _ => rfl) (by decide) (by decide) (by decide) (Nat.le_of_ble_eq_true rfl) (Nat.le_of_ble_eq_true rfl) dX1_init_15 (fun q3 cA H hK hP hD hS => ?_)
  refine W.widen (k := 2) (n := 16) (Nat.le_of_ble_eq_true rfl) (Nat.le_of_ble_eq_true rfl) ?_
  have hK : va_K D vwCl [(c_2, .byte), (cA, .byte)] s := hK
  have hc : cA = c_2 := RA_byte hK (a := 0) (b := 1) (by simp) rfl rfl
  subst hc
  have hK := hK.sub (tys' := [(cA, .byte)]) [0] rfl
  obtain ⟨c_3, rfl⟩ : ∃ z, z = cA := ⟨_, rfl⟩
  have hK : va_K D vwCl [(c_3, .byte)] s := hK
  have hP : va_P D vwCl [(h, .inr (0, [.int 0, .int 0, .ref q2, .null, .null, .null, .null, .null, .null, .int 0, .null, .null, .null, .null, .null, .null])), (q2, .inl (c_3, 8, .inl (kZ 2))), (q3, .inl (c_3, 8, .inl (kZ 3)))] H := hP
  have hD : va_D A [(h, .inr (0, [.int 0, .int 0, .ref q2, .null, .null, .null, .null, .null, .null, .int 0, .null, .null, .null, .null, .null, .null])), (q2, .inl (c_3, 8, .inl (kZ 2))), (q3, .inl (c_3, 8, .inl (kZ 3)))] := hD
  refine va_putF (D := D) (ci := 0) (v := .ref q3) (ty := .array .byte) (C := RX1) (T := TX1) (N := 16) hx hb hts in_X1 tyX1 tyX1_ok nmX1 hown hK hP hD hS 0 rfl rfl 3 (by decide) (hts _ q38) (fun _ h9 => h9) rfl hin rfl (by decide +kernel) rfl rfl (Nat.le_of_ble_eq_true rfl) dX1_init_17 (fun H locs hP hD hS => ?_)
  have hP : va_P D vwCl [(h, .inr (0, [.int 0, .int 0, .ref q2, .ref q3, .null, .null, .null, .null, .null, .int 0, .null, .null, .null, .null, .null, .null])), (q2, .inl (c_3, 8, .inl (kZ 2))), (q3, .inl (c_3, 8, .inl (kZ 3)))] H := hP
  have hD : va_D A [(h, .inr (0, [.int 0, .int 0, .ref q2, .ref q3, .null, .null, .null, .null, .null, .int 0, .null, .null, .null, .null, .null, .null])), (q2, .inl (c_3, 8, .inl (kZ 2))), (q3, .inl (c_3, 8, .inl (kZ 3)))] := hD
  refine lv_aload_n hx hb dX1_init_20 rfl (lv_at hl 0 rfl) ?_
  refine lv_bipush (v := nI 8) hx hb dX1_init_21 (by decide) ?_
  refine va_newa (atype := .byte) (ty := .byte) (a0 := (8, .inl (kZ 4))) hx hb (hts _ q84) rfl hK hP hD hS hA (fun _ => rfl) (by decide) (by decide) (by decide) (Nat.le_of_ble_eq_true rfl) (Nat.le_of_ble_eq_true rfl) dX1_init_23 (fun q4 cA H hK hP hD hS => ?_)
  refine W.widen (k := 3) (n := 24) (Nat.le_of_ble_eq_true rfl) (Nat.le_of_ble_eq_true rfl) ?_
  have hK : va_K D vwCl [(c_3, .byte), (cA, .byte)] s := hK
  have hc : cA = c_3 := RA_byte hK (a := 0) (b := 1) (by simp) rfl rfl
  subst hc
  have hK := hK.sub (tys' := [(cA, .byte)]) [0] rfl
  obtain ⟨c_4, rfl⟩ : ∃ z, z = cA := ⟨_, rfl⟩
  have hK : va_K D vwCl [(c_4, .byte)] s := hK
  have hP : va_P D vwCl [(h, .inr (0, [.int 0, .int 0, .ref q2, .ref q3, .null, .null, .null, .null, .null, .int 0, .null, .null, .null, .null, .null, .null])), (q2, .inl (c_4, 8, .inl (kZ 2))), (q3, .inl (c_4, 8, .inl (kZ 3))), (q4, .inl (c_4, 8, .inl (kZ 4)))] H := hP
  have hD : va_D A [(h, .inr (0, [.int 0, .int 0, .ref q2, .ref q3, .null, .null, .null, .null, .null, .int 0, .null, .null, .null, .null, .null, .null])), (q2, .inl (c_4, 8, .inl (kZ 2))), (q3, .inl (c_4, 8, .inl (kZ 3))), (q4, .inl (c_4, 8, .inl (kZ 4)))] := hD
  refine va_putF (D := D) (ci := 0) (v := .ref q4) (ty := .array .byte) (C := RX1) (T := TX1) (N := 16) hx hb hts in_X1 tyX1 tyX1_ok nmX1 hown hK hP hD hS 0 rfl rfl 4 (by decide) (hts _ q39) (fun _ h9 => h9) rfl hin rfl (by decide +kernel) rfl rfl (Nat.le_of_ble_eq_true rfl) dX1_init_25 (fun H locs hP hD hS => ?_)
  have hP : va_P D vwCl [(h, .inr (0, [.int 0, .int 0, .ref q2, .ref q3, .ref q4, .null, .null, .null, .null, .int 0, .null, .null, .null, .null, .null, .null])), (q2, .inl (c_4, 8, .inl (kZ 2))), (q3, .inl (c_4, 8, .inl (kZ 3))), (q4, .inl (c_4, 8, .inl (kZ 4)))] H := hP
  have hD : va_D A [(h, .inr (0, [.int 0, .int 0, .ref q2, .ref q3, .ref q4, .null, .null, .null, .null, .int 0, .null, .null, .null, .null, .null, .null])), (q2, .inl (c_4, 8, .inl (kZ 2))), (q3, .inl (c_4, 8, .inl (kZ 3))), (q4, .inl (c_4, 8, .inl (kZ 4)))] := hD
  refine lv_aload_n hx hb dX1_init_28 rfl (lv_at hl 0 rfl) ?_
  refine lv_bipush (v := nI 8) hx hb dX1_init_29 (by decide) ?_
  refine va_newa (atype := .byte) (ty := .byte) (a0 := (8, .inl (kZ 5))) hx hb (hts _ q84) rfl hK hP hD hS hA (fun _ => rfl) (by decide) (by decide) (by decide) (Nat.le_of_ble_eq_true rfl) (Nat.le_of_ble_eq_true rfl) dX1_init_31 (fun q5 cA H hK hP hD hS => ?_)
  refine W.widen (k := 4) (n := 32) (Nat.le_of_ble_eq_true rfl) (Nat.le_of_ble_eq_true rfl) ?_
  have hK : va_K D vwCl [(c_4, .byte), (cA, .byte)] s := hK
  have hc : cA = c_4 := RA_byte hK (a := 0) (b := 1) (by simp) rfl rfl
  subst hc
  have hK := hK.sub (tys' := [(cA, .byte)]) [0] rfl
  obtain ⟨c_5, rfl⟩ : ∃ z, z = cA := ⟨_, rfl⟩
  have hK : va_K D vwCl [(c_5, .byte)] s := hK
  have hP : va_P D vwCl [(h, .inr (0, [.int 0, .int 0, .ref q2, .ref q3, .ref q4, .null, .null, .null, .null, .int 0, .null, .null, .null, .null, .null, .null])), (q2, .inl (c_5, 8, .inl (kZ 2))), (q3, .inl (c_5, 8, .inl (kZ 3))), (q4, .inl (c_5, 8, .inl (kZ 4))), (q5, .inl (c_5, 8, .inl (kZ 5)))] H := hP
  have hD : va_D A [(h, .inr (0, [.int 0, .int 0, .ref q2, .ref q3, .ref q4, .null, .null, .null, .null, .int 0, .null, .null, .null, .null, .null, .null])), (q2, .inl (c_5, 8, .inl (kZ 2))), (q3, .inl (c_5, 8, .inl (kZ 3))), (q4, .inl (c_5, 8, .inl (kZ 4))), (q5, .inl (c_5, 8, .inl (kZ 5)))] := hD
  refine va_putF (D := D) (ci := 0) (v := .ref q5) (ty := .array .byte) (C := RX1) (T := TX1) (N := 16) hx hb hts in_X1 tyX1 tyX1_ok nmX1 hown hK hP hD hS 0 rfl rfl 5 (by decide) (hts _ q40) (fun _ h9 => h9) rfl hin rfl (by decide +kernel) rfl rfl (Nat.le_of_ble_eq_true rfl) dX1_init_33 (fun H locs hP hD hS => ?_)
  have hP : va_P D vwCl [(h, .inr (0, [.int 0, .int 0, .ref q2, .ref q3, .ref q4, .ref q5, .null, .null, .null, .int 0, .null, .null, .null, .null, .null, .null])), (q2, .inl (c_5, 8, .inl (kZ 2))), (q3, .inl (c_5, 8, .inl (kZ 3))), (q4, .inl (c_5, 8, .inl (kZ 4))), (q5, .inl (c_5, 8, .inl (kZ 5)))] H := hP
  have hD : va_D A [(h, .inr (0, [.int 0, .int 0, .ref q2, .ref q3, .ref q4, .ref q5, .null, .null, .null, .int 0, .null, .null, .null, .null, .null, .null])), (q2, .inl (c_5, 8, .inl (kZ 2))), (q3, .inl (c_5, 8, .inl (kZ 3))), (q4, .inl (c_5, 8, .inl (kZ 4))), (q5, .inl (c_5, 8, .inl (kZ 5)))] := hD
  refine lv_aload_n hx hb dX1_init_36 rfl (lv_at hl 0 rfl) ?_
  refine lv_bipush (v := nI 8) hx hb dX1_init_37 (by decide) ?_
  refine va_newa (atype := .byte) (ty := .byte) (a0 := (8, .inl (kZ 6))) hx hb (hts _ q84) rfl hK hP hD hS hA (fun _ => rfl) (by decide) (by decide) (by decide) (Nat.le_of_ble_eq_true rfl) (Nat.le_of_ble_eq_true rfl) dX1_init_39 (fun q6 cA H hK hP hD hS => ?_)
  refine W.widen (k := 5) (n := 40) (Nat.le_of_ble_eq_true rfl) (Nat.le_of_ble_eq_true rfl) ?_
  have hK : va_K D vwCl [(c_5, .byte), (cA, .byte)] s := hK
  have hc : cA = c_5 := RA_byte hK (a := 0) (b := 1) (by simp) rfl rfl
  subst hc
  have hK := hK.sub (tys' := [(cA, .byte)]) [0] rfl
  obtain ⟨c_6, rfl⟩ : ∃ z, z = cA := ⟨_, rfl⟩
  have hK : va_K D vwCl [(c_6, .byte)] s := hK
  have hP : va_P D vwCl [(h, .inr (0, [.int 0, .int 0, .ref q2, .ref q3, .ref q4, .ref q5, .null, .null, .null, .int 0, .null, .null, .null, .null, .null, .null])), (q2, .inl (c_6, 8, .inl (kZ 2))), (q3, .inl (c_6, 8, .inl (kZ 3))), (q4, .inl (c_6, 8, .inl (kZ 4))), (q5, .inl (c_6, 8, .inl (kZ 5))), (q6, .inl (c_6, 8, .inl (kZ 6)))] H := hP
  have hD : va_D A [(h, .inr (0, [.int 0, .int 0, .ref q2, .ref q3, .ref q4, .ref q5, .null, .null, .null, .int 0, .null, .null, .null, .null, .null, .null])), (q2, .inl (c_6, 8, .inl (kZ 2))), (q3, .inl (c_6, 8, .inl (kZ 3))), (q4, .inl (c_6, 8, .inl (kZ 4))), (q5, .inl (c_6, 8, .inl (kZ 5))), (q6, .inl (c_6, 8, .inl (kZ 6)))] := hD
  refine va_putF (D := D) (ci := 0) (v := .ref q6) (ty := .array .byte) (C := RX1) (T := TX1) (N := 16) hx hb hts in_X1 tyX1 tyX1_ok nmX1 hown hK hP hD hS 0 rfl rfl 6 (by decide) (hts _ q41) (fun _ h9 => h9) rfl hin rfl (by decide +kernel) rfl rfl (Nat.le_of_ble_eq_true rfl) dX1_init_41 (fun H locs hP hD hS => ?_)
  have hP : va_P D vwCl [(h, .inr (0, [.int 0, .int 0, .ref q2, .ref q3, .ref q4, .ref q5, .ref q6, .null, .null, .int 0, .null, .null, .null, .null, .null, .null])), (q2, .inl (c_6, 8, .inl (kZ 2))), (q3, .inl (c_6, 8, .inl (kZ 3))), (q4, .inl (c_6, 8, .inl (kZ 4))), (q5, .inl (c_6, 8, .inl (kZ 5))), (q6, .inl (c_6, 8, .inl (kZ 6)))] H := hP
  have hD : va_D A [(h, .inr (0, [.int 0, .int 0, .ref q2, .ref q3, .ref q4, .ref q5, .ref q6, .null, .null, .int 0, .null, .null, .null, .null, .null, .null])), (q2, .inl (c_6, 8, .inl (kZ 2))), (q3, .inl (c_6, 8, .inl (kZ 3))), (q4, .inl (c_6, 8, .inl (kZ 4))), (q5, .inl (c_6, 8, .inl (kZ 5))), (q6, .inl (c_6, 8, .inl (kZ 6)))] := hD
  refine lv_aload_n hx hb dX1_init_44 rfl (lv_at hl 0 rfl) ?_
  refine lv_bipush (v := nI 8) hx hb dX1_init_45 (by decide) ?_
  refine va_newa (atype := .int) (ty := .int) (a0 := (8, .inl (kZ 7))) hx hb (hts _ q85) rfl hK hP hD hS hA (fun _ => rfl) (by decide) (by decide) (by decide) (Nat.le_of_ble_eq_true rfl) (Nat.le_of_ble_eq_true rfl) dX1_init_47 (fun q7 cA H hK hP hD hS => ?_)
  refine W.widen (k := 6) (n := 48) (Nat.le_of_ble_eq_true rfl) (Nat.le_of_ble_eq_true rfl) ?_
  obtain ⟨c_7, rfl⟩ : ∃ z, z = cA := ⟨_, rfl⟩
  have hK : va_K D vwCl [(c_6, .byte), (c_7, .int)] s := hK
  have hP : va_P D vwCl [(h, .inr (0, [.int 0, .int 0, .ref q2, .ref q3, .ref q4, .ref q5, .ref q6, .null, .null, .int 0, .null, .null, .null, .null, .null, .null])), (q2, .inl (c_6, 8, .inl (kZ 2))), (q3, .inl (c_6, 8, .inl (kZ 3))), (q4, .inl (c_6, 8, .inl (kZ 4))), (q5, .inl (c_6, 8, .inl (kZ 5))), (q6, .inl (c_6, 8, .inl (kZ 6))), (q7, .inl (c_7, 8, .inl (kZ 7)))] H := hP
  have hD : va_D A [(h, .inr (0, [.int 0, .int 0, .ref q2, .ref q3, .ref q4, .ref q5, .ref q6, .null, .null, .int 0, .null, .null, .null, .null, .null, .null])), (q2, .inl (c_6, 8, .inl (kZ 2))), (q3, .inl (c_6, 8, .inl (kZ 3))), (q4, .inl (c_6, 8, .inl (kZ 4))), (q5, .inl (c_6, 8, .inl (kZ 5))), (q6, .inl (c_6, 8, .inl (kZ 6))), (q7, .inl (c_7, 8, .inl (kZ 7)))] := hD
  refine va_putF (D := D) (ci := 0) (v := .ref q7) (ty := .array .int) (C := RX1) (T := TX1) (N := 16) hx hb hts in_X1 tyX1 tyX1_ok nmX1 hown hK hP hD hS 0 rfl rfl 7 (by decide) (hts _ q42) (fun _ h9 => h9) rfl hin rfl (by decide +kernel) rfl rfl (Nat.le_of_ble_eq_true rfl) dX1_init_49 (fun H locs hP hD hS => ?_)
  have hP : va_P D vwCl [(h, .inr (0, [.int 0, .int 0, .ref q2, .ref q3, .ref q4, .ref q5, .ref q6, .ref q7, .null, .int 0, .null, .null, .null, .null, .null, .null])), (q2, .inl (c_6, 8, .inl (kZ 2))), (q3, .inl (c_6, 8, .inl (kZ 3))), (q4, .inl (c_6, 8, .inl (kZ 4))), (q5, .inl (c_6, 8, .inl (kZ 5))), (q6, .inl (c_6, 8, .inl (kZ 6))), (q7, .inl (c_7, 8, .inl (kZ 7)))] H := hP
  have hD : va_D A [(h, .inr (0, [.int 0, .int 0, .ref q2, .ref q3, .ref q4, .ref q5, .ref q6, .ref q7, .null, .int 0, .null, .null, .null, .null, .null, .null])), (q2, .inl (c_6, 8, .inl (kZ 2))), (q3, .inl (c_6, 8, .inl (kZ 3))), (q4, .inl (c_6, 8, .inl (kZ 4))), (q5, .inl (c_6, 8, .inl (kZ 5))), (q6, .inl (c_6, 8, .inl (kZ 6))), (q7, .inl (c_7, 8, .inl (kZ 7)))] := hD
  refine lv_aload_n hx hb dX1_init_52 rfl (lv_at hl 0 rfl) ?_
  refine lv_bipush (v := nI 8) hx hb dX1_init_53 (by decide) ?_
  refine va_newa (atype := .int) (ty := .int) (a0 := (8, .inl (kZ 8))) hx hb (hts _ q85) rfl hK hP hD hS hA (fun _ => rfl) (by decide) (by decide) (by decide) (Nat.le_of_ble_eq_true rfl) (Nat.le_of_ble_eq_true rfl) dX1_init_55 (fun q8 cA H hK hP hD hS => ?_)
  refine W.widen (k := 7) (n := 56) (Nat.le_of_ble_eq_true rfl) (Nat.le_of_ble_eq_true rfl) ?_
  have hK : va_K D vwCl [(c_6, .byte), (c_7, .int), (cA, .int)] s := hK
  have hc : cA = c_7 := RA_byte hK (a := 1) (b := 2) (by simp) rfl rfl
  subst hc
  have hK := hK.sub (tys' := [(c_6, .byte), (cA, .int)]) [0, 1] rfl
  obtain ⟨c_8, rfl⟩ : ∃ z, z = cA := ⟨_, rfl⟩
  have hK : va_K D vwCl [(c_6, .byte), (c_8, .int)] s := hK
  have hP : va_P D vwCl [(h, .inr (0, [.int 0, .int 0, .ref q2, .ref q3, .ref q4, .ref q5, .ref q6, .ref q7, .null, .int 0, .null, .null, .null, .null, .null, .null])), (q2, .inl (c_6, 8, .inl (kZ 2))), (q3, .inl (c_6, 8, .inl (kZ 3))), (q4, .inl (c_6, 8, .inl (kZ 4))), (q5, .inl (c_6, 8, .inl (kZ 5))), (q6, .inl (c_6, 8, .inl (kZ 6))), (q7, .inl (c_8, 8, .inl (kZ 7))), (q8, .inl (c_8, 8, .inl (kZ 8)))] H := hP
  have hD : va_D A [(h, .inr (0, [.int 0, .int 0, .ref q2, .ref q3, .ref q4, .ref q5, .ref q6, .ref q7, .null, .int 0, .null, .null, .null, .null, .null, .null])), (q2, .inl (c_6, 8, .inl (kZ 2))), (q3, .inl (c_6, 8, .inl (kZ 3))), (q4, .inl (c_6, 8, .inl (kZ 4))), (q5, .inl (c_6, 8, .inl (kZ 5))), (q6, .inl (c_6, 8, .inl (kZ 6))), (q7, .inl (c_8, 8, .inl (kZ 7))), (q8, .inl (c_8, 8, .inl (kZ 8)))] := hD
  refine va_putF (D := D) (ci := 0) (v := .ref q8) (ty := .array .int) (C := RX1) (T := TX1) (N := 16) hx hb hts in_X1 tyX1 tyX1_ok nmX1 hown hK hP hD hS 0 rfl rfl 8 (by decide) (hts _ q43) (fun _ h9 => h9) rfl hin rfl (by decide +kernel) rfl rfl (Nat.le_of_ble_eq_true rfl) dX1_init_57 (fun H locs hP hD hS => ?_)
  have hP : va_P D vwCl [(h, .inr (0, [.int 0, .int 0, .ref q2, .ref q3, .ref q4, .ref q5, .ref q6, .ref q7, .ref q8, .int 0, .null, .null, .null, .null, .null, .null])), (q2, .inl (c_6, 8, .inl (kZ 2))), (q3, .inl (c_6, 8, .inl (kZ 3))), (q4, .inl (c_6, 8, .inl (kZ 4))), (q5, .inl (c_6, 8, .inl (kZ 5))), (q6, .inl (c_6, 8, .inl (kZ 6))), (q7, .inl (c_8, 8, .inl (kZ 7))), (q8, .inl (c_8, 8, .inl (kZ 8)))] H := hP
  have hD : va_D A [(h, .inr (0, [.int 0, .int 0, .ref q2, .ref q3, .ref q4, .ref q5, .ref q6, .ref q7, .ref q8, .int 0, .null, .null, .null, .null, .null, .null])), (q2, .inl (c_6, 8, .inl (kZ 2))), (q3, .inl (c_6, 8, .inl (kZ 3))), (q4, .inl (c_6, 8, .inl (kZ 4))), (q5, .inl (c_6, 8, .inl (kZ 5))), (q6, .inl (c_6, 8, .inl (kZ 6))), (q7, .inl (c_8, 8, .inl (kZ 7))), (q8, .inl (c_8, 8, .inl (kZ 8)))] := hD
  refine lv_aload_n hx hb dX1_init_60 rfl (lv_at hl 0 rfl) ?_
  refine lv_sipush (v := nI 200) hx hb dX1_init_61 (by decide) ?_
  refine va_newa (atype := .int) (ty := .int) (a0 := (200, .inl (kZ 10))) hx hb (hts _ q85) rfl hK hP hD hS hA (fun _ => rfl) (by decide) (by decide) (by decide) (Nat.le_of_ble_eq_true rfl) (Nat.le_of_ble_eq_true rfl) dX1_init_64 (fun q10 cA H hK hP hD hS => ?_)
  refine W.widen (k := 8) (n := 256) (Nat.le_of_ble_eq_true rfl) (Nat.le_of_ble_eq_true rfl) ?_
  have hK : va_K D vwCl [(c_6, .byte), (c_8, .int), (cA, .int)] s := hK
  have hc : cA = c_8 := RA_byte hK (a := 1) (b := 2) (by simp) rfl rfl
  subst hc
  have hK := hK.sub (tys' := [(c_6, .byte), (cA, .int)]) [0, 1] rfl
  obtain ⟨c_10, rfl⟩ : ∃ z, z = cA := ⟨_, rfl⟩
  have hK : va_K D vwCl [(c_6, .byte), (c_10, .int)] s := hK
  have hP : va_P D vwCl [(h, .inr (0, [.int 0, .int 0, .ref q2, .ref q3, .ref q4, .ref q5, .ref q6, .ref q7, .ref q8, .int 0, .null, .null, .null, .null, .null, .null])), (q2, .inl (c_6, 8, .inl (kZ 2))), (q3, .inl (c_6, 8, .inl (kZ 3))), (q4, .inl (c_6, 8, .inl (kZ 4))), (q5, .inl (c_6, 8, .inl (kZ 5))), (q6, .inl (c_6, 8, .inl (kZ 6))), (q7, .inl (c_10, 8, .inl (kZ 7))), (q8, .inl (c_10, 8, .inl (kZ 8))), (q10, .inl (c_10, 200, .inl (kZ 10)))] H := hP
  have hD : va_D A [(h, .inr (0, [.int 0, .int 0, .ref q2, .ref q3, .ref q4, .ref q5, .ref q6, .ref q7, .ref q8, .int 0, .null, .null, .null, .null, .null, .null])), (q2, .inl (c_6, 8, .inl (kZ 2))), (q3, .inl (c_6, 8, .inl (kZ 3))), (q4, .inl (c_6, 8, .inl (kZ 4))), (q5, .inl (c_6, 8, .inl (kZ 5))), (q6, .inl (c_6, 8, .inl (kZ 6))), (q7, .inl (c_10, 8, .inl (kZ 7))), (q8, .inl (c_10, 8, .inl (kZ 8))), (q10, .inl (c_10, 200, .inl (kZ 10)))] := hD
  refine va_putF (D := D) (ci := 0) (v := .ref q10) (ty := .array .int) (C := RX1) (T := TX1) (N := 16) hx hb hts in_X1 tyX1 tyX1_ok nmX1 hown hK hP hD hS 0 rfl rfl 10 (by decide) (hts _ q45) (fun _ h9 => h9) rfl hin rfl (by decide +kernel) rfl rfl (Nat.le_of_ble_eq_true rfl) dX1_init_66 (fun H locs hP hD hS => ?_)
  have hP : va_P D vwCl [(h, .inr (0, [.int 0, .int 0, .ref q2, .ref q3, .ref q4, .ref q5, .ref q6, .ref q7, .ref q8, .int 0, .ref q10, .null, .null, .null, .null, .null])), (q2, .inl (c_6, 8, .inl (kZ 2))), (q3, .inl (c_6, 8, .inl (kZ 3))), (q4, .inl (c_6, 8, .inl (kZ 4))), (q5, .inl (c_6, 8, .inl (kZ 5))), (q6, .inl (c_6, 8, .inl (kZ 6))), (q7, .inl (c_10, 8, .inl (kZ 7))), (q8, .inl (c_10, 8, .inl (kZ 8))), (q10, .inl (c_10, 200, .inl (kZ 10)))] H := hP
  have hD : va_D A [(h, .inr (0, [.int 0, .int 0, .ref q2, .ref q3, .ref q4, .ref q5, .ref q6, .ref q7, .ref q8, .int 0, .ref q10, .null, .null, .null, .null, .null])), (q2, .inl (c_6, 8, .inl (kZ 2))), (q3, .inl (c_6, 8, .inl (kZ 3))), (q4, .inl (c_6, 8, .inl (kZ 4))), (q5, .inl (c_6, 8, .inl (kZ 5))), (q6, .inl (c_6, 8, .inl (kZ 6))), (q7, .inl (c_10, 8, .inl (kZ 7))), (q8, .inl (c_10, 8, .inl (kZ 8))), (q10, .inl (c_10, 200, .inl (kZ 10)))] := hD
  refine lv_aload_n hx hb dX1_init_69 rfl (lv_at hl 0 rfl) ?_
  refine lv_bipush (v := nI 10) hx hb dX1_init_70 (by decide) ?_
  refine va_newa (atype := .byte) (ty := .byte) (a0 := (10, .inl (kZ 11))) hx hb (hts _ q84) rfl hK hP hD hS hA (fun _ => rfl) (by decide) (by decide) (by decide) (Nat.le_of_ble_eq_true rfl) (Nat.le_of_ble_eq_true rfl) dX1_init_72 (fun q11 cA H hK hP hD hS => ?_)
  refine W.widen (k := 9) (n := 266) (Nat.le_of_ble_eq_true rfl) (Nat.le_of_ble_eq_true rfl) ?_
  have hK : va_K D vwCl [(c_6, .byte), (c_10, .int), (cA, .byte)] s := hK
  have hc : cA = c_6 := RA_byte hK (a := 0) (b := 2) (by simp) rfl rfl
  subst hc
  have hK := hK.sub (tys' := [(cA, .byte), (c_10, .int)]) [0, 1] rfl
  obtain ⟨c_11, rfl⟩ : ∃ z, z = cA := ⟨_, rfl⟩
  have hK : va_K D vwCl [(c_11, .byte), (c_10, .int)] s := hK
  have hP : va_P D vwCl [(h, .inr (0, [.int 0, .int 0, .ref q2, .ref q3, .ref q4, .ref q5, .ref q6, .ref q7, .ref q8, .int 0, .ref q10, .null, .null, .null, .null, .null])), (q2, .inl (c_11, 8, .inl (kZ 2))), (q3, .inl (c_11, 8, .inl (kZ 3))), (q4, .inl (c_11, 8, .inl (kZ 4))), (q5, .inl (c_11, 8, .inl (kZ 5))), (q6, .inl (c_11, 8, .inl (kZ 6))), (q7, .inl (c_10, 8, .inl (kZ 7))), (q8, .inl (c_10, 8, .inl (kZ 8))), (q10, .inl (c_10, 200, .inl (kZ 10))), (q11, .inl (c_11, 10, .inl (kZ 11)))] H := hP
  have hD : va_D A [(h, .inr (0, [.int 0, .int 0, .ref q2, .ref q3, .ref q4, .ref q5, .ref q6, .ref q7, .ref q8, .int 0, .ref q10, .null, .null, .null, .null, .null])), (q2, .inl (c_11, 8, .inl (kZ 2))), (q3, .inl (c_11, 8, .inl (kZ 3))), (q4, .inl (c_11, 8, .inl (kZ 4))), (q5, .inl (c_11, 8, .inl (kZ 5))), (q6, .inl (c_11, 8, .inl (kZ 6))), (q7, .inl (c_10, 8, .inl (kZ 7))), (q8, .inl (c_10, 8, .inl (kZ 8))), (q10, .inl (c_10, 200, .inl (kZ 10))), (q11, .inl (c_11, 10, .inl (kZ 11)))] := hD
  refine va_putF (D := D) (ci := 0) (v := .ref q11) (ty := .array .byte) (C := RX1) (T := TX1) (N := 16) hx hb hts in_X1 tyX1 tyX1_ok nmX1 hown hK hP hD hS 0 rfl rfl 11 (by decide) (hts _ q46) (fun _ h9 => h9) rfl hin rfl (by decide +kernel) rfl rfl (Nat.le_of_ble_eq_true rfl) dX1_init_74 (fun H locs hP hD hS => ?_)
  have hP : va_P D vwCl [(h, .inr (0, [.int 0, .int 0, .ref q2, .ref q3, .ref q4, .ref q5, .ref q6, .ref q7, .ref q8, .int 0, .ref q10, .ref q11, .null, .null, .null, .null])), (q2, .inl (c_11, 8, .inl (kZ 2))), (q3, .inl (c_11, 8, .inl (kZ 3))), (q4, .inl (c_11, 8, .inl (kZ 4))), (q5, .inl (c_11, 8, .inl (kZ 5))), (q6, .inl (c_11, 8, .inl (kZ 6))), (q7, .inl (c_10, 8, .inl (kZ 7))), (q8, .inl (c_10, 8, .inl (kZ 8))), (q10, .inl (c_10, 200, .inl (kZ 10))), (q11, .inl (c_11, 10, .inl (kZ 11)))] H := hP
  have hD : va_D A [(h, .inr (0, [.int 0, .int 0, .ref q2, .ref q3, .ref q4, .ref q5, .ref q6, .ref q7, .ref q8, .int 0, .ref q10, .ref q11, .null, .null, .null, .null])), (q2, .inl (c_11, 8, .inl (kZ 2))), (q3, .inl (c_11, 8, .inl (kZ 3))), (q4, .inl (c_11, 8, .inl (kZ 4))), (q5, .inl (c_11, 8, .inl (kZ 5))), (q6, .inl (c_11, 8, .inl (kZ 6))), (q7, .inl (c_10, 8, .inl (kZ 7))), (q8, .inl (c_10, 8, .inl (kZ 8))), (q10, .inl (c_10, 200, .inl (kZ 10))), (q11, .inl (c_11, 10, .inl (kZ 11)))] := hD
  refine lv_aload_n hx hb dX1_init_77 rfl (lv_at hl 0 rfl) ?_
  refine lv_bipush (v := nI 10) hx hb dX1_init_78 (by decide) ?_
  refine va_newa (atype := .byte) (ty := .byte) (a0 := (10, .inl (kZ 12))) hx hb (hts _ q84) rfl hK hP hD hS hA (fun _ => rfl) (by decide) (by decide) (by decide) (Nat.le_of_ble_eq_true rfl) (Nat.le_of_ble_eq_true rfl) dX1_init_80 (fun q12 cA H hK hP hD hS => ?_)
  refine W.widen (k := 10) (n := 276) (Nat.le_of_ble_eq_true rfl) (Nat.le_of_ble_eq_true rfl) ?_
  have hK : va_K D vwCl [(c_11, .byte), (c_10, .int), (cA, .byte)] s := hK
  have hc : cA = c_11 := RA_byte hK (a := 0) (b := 2) (by simp) rfl rfl
  subst hc
  have hK := hK.sub (tys' := [(cA, .byte), (c_10, .int)]) [0, 1] rfl
  obtain ⟨c_12, rfl⟩ : ∃ z, z = cA := ⟨_, rfl⟩
  have hK : va_K D vwCl [(c_12, .byte), (c_10, .int)] s := hK
  have hP : va_P D vwCl [(h, .inr (0, [.int 0, .int 0, .ref q2, .ref q3, .ref q4, .ref q5, .ref q6, .ref q7, .ref q8, .int 0, .ref q10, .ref q11, .null, .null, .null, .null])), (q2, .inl (c_12, 8, .inl (kZ 2))), (q3, .inl (c_12, 8, .inl (kZ 3))), (q4, .inl (c_12, 8, .inl (kZ 4))), (q5, .inl (c_12, 8, .inl (kZ 5))), (q6, .inl (c_12, 8, .inl (kZ 6))), (q7, .inl (c_10, 8, .inl (kZ 7))), (q8, .inl (c_10, 8, .inl (kZ 8))), (q10, .inl (c_10, 200, .inl (kZ 10))), (q11, .inl (c_12, 10, .inl (kZ 11))), (q12, .inl (c_12, 10, .inl (kZ 12)))] H := hP
  have hD : va_D A [(h, .inr (0, [.int 0, .int 0, .ref q2, .ref q3, .ref q4, .ref q5, .ref q6, .ref q7, .ref q8, .int 0, .ref q10, .ref q11, .null, .null, .null, .null])), (q2, .inl (c_12, 8, .inl (kZ 2))), (q3, .inl (c_12, 8, .inl (kZ 3))), (q4, .inl (c_12, 8, .inl (kZ 4))), (q5, .inl (c_12, 8, .inl (kZ 5))), (q6, .inl (c_12, 8, .inl (kZ 6))), (q7, .inl (c_10, 8, .inl (kZ 7))), (q8, .inl (c_10, 8, .inl (kZ 8))), (q10, .inl (c_10, 200, .inl (kZ 10))), (q11, .inl (c_12, 10, .inl (kZ 11))), (q12, .inl (c_12, 10, .inl (kZ 12)))] := hD
  refine va_putF (D := D) (ci := 0) (v := .ref q12) (ty := .array .byte) (C := RX1) (T := TX1) (N := 16) hx hb hts in_X1 tyX1 tyX1_ok nmX1 hown hK hP hD hS 0 rfl rfl 12 (by decide) (hts _ q47) (fun _ h9 => h9) rfl hin rfl (by decide +kernel) rfl rfl (Nat.le_of_ble_eq_true rfl) dX1_init_82 (fun H locs hP hD hS => ?_)
  have hP : va_P D vwCl [(h, .inr (0, [.int 0, .int 0, .ref q2, .ref q3, .ref q4, .ref q5, .ref q6, .ref q7, .ref q8, .int 0, .ref q10, .ref q11, .ref q12, .null, .null, .null])), (q2, .inl (c_12, 8, .inl (kZ 2))), (q3, .inl (c_12, 8, .inl (kZ 3))), (q4, .inl (c_12, 8, .inl (kZ 4))), (q5, .inl (c_12, 8, .inl (kZ 5))), (q6, .inl (c_12, 8, .inl (kZ 6))), (q7, .inl (c_10, 8, .inl (kZ 7))), (q8, .inl (c_10, 8, .inl (kZ 8))), (q10, .inl (c_10, 200, .inl (kZ 10))), (q11, .inl (c_12, 10, .inl (kZ 11))), (q12, .inl (c_12, 10, .inl (kZ 12)))] H := hP
  have hD : va_D A [(h, .inr (0, [.int 0, .int 0, .ref q2, .ref q3, .ref q4, .ref q5, .ref q6, .ref q7, .ref q8, .int 0, .ref q10, .ref q11, .ref q12, .null, .null, .null])), (q2, .inl (c_12, 8, .inl (kZ 2))), (q3, .inl (c_12, 8, .inl (kZ 3))), (q4, .inl (c_12, 8, .inl (kZ 4))), (q5, .inl (c_12, 8, .inl (kZ 5))), (q6, .inl (c_12, 8, .inl (kZ 6))), (q7, .inl (c_10, 8, .inl (kZ 7))), (q8, .inl (c_10, 8, .inl (kZ 8))), (q10, .inl (c_10, 200, .inl (kZ 10))), (q11, .inl (c_12, 10, .inl (kZ 11))), (q12, .inl (c_12, 10, .inl (kZ 12)))] := hD
  refine lv_aload_n hx hb dX1_init_85 rfl (lv_at hl 0 rfl) ?_
  refine lv_bipush (v := nI 10) hx hb dX1_init_86 (by decide) ?_
  refine va_newa (atype := .byte) (ty := .byte) (a0 := (10, .inl (kZ 13))) hx hb (hts _ q84) rfl hK hP hD hS hA (fun _ => rfl) (by decide) (by decide) (by decide) (Nat.le_of_ble_eq_true rfl) (Nat.le_of_ble_eq_true rfl) dX1_init_88 (fun q13 cA H hK hP hD hS => ?_)
  refine W.widen (k := 11) (n := 286) (Nat.le_of_ble_eq_true rfl) (Nat.le_of_ble_eq_true rfl) ?_
  have hK : va_K D vwCl [(c_12, .byte), (c_10, .int), (cA, .byte)] s := hK
  have hc : cA = c_12 := RA_byte hK (a := 0) (b := 2) (by simp) rfl rfl
  subst hc
  have hK := hK.sub (tys' := [(cA, .byte), (c_10, .int)]) [0, 1] rfl
  obtain ⟨c_13, rfl⟩ : ∃ z, z = cA := ⟨_, rfl⟩
  have hK : va_K D vwCl [(c_13, .byte), (c_10, .int)] s := hK
  have hP : va_P D vwCl [(h, .inr (0, [.int 0, .int 0, .ref q2, .ref q3, .ref q4, .ref q5, .ref q6, .ref q7, .ref q8, .int 0, .ref q10, .ref q11, .ref q12, .null, .null, .null])), (q2, .inl (c_13, 8, .inl (kZ 2))), (q3, .inl (c_13, 8, .inl (kZ 3))), (q4, .inl (c_13, 8, .inl (kZ 4))), (q5, .inl (c_13, 8, .inl (kZ 5))), (q6, .inl (c_13, 8, .inl (kZ 6))), (q7, .inl (c_10, 8, .inl (kZ 7))), (q8, .inl (c_10, 8, .inl (kZ 8))), (q10, .inl (c_10, 200, .inl (kZ 10))), (q11, .inl (c_13, 10, .inl (kZ 11))), (q12, .inl (c_13, 10, .inl (kZ 12))), (q13, .inl (c_13, 10, .inl (kZ 13)))] H := hP
  have hD : va_D A [(h, .inr (0, [.int 0, .int 0, .ref q2, .ref q3, .ref q4, .ref q5, .ref q6, .ref q7, .ref q8, .int 0, .ref q10, .ref q11, .ref q12, .null, .null, .null])), (q2, .inl (c_13, 8, .inl (kZ 2))), (q3, .inl (c_13, 8, .inl (kZ 3))), (q4, .inl (c_13, 8, .inl (kZ 4))), (q5, .inl (c_13, 8, .inl (kZ 5))), (q6, .inl (c_13, 8, .inl (kZ 6))), (q7, .inl (c_10, 8, .inl (kZ 7))), (q8, .inl (c_10, 8, .inl (kZ 8))), (q10, .inl (c_10, 200, .inl (kZ 10))), (q11, .inl (c_13, 10, .inl (kZ 11))), (q12, .inl (c_13, 10, .inl (kZ 12))), (q13, .inl (c_13, 10, .inl (kZ 13)))] := hD
  refine va_putF (D := D) (ci := 0) (v := .ref q13) (ty := .array .byte) (C := RX1) (T := TX1) (N := 16) hx hb hts in_X1 tyX1 tyX1_ok nmX1 hown hK hP hD hS 0 rfl rfl 13 (by decide) (hts _ q48) (fun _ h9 => h9) rfl hin rfl (by decide +kernel) rfl rfl (Nat.le_of_ble_eq_true rfl) dX1_init_90 (fun H locs hP hD hS => ?_)
  have hP : va_P D vwCl [(h, .inr (0, [.int 0, .int 0, .ref q2, .ref q3, .ref q4, .ref q5, .ref q6, .ref q7, .ref q8, .int 0, .ref q10, .ref q11, .ref q12, .ref q13, .null, .null])), (q2, .inl (c_13, 8, .inl (kZ 2))), (q3, .inl (c_13, 8, .inl (kZ 3))), (q4, .inl (c_13, 8, .inl (kZ 4))), (q5, .inl (c_13, 8, .inl (kZ 5))), (q6, .inl (c_13, 8, .inl (kZ 6))), (q7, .inl (c_10, 8, .inl (kZ 7))), (q8, .inl (c_10, 8, .inl (kZ 8))), (q10, .inl (c_10, 200, .inl (kZ 10))), (q11, .inl (c_13, 10, .inl (kZ 11))), (q12, .inl (c_13, 10, .inl (kZ 12))), (q13, .inl (c_13, 10, .inl (kZ 13)))] H := hP
  have hD : va_D A [(h, .inr (0, [.int 0, .int 0, .ref q2, .ref q3, .ref q4, .ref q5, .ref q6, .ref q7, .ref q8, .int 0, .ref q10, .ref q11, .ref q12, .ref q13, .null, .null])), (q2, .inl (c_13, 8, .inl (kZ 2))), (q3, .inl (c_13, 8, .inl (kZ 3))), (q4, .inl (c_13, 8, .inl (kZ 4))), (q5, .inl (c_13, 8, .inl (kZ 5))), (q6, .inl (c_13, 8, .inl (kZ 6))), (q7, .inl (c_10, 8, .inl (kZ 7))), (q8, .inl (c_10, 8, .inl (kZ 8))), (q10, .inl (c_10, 200, .inl (kZ 10))), (q11, .inl (c_13, 10, .inl (kZ 11))), (q12, .inl (c_13, 10, .inl (kZ 12))), (q13, .inl (c_13, 10, .inl (kZ 13)))] := hD
  refine lv_aload_n hx hb dX1_init_93 rfl (lv_at hl 0 rfl) ?_
  refine lv_bipush (v := nI 8) hx hb dX1_init_94 (by decide) ?_
  refine va_newa (atype := .int) (ty := .int) (a0 := (8, .inl (kZ 14))) hx hb (hts _ q85) rfl hK hP hD hS hA (fun _ => rfl) (by decide) (by decide) (by decide) (Nat.le_of_ble_eq_true rfl) (Nat.le_of_ble_eq_true rfl) dX1_init_96 (fun q14 cA H hK hP hD hS => ?_)
  refine W.widen (k := 12) (n := 294) (Nat.le_of_ble_eq_true rfl) (Nat.le_of_ble_eq_true rfl) ?_
  have hK : va_K D vwCl [(c_13, .byte), (c_10, .int), (cA, .int)] s := hK
  have hc : cA = c_10 := RA_byte hK (a := 1) (b := 2) (by simp) rfl rfl
  subst hc
  have hK := hK.sub (tys' := [(c_13, .byte), (cA, .int)]) [0, 1] rfl
  obtain ⟨c_14, rfl⟩ : ∃ z, z = cA := ⟨_, rfl⟩
  have hK : va_K D vwCl [(c_13, .byte), (c_14, .int)] s := hK
  have hP : va_P D vwCl [(h, .inr (0, [.int 0, .int 0, .ref q2, .ref q3, .ref q4, .ref q5, .ref q6, .ref q7, .ref q8, .int 0, .ref q10, .ref q11, .ref q12, .ref q13, .null, .null])), (q2, .inl (c_13, 8, .inl (kZ 2))), (q3, .inl (c_13, 8, .inl (kZ 3))), (q4, .inl (c_13, 8, .inl (kZ 4))), (q5, .inl (c_13, 8, .inl (kZ 5))), (q6, .inl (c_13, 8, .inl (kZ 6))), (q7, .inl (c_14, 8, .inl (kZ 7))), (q8, .inl (c_14, 8, .inl (kZ 8))), (q10, .inl (c_14, 200, .inl (kZ 10))), (q11, .inl (c_13, 10, .inl (kZ 11))), (q12, .inl (c_13, 10, .inl (kZ 12))), (q13, .inl (c_13, 10, .inl (kZ 13))), (q14, .inl (c_14, 8, .inl (kZ 14)))] H := hP
  have hD : va_D A [(h, .inr (0, [.int 0, .int 0, .ref q2, .ref q3, .ref q4, .ref q5, .ref q6, .ref q7, .ref q8, .int 0, .ref q10, .ref q11, .ref q12, .ref q13, .null, .null])), (q2, .inl (c_13, 8, .inl (kZ 2))), (q3, .inl (c_13, 8, .inl (kZ 3))), (q4, .inl (c_13, 8, .inl (kZ 4))), (q5, .inl (c_13, 8, .inl (kZ 5))), (q6, .inl (c_13, 8, .inl (kZ 6))), (q7, .inl (c_14, 8, .inl (kZ 7))), (q8, .inl (c_14, 8, .inl (kZ 8))), (q10, .inl (c_14, 200, .inl (kZ 10))), (q11, .inl (c_13, 10, .inl (kZ 11))), (q12, .inl (c_13, 10, .inl (kZ 12))), (q13, .inl (c_13, 10, .inl (kZ 13))), (q14, .inl (c_14, 8, .inl (kZ 14)))] := hD
  refine va_putF (D := D) (ci := 0) (v := .ref q14) (ty := .array .int) (C := RX1) (T := TX1) (N := 16) hx hb hts in_X1 tyX1 tyX1_ok nmX1 hown hK hP hD hS 0 rfl rfl 14 (by decide) (hts _ q49) (fun _ h9 => h9) rfl hin rfl (by decide +kernel) rfl rfl (Nat.le_of_ble_eq_true rfl) dX1_init_98 (fun H locs hP hD hS => ?_)
  have hP : va_P D vwCl [(h, .inr (0, [.int 0, .int 0, .ref q2, .ref q3, .ref q4, .ref q5, .ref q6, .ref q7, .ref q8, .int 0, .ref q10, .ref q11, .ref q12, .ref q13, .ref q14, .null])), (q2, .inl (c_13, 8, .inl (kZ 2))), (q3, .inl (c_13, 8, .inl (kZ 3))), (q4, .inl (c_13, 8, .inl (kZ 4))), (q5, .inl (c_13, 8, .inl (kZ 5))), (q6, .inl (c_13, 8, .inl (kZ 6))), (q7, .inl (c_14, 8, .inl (kZ 7))), (q8, .inl (c_14, 8, .inl (kZ 8))), (q10, .inl (c_14, 200, .inl (kZ 10))), (q11, .inl (c_13, 10, .inl (kZ 11))), (q12, .inl (c_13, 10, .inl (kZ 12))), (q13, .inl (c_13, 10, .inl (kZ 13))), (q14, .inl (c_14, 8, .inl (kZ 14)))] H := hP
  have hD : va_D A [(h, .inr (0, [.int 0, .int 0, .ref q2, .ref q3, .ref q4, .ref q5, .ref q6, .ref q7, .ref q8, .int 0, .ref q10, .ref q11, .ref q12, .ref q13, .ref q14, .null])), (q2, .inl (c_13, 8, .inl (kZ 2))), (q3, .inl (c_13, 8, .inl (kZ 3))), (q4, .inl (c_13, 8, .inl (kZ 4))), (q5, .inl (c_13, 8, .inl (kZ 5))), (q6, .inl (c_13, 8, .inl (kZ 6))), (q7, .inl (c_14, 8, .inl (kZ 7))), (q8, .inl (c_14, 8, .inl (kZ 8))), (q10, .inl (c_14, 200, .inl (kZ 10))), (q11, .inl (c_13, 10, .inl (kZ 11))), (q12, .inl (c_13, 10, .inl (kZ 12))), (q13, .inl (c_13, 10, .inl (kZ 13))), (q14, .inl (c_14, 8, .inl (kZ 14)))] := hD
  refine lv_aload_n hx hb dX1_init_101 rfl (lv_at hl 0 rfl) ?_
  refine lv_bipush (v := nI 8) hx hb dX1_init_102 (by decide) ?_
  refine va_newa (atype := .byte) (ty := .byte) (a0 := (8, .inl (kZ 15))) hx hb (hts _ q84) rfl hK hP hD hS hA (fun _ => rfl) (by decide) (by decide) (by decide) (Nat.le_of_ble_eq_true rfl) (Nat.le_of_ble_eq_true rfl) dX1_init_104 (fun q15 cA H hK hP hD hS => ?_)
  refine W.widen (k := 13) (n := 302) (Nat.le_of_ble_eq_true rfl) (Nat.le_of_ble_eq_true rfl) ?_
  have hK : va_K D vwCl [(c_13, .byte), (c_14, .int), (cA, .byte)] s := hK
  have hc : cA = c_13 := RA_byte hK (a := 0) (b := 2) (by simp) rfl rfl
  subst hc
  have hK := hK.sub (tys' := [(cA, .byte), (c_14, .int)]) [0, 1] rfl
  obtain ⟨c_15, rfl⟩ : ∃ z, z = cA := ⟨_, rfl⟩
  have hK : va_K D vwCl [(c_15, .byte), (c_14, .int)] s := hK
  have hP : va_P D vwCl [(h, .inr (0, [.int 0, .int 0, .ref q2, .ref q3, .ref q4, .ref q5, .ref q6, .ref q7, .ref q8, .int 0, .ref q10, .ref q11, .ref q12, .ref q13, .ref q14, .null])), (q2, .inl (c_15, 8, .inl (kZ 2))), (q3, .inl (c_15, 8, .inl (kZ 3))), (q4, .inl (c_15, 8, .inl (kZ 4))), (q5, .inl (c_15, 8, .inl (kZ 5))), (q6, .inl (c_15, 8, .inl (kZ 6))), (q7, .inl (c_14, 8, .inl (kZ 7))), (q8, .inl (c_14, 8, .inl (kZ 8))), (q10, .inl (c_14, 200, .inl (kZ 10))), (q11, .inl (c_15, 10, .inl (kZ 11))), (q12, .inl (c_15, 10, .inl (kZ 12))), (q13, .inl (c_15, 10, .inl (kZ 13))), (q14, .inl (c_14, 8, .inl (kZ 14))), (q15, .inl (c_15, 8, .inl (kZ 15)))] H := hP
  have hD : va_D A [(h, .inr (0, [.int 0, .int 0, .ref q2, .ref q3, .ref q4, .ref q5, .ref q6, .ref q7, .ref q8, .int 0, .ref q10, .ref q11, .ref q12, .ref q13, .ref q14, .null])), (q2, .inl (c_15, 8, .inl (kZ 2))), (q3, .inl (c_15, 8, .inl (kZ 3))), (q4, .inl (c_15, 8, .inl (kZ 4))), (q5, .inl (c_15, 8, .inl (kZ 5))), (q6, .inl (c_15, 8, .inl (kZ 6))), (q7, .inl (c_14, 8, .inl (kZ 7))), (q8, .inl (c_14, 8, .inl (kZ 8))), (q10, .inl (c_14, 200, .inl (kZ 10))), (q11, .inl (c_15, 10, .inl (kZ 11))), (q12, .inl (c_15, 10, .inl (kZ 12))), (q13, .inl (c_15, 10, .inl (kZ 13))), (q14, .inl (c_14, 8, .inl (kZ 14))), (q15, .inl (c_15, 8, .inl (kZ 15)))] := hD
  refine va_putF (D := D) (ci := 0) (v := .ref q15) (ty := .array .byte) (C := RX1) (T := TX1) (N := 16) hx hb hts in_X1 tyX1 tyX1_ok nmX1 hown hK hP hD hS 0 rfl rfl 15 (by decide) (hts _ q50) (fun _ h9 => h9) rfl hin rfl (by decide +kernel) rfl rfl (Nat.le_of_ble_eq_true rfl) dX1_init_106 (fun H locs hP hD hS => ?_)
  have hP : va_P D vwCl [(h, .inr (0, [.int 0, .int 0, .ref q2, .ref q3, .ref q4, .ref q5, .ref q6, .ref q7, .ref q8, .int 0, .ref q10, .ref q11, .ref q12, .ref q13, .ref q14, .ref q15])), (q2, .inl (c_15, 8, .inl (kZ 2))), (q3, .inl (c_15, 8, .inl (kZ 3))), (q4, .inl (c_15, 8, .inl (kZ 4))), (q5, .inl (c_15, 8, .inl (kZ 5))), (q6, .inl (c_15, 8, .inl (kZ 6))), (q7, .inl (c_14, 8, .inl (kZ 7))), (q8, .inl (c_14, 8, .inl (kZ 8))), (q10, .inl (c_14, 200, .inl (kZ 10))), (q11, .inl (c_15, 10, .inl (kZ 11))), (q12, .inl (c_15, 10, .inl (kZ 12))), (q13, .inl (c_15, 10, .inl (kZ 13))), (q14, .inl (c_14, 8, .inl (kZ 14))), (q15, .inl (c_15, 8, .inl (kZ 15)))] H := hP
  have hD : va_D A [(h, .inr (0, [.int 0, .int 0, .ref q2, .ref q3, .ref q4, .ref q5, .ref q6, .ref q7, .ref q8, .int 0, .ref q10, .ref q11, .ref q12, .ref q13, .ref q14, .ref q15])), (q2, .inl (c_15, 8, .inl (kZ 2))), (q3, .inl (c_15, 8, .inl (kZ 3))), (q4, .inl (c_15, 8, .inl (kZ 4))), (q5, .inl (c_15, 8, .inl (kZ 5))), (q6, .inl (c_15, 8, .inl (kZ 6))), (q7, .inl (c_14, 8, .inl (kZ 7))), (q8, .inl (c_14, 8, .inl (kZ 8))), (q10, .inl (c_14, 200, .inl (kZ 10))), (q11, .inl (c_15, 10, .inl (kZ 11))), (q12, .inl (c_15, 10, .inl (kZ 12))), (q13, .inl (c_15, 10, .inl (kZ 13))), (q14, .inl (c_14, 8, .inl (kZ 14))), (q15, .inl (c_15, 8, .inl (kZ 15)))] := hD
  obtain ⟨ad, had⟩ : ∃ ad : Nat → Nat, ad = (fun f => match f with | 2 => q2 | 3 => q3 | 4 => q4 | 5 => q5 | 6 => q6 | 7 => q7 | 8 => q8 | 10 => q10 | 11 => q11 | 12 => q12 | 13 => q13 | 14 => q14 | 15 => q15 | _ => 0) := ⟨_, rfl⟩
  have X : kX p s m ([.ref h, .int x0] : List Value).toArray c cX1_init 2 D c_15 c_14 := ⟨hx, hb, hml, hown, hts, hK.sub [0, 1] rfl⟩
  have I : kI D c_15 c_14 h ad A s.heap kZ H locs := by
    rw [had]
    exact ⟨hP, hD, hS⟩
  have fin : ∀ fb : Nat, 1 ≤ fb → fb ≤ 6 → ∀ ls : Array Slot, W p l e ({ frames := 1, cells := 13, slots := 302, locals := 12 } : Room) s m ([.ref h, .int x0] : List Value).toArray below meth c H locs 13 302 (MQ below (va_Qv (fun (u : KS) => kObj nN0 u) (fun (u : KS) (t : State) => ∃ (c1 c2 : ClassId) (ad : Nat → Nat), kB D c1 c2 h ad A u t) A) ([.ref h, .int x0] : List Value).toArray s 13 302 A) (F0 m 131 ls [.int (nI fb), .ref h]) := by
    intro fb h1 h6 ls
    refine kp_firstBuffer X I dX1_init_131 (fun H locs I => ?_)
    exact W.vret hx hb hr (fun t ht hW => ⟨⟨su kZ 0 0 (nI fb), rfl, ⟨⟨nOk_zero nN0, rfl, ⟨fb, h1, h6, rfl⟩, fun i hi => absurd hi (Nat.not_lt_zero i)⟩, Or.inl rfl⟩, _, _, ad, by rw [ht]; exact I.1, va_K.moved hW.alike X.2.2.2.2.2, I.2.1⟩, I.2.2.F ht⟩) I.2.2.2.2 dX1_init_134
  refine lv_aload_n hx hb dX1_init_109 rfl (lv_at hl 0 rfl) ?_
  refine lv_iload_n hx hb dX1_init_110 rfl (lv_at hl 1 rfl) ?_
  refine lv_iconst (v := nI 1) hx hb dX1_init_111 (by decide) ?_
  refine lv_icmp_ge (tgt := 119) hx hb dX1_init_112 (by decide) (fun b1 => ?_) (fun b1 => ?_)
  · refine lv_iload_n hx hb dX1_init_119 rfl (lv_at hl 1 rfl) ?_
    refine lv_bipush (v := nI 6) hx hb dX1_init_120 (by decide) ?_
    refine lv_icmp_le (tgt := 130) hx hb dX1_init_122 (by decide) (fun b2 => ?_) (fun b2 => ?_)
    · obtain ⟨j, hj, rfl⟩ := nI_of2 (M := nI 6) (n := 6) (by decide) (fun q => absurd (Int32.lt_of_lt_of_le q (Int32.le_trans (by decide) b1)) (Int32.lt_irrefl)) b2
      refine lv_iload_n hx hb dX1_init_130 rfl (lv_at hl 1 rfl) ?_
      exact fin j ((nI_leI (by omega) (by omega)).mp b1) hj ls
    · refine lv_bipush (v := nI 6) hx hb dX1_init_125 (by decide) ?_
      refine lv_goto (tgt := 131) hx hb dX1_init_127 (by decide) ?_
      exact fin 6 (by decide) (by decide) ls
  · refine lv_iconst (v := nI 1) hx hb dX1_init_115 (by decide) ?_
    refine lv_goto (tgt := 131) hx hb dX1_init_116 (by decide) ?_
    exact fin 1 (by decide) (by decide) ls

set_option maxHeartbeats 8000000 in
set_option maxRecDepth 100000 in
theorem metX2_init (l : Launch) (D : va_G) (h sz : Nat) (x0 : Int32) : Met l yX2_init (ws_ yX2_init cX2_init 2 none) ({ frames := 1, cells := 12, slots := 306, locals := 12 } : Room) (va_Pc [.ref h, .int x0] (fun U => U.heap.size = sz ∧ va_P D vwCl [(h, .inr (1, [.int 0, .null, .null, .null, .null, .null, .null, .null, .null, .null, .null, .null, .null, .int 0]))] U.heap ∧ va_K D vwCl [] U ∧ va_D (fun _ => True) [(h, .inr (1, [.int 0, .null, .null, .null, .null, .null, .null, .null, .null, .null, .null, .null, .null, .int 0]))])) (va_Qv (fun (u : KS) => mNet nN0 u) (fun (u : KS) (t : State) => ∃ (c1 c2 : ClassId) (ad : Nat → Nat), mB D c1 c2 h ad (va_A [(h, .inr (1, [.int 0, .null, .null, .null, .null, .null, .null, .null, .null, .null, .null, .null, .null, .int 0]))] sz) u t) (va_A [(h, .inr (1, [.int 0, .null, .null, .null, .null, .null, .null, .null, .null, .null, .null, .null, .null, .int 0]))] sz)) 12 306 (va_A [(h, .inr (1, [.int 0, .null, .null, .null, .null, .null, .null, .null, .null, .null, .null, .null, .null, .int 0]))] sz) := by
  refine Met.ofW (cc := cX2_init) (maxL := 2) (ret := none) (by decide) rfl ?_
  intro p e s m args below meth c s₁ B hml hv
  obtain ⟨rfl, hsz, hP, hK, hD0⟩ := hv
  have hx := B.exec
  have hb := B.bytes
  have hr := B.returns
  have hts := atoms_spec (ws := ws_ yX2_init cX2_init 2 none) B.pre
  have hts : ∀ w ∈ lw_all, w.before _ s = true := fun w h => hts w (List.mem_cons_of_mem _ h)
  have hown : s.vm.findClass RX2 = some m.cls := findClass_of_methodNamed B.named
  have hlocks := B.notSynchronized
  have hin : meth.name = "<init>" := (name_of_methodNamed B.named B.method).1
  subst hsz
  have hD := hD0.self (sz := s.heap.size)
  generalize hAe : va_A [(h, .inr (1, [.int 0, .null, .null, .null, .null, .null, .null, .null, .null, .null, .null, .null, .null, .int 0]))] s.heap.size = A at hD ⊢
  have hA : ∀ q : Nat, s.heap.size ≤ q → A q := fun q h => by rw [← hAe]; exact Or.inr h
  have hS : va_S A s.heap s.heap [] := va_S.rf
  have hP : va_P D vwCl [(h, .inr (1, [.int 0, .null, .null, .null, .null, .null, .null, .null, .null, .null, .null, .null, .null, .int 0]))] s.heap := hP
  have hl := lv_entry ([.ref h, .int x0]) (n := 2) (Nat.le_of_ble_eq_true rfl)
  rw [lg_entry_eq]
  generalize (lg_sl ([.ref h, .int x0]) ++ List.replicate (2 - (lg_sl ([.ref h, .int x0])).length) Slot.unset).toArray = ls at hl ⊢
  have hl : lv_has ls 2 [(0, .ref h), (1, .int x0)] := hl
  refine lv_aload_n hx hb dX2_init_0 rfl (lv_at hl 0 rfl) ?_
  refine W.objInit hx hb hown (hts _ q186) (hts _ q33) (hts _ q34) rfl (by rw [hml]; exact hl.1) rfl dX2_init_1 (Nat.le_of_ble_eq_true rfl) (Nat.le_of_ble_eq_true rfl) ?_
  refine W.eq (g2 := F0 m 4 ls []) rfl ?_
  refine lv_aload_n hx hb dX2_init_4 rfl (lv_at hl 0 rfl) ?_
  refine lv_iconst (v := 0) hx hb dX2_init_5 (by decide) ?_
  refine va_put (D := D) (ci := 1) (v := .int 0) (ty := .int) (C := RX2) (T := TX2) (N := 14) hx hb hts in_X2 tyX2 tyX2_ok nmX2 hown hK hP hD hS 0 rfl rfl 0 (by decide) (hts _ q187) (fun _ h9 => h9) rfl (by decide +kernel) rfl rfl (Nat.le_of_ble_eq_true rfl) dX2_init_6 (fun H locs hP hD hS => ?_)
  have hP : va_P D vwCl [(h, .inr (1, [.int 0, .null, .null, .null, .null, .null, .null, .null, .null, .null, .null, .null, .null, .int 0]))] H := hP
  have hD : va_D A [(h, .inr (1, [.int 0, .null, .null, .null, .null, .null, .null, .null, .null, .null, .null, .null, .null, .int 0]))] := hD
  refine lv_aload_n hx hb dX2_init_9 rfl (lv_at hl 0 rfl) ?_
  refine lv_bipush (v := nI 8) hx hb dX2_init_10 (by decide) ?_
  refine va_newa (atype := .int) (ty := .int) (a0 := (8, .inl (kZ 1))) hx hb (hts _ q85) rfl hK hP hD hS hA (fun _ => rfl) (by decide) (by decide) (by decide) (Nat.le_of_ble_eq_true rfl) (Nat.le_of_ble_eq_true rfl) dX2_init_12 (fun q1 cA H hK hP hD hS => ?_)
  refine W.widen (k := 1) (n := 8) (Nat.le_of_ble_eq_true rfl) (Nat.le_of_ble_eq_true rfl) ?_
  obtain ⟨c_1, rfl⟩ : ∃ z, z = cA := ⟨_, rfl⟩
  have hK : va_K D vwCl [(c_1, .int)] s := hK
  have hP : va_P D vwCl [(h, .inr (1, [.int 0, .null, .null, .null, .null, .null, .null, .null, .null, .null, .null, .null, .null, .int 0])), (q1, .inl (c_1, 8, .inl (kZ 1)))] H := hP
  have hD : va_D A [(h, .inr (1, [.int 0, .null, .null, .null, .null, .null, .null, .null, .null, .null, .null, .null, .null, .int 0])), (q1, .inl (c_1, 8, .inl (kZ 1)))] := hD
  refine va_put (D := D) (ci := 1) (v := .ref q1) (ty := .array .int) (C := RX2) (T := TX2) (N := 14) hx hb hts in_X2 tyX2 tyX2_ok nmX2 hown hK hP hD hS 0 rfl rfl 1 (by decide) (hts _ q188) (fun _ h9 => h9) rfl (by decide +kernel) rfl rfl (Nat.le_of_ble_eq_true rfl) dX2_init_14 (fun H locs hP hD hS => ?_)
  have hP : va_P D vwCl [(h, .inr (1, [.int 0, .ref q1, .null, .null, .null, .null, .null, .null, .null, .null, .null, .null, .null, .int 0])), (q1, .inl (c_1, 8, .inl (kZ 1)))] H := hP
  have hD : va_D A [(h, .inr (1, [.int 0, .ref q1, .null, .null, .null, .null, .null, .null, .null, .null, .null, .null, .null, .int 0])), (q1, .inl (c_1, 8, .inl (kZ 1)))] := hD
  refine lv_aload_n hx hb dX2_init_17 rfl (lv_at hl 0 rfl) ?_
  refine lv_bipush (v := nI 8) hx hb dX2_init_18 (by decide) ?_
  refine va_newa (atype := .int) (ty := .int) (a0 := (8, .inl (kZ 2))) hx hb (hts _ q85) rfl hK hP hD hS hA (fun _ => rfl) (by decide) (by decide) (by decide) (Nat.le_of_ble_eq_true rfl) (Nat.le_of_ble_eq_true rfl) dX2_init_20 (fun q2 cA H hK hP hD hS => ?_)
  refine W.widen (k := 2) (n := 16) (Nat.le_of_ble_eq_true rfl) (Nat.le_of_ble_eq_true rfl) ?_
  have hK : va_K D vwCl [(c_1, .int), (cA, .int)] s := hK
  have hc : cA = c_1 := RA_byte hK (a := 0) (b := 1) (by simp) rfl rfl
  subst hc
  have hK := hK.sub (tys' := [(cA, .int)]) [0] rfl
  obtain ⟨c_2, rfl⟩ : ∃ z, z = cA := ⟨_, rfl⟩
  have hK : va_K D vwCl [(c_2, .int)] s := hK
  have hP : va_P D vwCl [(h, .inr (1, [.int 0, .ref q1, .null, .null, .null, .null, .null, .null, .null, .null, .null, .null, .null, .int 0])), (q1, .inl (c_2, 8, .inl (kZ 1))), (q2, .inl (c_2, 8, .inl (kZ 2)))] H := hP
  have hD : va_D A [(h, .inr (1, [.int 0, .ref q1, .null, .null, .null, .null, .null, .null, .null, .null, .null, .null, .null, .int 0])), (q1, .inl (c_2, 8, .inl (kZ 1))), (q2, .inl (c_2, 8, .inl (kZ 2)))] := hD
  refine va_put (D := D) (ci := 1) (v := .ref q2) (ty := .array .int) (C := RX2) (T := TX2) (N := 14) hx hb hts in_X2 tyX2 tyX2_ok nmX2 hown hK hP hD hS 0 rfl rfl 2 (by decide) (hts _ q189) (fun _ h9 => h9) rfl (by decide +kernel) rfl rfl (Nat.le_of_ble_eq_true rfl) dX2_init_22 (fun H locs hP hD hS => ?_)
  have hP : va_P D vwCl [(h, .inr (1, [.int 0, .ref q1, .ref q2, .null, .null, .null, .null, .null, .null, .null, .null, .null, .null, .int 0])), (q1, .inl (c_2, 8, .inl (kZ 1))), (q2, .inl (c_2, 8, .inl (kZ 2)))] H := hP
  have hD : va_D A [(h, .inr (1, [.int 0, .ref q1, .ref q2, .null, .null, .null, .null, .null, .null, .null, .null, .null, .null, .int 0])), (q1, .inl (c_2, 8, .inl (kZ 1))), (q2, .inl (c_2, 8, .inl (kZ 2)))] := hD
  refine lv_aload_n hx hb dX2_init_25 rfl (lv_at hl 0 rfl) ?_
  refine lv_bipush (v := nI 8) hx hb dX2_init_26 (by decide) ?_
  refine va_newa (atype := .int) (ty := .int) (a0 := (8, .inl (kZ 3))) hx hb (hts _ q85) rfl hK hP hD hS hA (fun _ => rfl) (by decide) (by decide) (by decide) (Nat.le_of_ble_eq_true rfl) (Nat.le_of_ble_eq_true rfl) dX2_init_28 (fun q3 cA H hK hP hD hS => ?_)
  refine W.widen (k := 3) (n := 24) (Nat.le_of_ble_eq_true rfl) (Nat.le_of_ble_eq_true rfl) ?_
  have hK : va_K D vwCl [(c_2, .int), (cA, .int)] s := hK
  have hc : cA = c_2 := RA_byte hK (a := 0) (b := 1) (by simp) rfl rfl
  subst hc
  have hK := hK.sub (tys' := [(cA, .int)]) [0] rfl
  obtain ⟨c_3, rfl⟩ : ∃ z, z = cA := ⟨_, rfl⟩
  have hK : va_K D vwCl [(c_3, .int)] s := hK
  have hP : va_P D vwCl [(h, .inr (1, [.int 0, .ref q1, .ref q2, .null, .null, .null, .null, .null, .null, .null, .null, .null, .null, .int 0])), (q1, .inl (c_3, 8, .inl (kZ 1))), (q2, .inl (c_3, 8, .inl (kZ 2))), (q3, .inl (c_3, 8, .inl (kZ 3)))] H := hP
  have hD : va_D A [(h, .inr (1, [.int 0, .ref q1, .ref q2, .null, .null, .null, .null, .null, .null, .null, .null, .null, .null, .int 0])), (q1, .inl (c_3, 8, .inl (kZ 1))), (q2, .inl (c_3, 8, .inl (kZ 2))), (q3, .inl (c_3, 8, .inl (kZ 3)))] := hD
  refine va_put (D := D) (ci := 1) (v := .ref q3) (ty := .array .int) (C := RX2) (T := TX2) (N := 14) hx hb hts in_X2 tyX2 tyX2_ok nmX2 hown hK hP hD hS 0 rfl rfl 3 (by decide) (hts _ q190) (fun _ h9 => h9) rfl (by decide +kernel) rfl rfl (Nat.le_of_ble_eq_true rfl) dX2_init_30 (fun H locs hP hD hS => ?_)
  have hP : va_P D vwCl [(h, .inr (1, [.int 0, .ref q1, .ref q2, .ref q3, .null, .null, .null, .null, .null, .null, .null, .null, .null, .int 0])), (q1, .inl (c_3, 8, .inl (kZ 1))), (q2, .inl (c_3, 8, .inl (kZ 2))), (q3, .inl (c_3, 8, .inl (kZ 3)))] H := hP
  have hD : va_D A [(h, .inr (1, [.int 0, .ref q1, .ref q2, .ref q3, .null, .null, .null, .null, .null, .null, .null, .null, .null, .int 0])), (q1, .inl (c_3, 8, .inl (kZ 1))), (q2, .inl (c_3, 8, .inl (kZ 2))), (q3, .inl (c_3, 8, .inl (kZ 3)))] := hD
  refine lv_aload_n hx hb dX2_init_33 rfl (lv_at hl 0 rfl) ?_
  refine lv_bipush (v := nI 8) hx hb dX2_init_34 (by decide) ?_
  refine va_newa (atype := .int) (ty := .int) (a0 := (8, .inl (kZ 4))) hx hb (hts _ q85) rfl hK hP hD hS hA (fun _ => rfl) (by decide) (by decide) (by decide) (Nat.le_of_ble_eq_true rfl) (Nat.le_of_ble_eq_true rfl) dX2_init_36 (fun q4 cA H hK hP hD hS => ?_)
  refine W.widen (k := 4) (n := 32) (Nat.le_of_ble_eq_true rfl) (Nat.le_of_ble_eq_true rfl) ?_
  have hK : va_K D vwCl [(c_3, .int), (cA, .int)] s := hK
  have hc : cA = c_3 := RA_byte hK (a := 0) (b := 1) (by simp) rfl rfl
  subst hc
  have hK := hK.sub (tys' := [(cA, .int)]) [0] rfl
  obtain ⟨c_4, rfl⟩ : ∃ z, z = cA := ⟨_, rfl⟩
  have hK : va_K D vwCl [(c_4, .int)] s := hK
  have hP : va_P D vwCl [(h, .inr (1, [.int 0, .ref q1, .ref q2, .ref q3, .null, .null, .null, .null, .null, .null, .null, .null, .null, .int 0])), (q1, .inl (c_4, 8, .inl (kZ 1))), (q2, .inl (c_4, 8, .inl (kZ 2))), (q3, .inl (c_4, 8, .inl (kZ 3))), (q4, .inl (c_4, 8, .inl (kZ 4)))] H := hP
  have hD : va_D A [(h, .inr (1, [.int 0, .ref q1, .ref q2, .ref q3, .null, .null, .null, .null, .null, .null, .null, .null, .null, .int 0])), (q1, .inl (c_4, 8, .inl (kZ 1))), (q2, .inl (c_4, 8, .inl (kZ 2))), (q3, .inl (c_4, 8, .inl (kZ 3))), (q4, .inl (c_4, 8, .inl (kZ 4)))] := hD
  refine va_put (D := D) (ci := 1) (v := .ref q4) (ty := .array .int) (C := RX2) (T := TX2) (N := 14) hx hb hts in_X2 tyX2 tyX2_ok nmX2 hown hK hP hD hS 0 rfl rfl 4 (by decide) (hts _ q191) (fun _ h9 => h9) rfl (by decide +kernel) rfl rfl (Nat.le_of_ble_eq_true rfl) dX2_init_38 (fun H locs hP hD hS => ?_)
  have hP : va_P D vwCl [(h, .inr (1, [.int 0, .ref q1, .ref q2, .ref q3, .ref q4, .null, .null, .null, .null, .null, .null, .null, .null, .int 0])), (q1, .inl (c_4, 8, .inl (kZ 1))), (q2, .inl (c_4, 8, .inl (kZ 2))), (q3, .inl (c_4, 8, .inl (kZ 3))), (q4, .inl (c_4, 8, .inl (kZ 4)))] H := hP
  have hD : va_D A [(h, .inr (1, [.int 0, .ref q1, .ref q2, .ref q3, .ref q4, .null, .null, .null, .null, .null, .null, .null, .null, .int 0])), (q1, .inl (c_4, 8, .inl (kZ 1))), (q2, .inl (c_4, 8, .inl (kZ 2))), (q3, .inl (c_4, 8, .inl (kZ 3))), (q4, .inl (c_4, 8, .inl (kZ 4)))] := hD
  refine lv_aload_n hx hb dX2_init_41 rfl (lv_at hl 0 rfl) ?_
  refine lv_bipush (v := nI 8) hx hb dX2_init_42 (by decide) ?_
  refine va_newa (atype := .int) (ty := .int) (a0 := (8, .inl (kZ 5))) hx hb (hts _ q85) rfl hK hP hD hS hA (fun _ => rfl) (by decide) (by decide) (by decide) (Nat.le_of_ble_eq_true rfl) (Nat.le_of_ble_eq_true rfl) dX2_init_44 (fun q5 cA H hK hP hD hS => ?_)
  refine W.widen (k := 5) (n := 40) (Nat.le_of_ble_eq_true rfl) (Nat.le_of_ble_eq_true rfl) ?_
  have hK : va_K D vwCl [(c_4, .int), (cA, .int)] s := hK
  have hc : cA = c_4 := RA_byte hK (a := 0) (b := 1) (by simp) rfl rfl
  subst hc
  have hK := hK.sub (tys' := [(cA, .int)]) [0] rfl
  obtain ⟨c_5, rfl⟩ : ∃ z, z = cA := ⟨_, rfl⟩
  have hK : va_K D vwCl [(c_5, .int)] s := hK
  have hP : va_P D vwCl [(h, .inr (1, [.int 0, .ref q1, .ref q2, .ref q3, .ref q4, .null, .null, .null, .null, .null, .null, .null, .null, .int 0])), (q1, .inl (c_5, 8, .inl (kZ 1))), (q2, .inl (c_5, 8, .inl (kZ 2))), (q3, .inl (c_5, 8, .inl (kZ 3))), (q4, .inl (c_5, 8, .inl (kZ 4))), (q5, .inl (c_5, 8, .inl (kZ 5)))] H := hP
  have hD : va_D A [(h, .inr (1, [.int 0, .ref q1, .ref q2, .ref q3, .ref q4, .null, .null, .null, .null, .null, .null, .null, .null, .int 0])), (q1, .inl (c_5, 8, .inl (kZ 1))), (q2, .inl (c_5, 8, .inl (kZ 2))), (q3, .inl (c_5, 8, .inl (kZ 3))), (q4, .inl (c_5, 8, .inl (kZ 4))), (q5, .inl (c_5, 8, .inl (kZ 5)))] := hD
  refine va_put (D := D) (ci := 1) (v := .ref q5) (ty := .array .int) (C := RX2) (T := TX2) (N := 14) hx hb hts in_X2 tyX2 tyX2_ok nmX2 hown hK hP hD hS 0 rfl rfl 5 (by decide) (hts _ q192) (fun _ h9 => h9) rfl (by decide +kernel) rfl rfl (Nat.le_of_ble_eq_true rfl) dX2_init_46 (fun H locs hP hD hS => ?_)
  have hP : va_P D vwCl [(h, .inr (1, [.int 0, .ref q1, .ref q2, .ref q3, .ref q4, .ref q5, .null, .null, .null, .null, .null, .null, .null, .int 0])), (q1, .inl (c_5, 8, .inl (kZ 1))), (q2, .inl (c_5, 8, .inl (kZ 2))), (q3, .inl (c_5, 8, .inl (kZ 3))), (q4, .inl (c_5, 8, .inl (kZ 4))), (q5, .inl (c_5, 8, .inl (kZ 5)))] H := hP
  have hD : va_D A [(h, .inr (1, [.int 0, .ref q1, .ref q2, .ref q3, .ref q4, .ref q5, .null, .null, .null, .null, .null, .null, .null, .int 0])), (q1, .inl (c_5, 8, .inl (kZ 1))), (q2, .inl (c_5, 8, .inl (kZ 2))), (q3, .inl (c_5, 8, .inl (kZ 3))), (q4, .inl (c_5, 8, .inl (kZ 4))), (q5, .inl (c_5, 8, .inl (kZ 5)))] := hD
  refine lv_aload_n hx hb dX2_init_49 rfl (lv_at hl 0 rfl) ?_
  refine lv_bipush (v := nI 8) hx hb dX2_init_50 (by decide) ?_
  refine va_newa (atype := .int) (ty := .int) (a0 := (8, .inl (kZ 6))) hx hb (hts _ q85) rfl hK hP hD hS hA (fun _ => rfl) (by decide) (by decide) (by decide) (Nat.le_of_ble_eq_true rfl) (Nat.le_of_ble_eq_true rfl) dX2_init_52 (fun q6 cA H hK hP hD hS => ?_)
  refine W.widen (k := 6) (n := 48) (Nat.le_of_ble_eq_true rfl) (Nat.le_of_ble_eq_true rfl) ?_
  have hK : va_K D vwCl [(c_5, .int), (cA, .int)] s := hK
  have hc : cA = c_5 := RA_byte hK (a := 0) (b := 1) (by simp) rfl rfl
  subst hc
  have hK := hK.sub (tys' := [(cA, .int)]) [0] rfl
  obtain ⟨c_6, rfl⟩ : ∃ z, z = cA := ⟨_, rfl⟩
  have hK : va_K D vwCl [(c_6, .int)] s := hK
  have hP : va_P D vwCl [(h, .inr (1, [.int 0, .ref q1, .ref q2, .ref q3, .ref q4, .ref q5, .null, .null, .null, .null, .null, .null, .null, .int 0])), (q1, .inl (c_6, 8, .inl (kZ 1))), (q2, .inl (c_6, 8, .inl (kZ 2))), (q3, .inl (c_6, 8, .inl (kZ 3))), (q4, .inl (c_6, 8, .inl (kZ 4))), (q5, .inl (c_6, 8, .inl (kZ 5))), (q6, .inl (c_6, 8, .inl (kZ 6)))] H := hP
  have hD : va_D A [(h, .inr (1, [.int 0, .ref q1, .ref q2, .ref q3, .ref q4, .ref q5, .null, .null, .null, .null, .null, .null, .null, .int 0])), (q1, .inl (c_6, 8, .inl (kZ 1))), (q2, .inl (c_6, 8, .inl (kZ 2))), (q3, .inl (c_6, 8, .inl (kZ 3))), (q4, .inl (c_6, 8, .inl (kZ 4))), (q5, .inl (c_6, 8, .inl (kZ 5))), (q6, .inl (c_6, 8, .inl (kZ 6)))] := hD
  refine va_put (D := D) (ci := 1) (v := .ref q6) (ty := .array .int) (C := RX2) (T := TX2) (N := 14) hx hb hts in_X2 tyX2 tyX2_ok nmX2 hown hK hP hD hS 0 rfl rfl 6 (by decide) (hts _ q193) (fun _ h9 => h9) rfl (by decide +kernel) rfl rfl (Nat.le_of_ble_eq_true rfl) dX2_init_54 (fun H locs hP hD hS => ?_)
  have hP : va_P D vwCl [(h, .inr (1, [.int 0, .ref q1, .ref q2, .ref q3, .ref q4, .ref q5, .ref q6, .null, .null, .null, .null, .null, .null, .int 0])), (q1, .inl (c_6, 8, .inl (kZ 1))), (q2, .inl (c_6, 8, .inl (kZ 2))), (q3, .inl (c_6, 8, .inl (kZ 3))), (q4, .inl (c_6, 8, .inl (kZ 4))), (q5, .inl (c_6, 8, .inl (kZ 5))), (q6, .inl (c_6, 8, .inl (kZ 6)))] H := hP
  have hD : va_D A [(h, .inr (1, [.int 0, .ref q1, .ref q2, .ref q3, .ref q4, .ref q5, .ref q6, .null, .null, .null, .null, .null, .null, .int 0])), (q1, .inl (c_6, 8, .inl (kZ 1))), (q2, .inl (c_6, 8, .inl (kZ 2))), (q3, .inl (c_6, 8, .inl (kZ 3))), (q4, .inl (c_6, 8, .inl (kZ 4))), (q5, .inl (c_6, 8, .inl (kZ 5))), (q6, .inl (c_6, 8, .inl (kZ 6)))] := hD
  refine lv_aload_n hx hb dX2_init_57 rfl (lv_at hl 0 rfl) ?_
  refine lv_bipush (v := nI 8) hx hb dX2_init_58 (by decide) ?_
  refine va_newa (atype := .int) (ty := .int) (a0 := (8, .inl (kZ 7))) hx hb (hts _ q85) rfl hK hP hD hS hA (fun _ => rfl) (by decide) (by decide) (by decide) (Nat.le_of_ble_eq_true rfl) (Nat.le_of_ble_eq_true rfl) dX2_init_60 (fun q7 cA H hK hP hD hS => ?_)
  refine W.widen (k := 7) (n := 56) (Nat.le_of_ble_eq_true rfl) (Nat.le_of_ble_eq_true rfl) ?_
  have hK : va_K D vwCl [(c_6, .int), (cA, .int)] s := hK
  have hc : cA = c_6 := RA_byte hK (a := 0) (b := 1) (by simp) rfl rfl
  subst hc
  have hK := hK.sub (tys' := [(cA, .int)]) [0] rfl
  obtain ⟨c_7, rfl⟩ : ∃ z, z = cA := ⟨_, rfl⟩
  have hK : va_K D vwCl [(c_7, .int)] s := hK
  have hP : va_P D vwCl [(h, .inr (1, [.int 0, .ref q1, .ref q2, .ref q3, .ref q4, .ref q5, .ref q6, .null, .null, .null, .null, .null, .null, .int 0])), (q1, .inl (c_7, 8, .inl (kZ 1))), (q2, .inl (c_7, 8, .inl (kZ 2))), (q3, .inl (c_7, 8, .inl (kZ 3))), (q4, .inl (c_7, 8, .inl (kZ 4))), (q5, .inl (c_7, 8, .inl (kZ 5))), (q6, .inl (c_7, 8, .inl (kZ 6))), (q7, .inl (c_7, 8, .inl (kZ 7)))] H := hP
  have hD : va_D A [(h, .inr (1, [.int 0, .ref q1, .ref q2, .ref q3, .ref q4, .ref q5, .ref q6, .null, .null, .null, .null, .null, .null, .int 0])), (q1, .inl (c_7, 8, .inl (kZ 1))), (q2, .inl (c_7, 8, .inl (kZ 2))), (q3, .inl (c_7, 8, .inl (kZ 3))), (q4, .inl (c_7, 8, .inl (kZ 4))), (q5, .inl (c_7, 8, .inl (kZ 5))), (q6, .inl (c_7, 8, .inl (kZ 6))), (q7, .inl (c_7, 8, .inl (kZ 7)))] := hD
  refine va_put (D := D) (ci := 1) (v := .ref q7) (ty := .array .int) (C := RX2) (T := TX2) (N := 14) hx hb hts in_X2 tyX2 tyX2_ok nmX2 hown hK hP hD hS 0 rfl rfl 7 (by decide) (hts _ q194) (fun _ h9 => h9) rfl (by decide +kernel) rfl rfl (Nat.le_of_ble_eq_true rfl) dX2_init_62 (fun H locs hP hD hS => ?_)
  have hP : va_P D vwCl [(h, .inr (1, [.int 0, .ref q1, .ref q2, .ref q3, .ref q4, .ref q5, .ref q6, .ref q7, .null, .null, .null, .null, .null, .int 0])), (q1, .inl (c_7, 8, .inl (kZ 1))), (q2, .inl (c_7, 8, .inl (kZ 2))), (q3, .inl (c_7, 8, .inl (kZ 3))), (q4, .inl (c_7, 8, .inl (kZ 4))), (q5, .inl (c_7, 8, .inl (kZ 5))), (q6, .inl (c_7, 8, .inl (kZ 6))), (q7, .inl (c_7, 8, .inl (kZ 7)))] H := hP
  have hD : va_D A [(h, .inr (1, [.int 0, .ref q1, .ref q2, .ref q3, .ref q4, .ref q5, .ref q6, .ref q7, .null, .null, .null, .null, .null, .int 0])), (q1, .inl (c_7, 8, .inl (kZ 1))), (q2, .inl (c_7, 8, .inl (kZ 2))), (q3, .inl (c_7, 8, .inl (kZ 3))), (q4, .inl (c_7, 8, .inl (kZ 4))), (q5, .inl (c_7, 8, .inl (kZ 5))), (q6, .inl (c_7, 8, .inl (kZ 6))), (q7, .inl (c_7, 8, .inl (kZ 7)))] := hD
  refine lv_aload_n hx hb dX2_init_65 rfl (lv_at hl 0 rfl) ?_
  refine lv_bipush (v := nI 10) hx hb dX2_init_66 (by decide) ?_
  refine va_newa (atype := .boolean) (ty := .boolean) (a0 := (10, .inl (kZ 8))) hx hb (hts _ q230) rfl hK hP hD hS hA (fun _ => rfl) (by decide) (by decide) (by decide) (Nat.le_of_ble_eq_true rfl) (Nat.le_of_ble_eq_true rfl) dX2_init_68 (fun q8 cA H hK hP hD hS => ?_)
  refine W.widen (k := 8) (n := 66) (Nat.le_of_ble_eq_true rfl) (Nat.le_of_ble_eq_true rfl) ?_
  obtain ⟨c_8, rfl⟩ : ∃ z, z = cA := ⟨_, rfl⟩
  have hK : va_K D vwCl [(c_7, .int), (c_8, .boolean)] s := hK
  have hP : va_P D vwCl [(h, .inr (1, [.int 0, .ref q1, .ref q2, .ref q3, .ref q4, .ref q5, .ref q6, .ref q7, .null, .null, .null, .null, .null, .int 0])), (q1, .inl (c_7, 8, .inl (kZ 1))), (q2, .inl (c_7, 8, .inl (kZ 2))), (q3, .inl (c_7, 8, .inl (kZ 3))), (q4, .inl (c_7, 8, .inl (kZ 4))), (q5, .inl (c_7, 8, .inl (kZ 5))), (q6, .inl (c_7, 8, .inl (kZ 6))), (q7, .inl (c_7, 8, .inl (kZ 7))), (q8, .inl (c_8, 10, .inl (kZ 8)))] H := hP
  have hD : va_D A [(h, .inr (1, [.int 0, .ref q1, .ref q2, .ref q3, .ref q4, .ref q5, .ref q6, .ref q7, .null, .null, .null, .null, .null, .int 0])), (q1, .inl (c_7, 8, .inl (kZ 1))), (q2, .inl (c_7, 8, .inl (kZ 2))), (q3, .inl (c_7, 8, .inl (kZ 3))), (q4, .inl (c_7, 8, .inl (kZ 4))), (q5, .inl (c_7, 8, .inl (kZ 5))), (q6, .inl (c_7, 8, .inl (kZ 6))), (q7, .inl (c_7, 8, .inl (kZ 7))), (q8, .inl (c_8, 10, .inl (kZ 8)))] := hD
  refine va_put (D := D) (ci := 1) (v := .ref q8) (ty := .array .boolean) (C := RX2) (T := TX2) (N := 14) hx hb hts in_X2 tyX2 tyX2_ok nmX2 hown hK hP hD hS 0 rfl rfl 8 (by decide) (hts _ q195) (fun _ h9 => h9) rfl (by decide +kernel) rfl rfl (Nat.le_of_ble_eq_true rfl) dX2_init_70 (fun H locs hP hD hS => ?_)
  have hP : va_P D vwCl [(h, .inr (1, [.int 0, .ref q1, .ref q2, .ref q3, .ref q4, .ref q5, .ref q6, .ref q7, .ref q8, .null, .null, .null, .null, .int 0])), (q1, .inl (c_7, 8, .inl (kZ 1))), (q2, .inl (c_7, 8, .inl (kZ 2))), (q3, .inl (c_7, 8, .inl (kZ 3))), (q4, .inl (c_7, 8, .inl (kZ 4))), (q5, .inl (c_7, 8, .inl (kZ 5))), (q6, .inl (c_7, 8, .inl (kZ 6))), (q7, .inl (c_7, 8, .inl (kZ 7))), (q8, .inl (c_8, 10, .inl (kZ 8)))] H := hP
  have hD : va_D A [(h, .inr (1, [.int 0, .ref q1, .ref q2, .ref q3, .ref q4, .ref q5, .ref q6, .ref q7, .ref q8, .null, .null, .null, .null, .int 0])), (q1, .inl (c_7, 8, .inl (kZ 1))), (q2, .inl (c_7, 8, .inl (kZ 2))), (q3, .inl (c_7, 8, .inl (kZ 3))), (q4, .inl (c_7, 8, .inl (kZ 4))), (q5, .inl (c_7, 8, .inl (kZ 5))), (q6, .inl (c_7, 8, .inl (kZ 6))), (q7, .inl (c_7, 8, .inl (kZ 7))), (q8, .inl (c_8, 10, .inl (kZ 8)))] := hD
  refine lv_aload_n hx hb dX2_init_73 rfl (lv_at hl 0 rfl) ?_
  refine lv_bipush (v := nI 10) hx hb dX2_init_74 (by decide) ?_
  refine va_newa (atype := .boolean) (ty := .boolean) (a0 := (10, .inl (kZ 9))) hx hb (hts _ q230) rfl hK hP hD hS hA (fun _ => rfl) (by decide) (by decide) (by decide) (Nat.le_of_ble_eq_true rfl) (Nat.le_of_ble_eq_true rfl) dX2_init_76 (fun q9 cA H hK hP hD hS => ?_)
  refine W.widen (k := 9) (n := 76) (Nat.le_of_ble_eq_true rfl) (Nat.le_of_ble_eq_true rfl) ?_
  have hK : va_K D vwCl [(c_7, .int), (c_8, .boolean), (cA, .boolean)] s := hK
  have hc : cA = c_8 := RA_byte hK (a := 1) (b := 2) (by simp) rfl rfl
  subst hc
  have hK := hK.sub (tys' := [(c_7, .int), (cA, .boolean)]) [0, 1] rfl
  obtain ⟨c_9, rfl⟩ : ∃ z, z = cA := ⟨_, rfl⟩
  have hK : va_K D vwCl [(c_7, .int), (c_9, .boolean)] s := hK
  have hP : va_P D vwCl [(h, .inr (1, [.int 0, .ref q1, .ref q2, .ref q3, .ref q4, .ref q5, .ref q6, .ref q7, .ref q8, .null, .null, .null, .null, .int 0])), (q1, .inl (c_7, 8, .inl (kZ 1))), (q2, .inl (c_7, 8, .inl (kZ 2))), (q3, .inl (c_7, 8, .inl (kZ 3))), (q4, .inl (c_7, 8, .inl (kZ 4))), (q5, .inl (c_7, 8, .inl (kZ 5))), (q6, .inl (c_7, 8, .inl (kZ 6))), (q7, .inl (c_7, 8, .inl (kZ 7))), (q8, .inl (c_9, 10, .inl (kZ 8))), (q9, .inl (c_9, 10, .inl (kZ 9)))] H := hP
  have hD : va_D A [(h, .inr (1, [.int 0, .ref q1, .ref q2, .ref q3, .ref q4, .ref q5, .ref q6, .ref q7, .ref q8, .null, .null, .null, .null, .int 0])), (q1, .inl (c_7, 8, .inl (kZ 1))), (q2, .inl (c_7, 8, .inl (kZ 2))), (q3, .inl (c_7, 8, .inl (kZ 3))), (q4, .inl (c_7, 8, .inl (kZ 4))), (q5, .inl (c_7, 8, .inl (kZ 5))), (q6, .inl (c_7, 8, .inl (kZ 6))), (q7, .inl (c_7, 8, .inl (kZ 7))), (q8, .inl (c_9, 10, .inl (kZ 8))), (q9, .inl (c_9, 10, .inl (kZ 9)))] := hD
  refine va_put (D := D) (ci := 1) (v := .ref q9) (ty := .array .boolean) (C := RX2) (T := TX2) (N := 14) hx hb hts in_X2 tyX2 tyX2_ok nmX2 hown hK hP hD hS 0 rfl rfl 9 (by decide) (hts _ q196) (fun _ h9 => h9) rfl (by decide +kernel) rfl rfl (Nat.le_of_ble_eq_true rfl) dX2_init_78 (fun H locs hP hD hS => ?_)
  have hP : va_P D vwCl [(h, .inr (1, [.int 0, .ref q1, .ref q2, .ref q3, .ref q4, .ref q5, .ref q6, .ref q7, .ref q8, .ref q9, .null, .null, .null, .int 0])), (q1, .inl (c_7, 8, .inl (kZ 1))), (q2, .inl (c_7, 8, .inl (kZ 2))), (q3, .inl (c_7, 8, .inl (kZ 3))), (q4, .inl (c_7, 8, .inl (kZ 4))), (q5, .inl (c_7, 8, .inl (kZ 5))), (q6, .inl (c_7, 8, .inl (kZ 6))), (q7, .inl (c_7, 8, .inl (kZ 7))), (q8, .inl (c_9, 10, .inl (kZ 8))), (q9, .inl (c_9, 10, .inl (kZ 9)))] H := hP
  have hD : va_D A [(h, .inr (1, [.int 0, .ref q1, .ref q2, .ref q3, .ref q4, .ref q5, .ref q6, .ref q7, .ref q8, .ref q9, .null, .null, .null, .int 0])), (q1, .inl (c_7, 8, .inl (kZ 1))), (q2, .inl (c_7, 8, .inl (kZ 2))), (q3, .inl (c_7, 8, .inl (kZ 3))), (q4, .inl (c_7, 8, .inl (kZ 4))), (q5, .inl (c_7, 8, .inl (kZ 5))), (q6, .inl (c_7, 8, .inl (kZ 6))), (q7, .inl (c_7, 8, .inl (kZ 7))), (q8, .inl (c_9, 10, .inl (kZ 8))), (q9, .inl (c_9, 10, .inl (kZ 9)))] := hD
  refine lv_aload_n hx hb dX2_init_81 rfl (lv_at hl 0 rfl) ?_
  refine lv_bipush (v := nI 10) hx hb dX2_init_82 (by decide) ?_
  refine va_newa (atype := .int) (ty := .int) (a0 := (10, .inl (kZ 10))) hx hb (hts _ q85) rfl hK hP hD hS hA (fun _ => rfl) (by decide) (by decide) (by decide) (Nat.le_of_ble_eq_true rfl) (Nat.le_of_ble_eq_true rfl) dX2_init_84 (fun q10 cA H hK hP hD hS => ?_)
  refine W.widen (k := 10) (n := 86) (Nat.le_of_ble_eq_true rfl) (Nat.le_of_ble_eq_true rfl) ?_
  have hK : va_K D vwCl [(c_7, .int), (c_9, .boolean), (cA, .int)] s := hK
  have hc : cA = c_7 := RA_byte hK (a := 0) (b := 2) (by simp) rfl rfl
  subst hc
  have hK := hK.sub (tys' := [(cA, .int), (c_9, .boolean)]) [0, 1] rfl
  obtain ⟨c_10, rfl⟩ : ∃ z, z = cA := ⟨_, rfl⟩
  have hK : va_K D vwCl [(c_10, .int), (c_9, .boolean)] s := hK
  have hP : va_P D vwCl [(h, .inr (1, [.int 0, .ref q1, .ref q2, .ref q3, .ref q4, .ref q5, .ref q6, .ref q7, .ref q8, .ref q9, .null, .null, .null, .int 0])), (q1, .inl (c_10, 8, .inl (kZ 1))), (q2, .inl (c_10, 8, .inl (kZ 2))), (q3, .inl (c_10, 8, .inl (kZ 3))), (q4, .inl (c_10, 8, .inl (kZ 4))), (q5, .inl (c_10, 8, .inl (kZ 5))), (q6, .inl (c_10, 8, .inl (kZ 6))), (q7, .inl (c_10, 8, .inl (kZ 7))), (q8, .inl (c_9, 10, .inl (kZ 8))), (q9, .inl (c_9, 10, .inl (kZ 9))), (q10, .inl (c_10, 10, .inl (kZ 10)))] H := hP
  have hD : va_D A [(h, .inr (1, [.int 0, .ref q1, .ref q2, .ref q3, .ref q4, .ref q5, .ref q6, .ref q7, .ref q8, .ref q9, .null, .null, .null, .int 0])), (q1, .inl (c_10, 8, .inl (kZ 1))), (q2, .inl (c_10, 8, .inl (kZ 2))), (q3, .inl (c_10, 8, .inl (kZ 3))), (q4, .inl (c_10, 8, .inl (kZ 4))), (q5, .inl (c_10, 8, .inl (kZ 5))), (q6, .inl (c_10, 8, .inl (kZ 6))), (q7, .inl (c_10, 8, .inl (kZ 7))), (q8, .inl (c_9, 10, .inl (kZ 8))), (q9, .inl (c_9, 10, .inl (kZ 9))), (q10, .inl (c_10, 10, .inl (kZ 10)))] := hD
  refine va_put (D := D) (ci := 1) (v := .ref q10) (ty := .array .int) (C := RX2) (T := TX2) (N := 14) hx hb hts in_X2 tyX2 tyX2_ok nmX2 hown hK hP hD hS 0 rfl rfl 10 (by decide) (hts _ q197) (fun _ h9 => h9) rfl (by decide +kernel) rfl rfl (Nat.le_of_ble_eq_true rfl) dX2_init_86 (fun H locs hP hD hS => ?_)
  have hP : va_P D vwCl [(h, .inr (1, [.int 0, .ref q1, .ref q2, .ref q3, .ref q4, .ref q5, .ref q6, .ref q7, .ref q8, .ref q9, .ref q10, .null, .null, .int 0])), (q1, .inl (c_10, 8, .inl (kZ 1))), (q2, .inl (c_10, 8, .inl (kZ 2))), (q3, .inl (c_10, 8, .inl (kZ 3))), (q4, .inl (c_10, 8, .inl (kZ 4))), (q5, .inl (c_10, 8, .inl (kZ 5))), (q6, .inl (c_10, 8, .inl (kZ 6))), (q7, .inl (c_10, 8, .inl (kZ 7))), (q8, .inl (c_9, 10, .inl (kZ 8))), (q9, .inl (c_9, 10, .inl (kZ 9))), (q10, .inl (c_10, 10, .inl (kZ 10)))] H := hP
  have hD : va_D A [(h, .inr (1, [.int 0, .ref q1, .ref q2, .ref q3, .ref q4, .ref q5, .ref q6, .ref q7, .ref q8, .ref q9, .ref q10, .null, .null, .int 0])), (q1, .inl (c_10, 8, .inl (kZ 1))), (q2, .inl (c_10, 8, .inl (kZ 2))), (q3, .inl (c_10, 8, .inl (kZ 3))), (q4, .inl (c_10, 8, .inl (kZ 4))), (q5, .inl (c_10, 8, .inl (kZ 5))), (q6, .inl (c_10, 8, .inl (kZ 6))), (q7, .inl (c_10, 8, .inl (kZ 7))), (q8, .inl (c_9, 10, .inl (kZ 8))), (q9, .inl (c_9, 10, .inl (kZ 9))), (q10, .inl (c_10, 10, .inl (kZ 10)))] := hD
  refine lv_aload_n hx hb dX2_init_89 rfl (lv_at hl 0 rfl) ?_
  refine lv_sipush (v := nI 200) hx hb dX2_init_90 (by decide) ?_
  refine va_newa (atype := .int) (ty := .int) (a0 := (200, .inl (kZ 11))) hx hb (hts _ q85) rfl hK hP hD hS hA (fun _ => rfl) (by decide) (by decide) (by decide) (Nat.le_of_ble_eq_true rfl) (Nat.le_of_ble_eq_true rfl) dX2_init_93 (fun q11 cA H hK hP hD hS => ?_)
  refine W.widen (k := 11) (n := 286) (Nat.le_of_ble_eq_true rfl) (Nat.le_of_ble_eq_true rfl) ?_
  have hK : va_K D vwCl [(c_10, .int), (c_9, .boolean), (cA, .int)] s := hK
  have hc : cA = c_10 := RA_byte hK (a := 0) (b := 2) (by simp) rfl rfl
  subst hc
  have hK := hK.sub (tys' := [(cA, .int), (c_9, .boolean)]) [0, 1] rfl
  obtain ⟨c_11, rfl⟩ : ∃ z, z = cA := ⟨_, rfl⟩
  have hK : va_K D vwCl [(c_11, .int), (c_9, .boolean)] s := hK
  have hP : va_P D vwCl [(h, .inr (1, [.int 0, .ref q1, .ref q2, .ref q3, .ref q4, .ref q5, .ref q6, .ref q7, .ref q8, .ref q9, .ref q10, .null, .null, .int 0])), (q1, .inl (c_11, 8, .inl (kZ 1))), (q2, .inl (c_11, 8, .inl (kZ 2))), (q3, .inl (c_11, 8, .inl (kZ 3))), (q4, .inl (c_11, 8, .inl (kZ 4))), (q5, .inl (c_11, 8, .inl (kZ 5))), (q6, .inl (c_11, 8, .inl (kZ 6))), (q7, .inl (c_11, 8, .inl (kZ 7))), (q8, .inl (c_9, 10, .inl (kZ 8))), (q9, .inl (c_9, 10, .inl (kZ 9))), (q10, .inl (c_11, 10, .inl (kZ 10))), (q11, .inl (c_11, 200, .inl (kZ 11)))] H := hP
  have hD : va_D A [(h, .inr (1, [.int 0, .ref q1, .ref q2, .ref q3, .ref q4, .ref q5, .ref q6, .ref q7, .ref q8, .ref q9, .ref q10, .null, .null, .int 0])), (q1, .inl (c_11, 8, .inl (kZ 1))), (q2, .inl (c_11, 8, .inl (kZ 2))), (q3, .inl (c_11, 8, .inl (kZ 3))), (q4, .inl (c_11, 8, .inl (kZ 4))), (q5, .inl (c_11, 8, .inl (kZ 5))), (q6, .inl (c_11, 8, .inl (kZ 6))), (q7, .inl (c_11, 8, .inl (kZ 7))), (q8, .inl (c_9, 10, .inl (kZ 8))), (q9, .inl (c_9, 10, .inl (kZ 9))), (q10, .inl (c_11, 10, .inl (kZ 10))), (q11, .inl (c_11, 200, .inl (kZ 11)))] := hD
  refine va_put (D := D) (ci := 1) (v := .ref q11) (ty := .array .int) (C := RX2) (T := TX2) (N := 14) hx hb hts in_X2 tyX2 tyX2_ok nmX2 hown hK hP hD hS 0 rfl rfl 11 (by decide) (hts _ q198) (fun _ h9 => h9) rfl (by decide +kernel) rfl rfl (Nat.le_of_ble_eq_true rfl) dX2_init_95 (fun H locs hP hD hS => ?_)
  have hP : va_P D vwCl [(h, .inr (1, [.int 0, .ref q1, .ref q2, .ref q3, .ref q4, .ref q5, .ref q6, .ref q7, .ref q8, .ref q9, .ref q10, .ref q11, .null, .int 0])), (q1, .inl (c_11, 8, .inl (kZ 1))), (q2, .inl (c_11, 8, .inl (kZ 2))), (q3, .inl (c_11, 8, .inl (kZ 3))), (q4, .inl (c_11, 8, .inl (kZ 4))), (q5, .inl (c_11, 8, .inl (kZ 5))), (q6, .inl (c_11, 8, .inl (kZ 6))), (q7, .inl (c_11, 8, .inl (kZ 7))), (q8, .inl (c_9, 10, .inl (kZ 8))), (q9, .inl (c_9, 10, .inl (kZ 9))), (q10, .inl (c_11, 10, .inl (kZ 10))), (q11, .inl (c_11, 200, .inl (kZ 11)))] H := hP
  have hD : va_D A [(h, .inr (1, [.int 0, .ref q1, .ref q2, .ref q3, .ref q4, .ref q5, .ref q6, .ref q7, .ref q8, .ref q9, .ref q10, .ref q11, .null, .int 0])), (q1, .inl (c_11, 8, .inl (kZ 1))), (q2, .inl (c_11, 8, .inl (kZ 2))), (q3, .inl (c_11, 8, .inl (kZ 3))), (q4, .inl (c_11, 8, .inl (kZ 4))), (q5, .inl (c_11, 8, .inl (kZ 5))), (q6, .inl (c_11, 8, .inl (kZ 6))), (q7, .inl (c_11, 8, .inl (kZ 7))), (q8, .inl (c_9, 10, .inl (kZ 8))), (q9, .inl (c_9, 10, .inl (kZ 9))), (q10, .inl (c_11, 10, .inl (kZ 10))), (q11, .inl (c_11, 200, .inl (kZ 11)))] := hD
  refine lv_aload_n hx hb dX2_init_98 rfl (lv_at hl 0 rfl) ?_
  refine lv_bipush (v := nI 20) hx hb dX2_init_99 (by decide) ?_
  refine va_newa (atype := .int) (ty := .int) (a0 := (20, .inl (kZ 12))) hx hb (hts _ q85) rfl hK hP hD hS hA (fun _ => rfl) (by decide) (by decide) (by decide) (Nat.le_of_ble_eq_true rfl) (Nat.le_of_ble_eq_true rfl) dX2_init_101 (fun q12 cA H hK hP hD hS => ?_)
  refine W.widen (k := 12) (n := 306) (Nat.le_of_ble_eq_true rfl) (Nat.le_of_ble_eq_true rfl) ?_
  have hK : va_K D vwCl [(c_11, .int), (c_9, .boolean), (cA, .int)] s := hK
  have hc : cA = c_11 := RA_byte hK (a := 0) (b := 2) (by simp) rfl rfl
  subst hc
  have hK := hK.sub (tys' := [(cA, .int), (c_9, .boolean)]) [0, 1] rfl
  obtain ⟨c_12, rfl⟩ : ∃ z, z = cA := ⟨_, rfl⟩
  have hK : va_K D vwCl [(c_12, .int), (c_9, .boolean)] s := hK
  have hP : va_P D vwCl [(h, .inr (1, [.int 0, .ref q1, .ref q2, .ref q3, .ref q4, .ref q5, .ref q6, .ref q7, .ref q8, .ref q9, .ref q10, .ref q11, .null, .int 0])), (q1, .inl (c_12, 8, .inl (kZ 1))), (q2, .inl (c_12, 8, .inl (kZ 2))), (q3, .inl (c_12, 8, .inl (kZ 3))), (q4, .inl (c_12, 8, .inl (kZ 4))), (q5, .inl (c_12, 8, .inl (kZ 5))), (q6, .inl (c_12, 8, .inl (kZ 6))), (q7, .inl (c_12, 8, .inl (kZ 7))), (q8, .inl (c_9, 10, .inl (kZ 8))), (q9, .inl (c_9, 10, .inl (kZ 9))), (q10, .inl (c_12, 10, .inl (kZ 10))), (q11, .inl (c_12, 200, .inl (kZ 11))), (q12, .inl (c_12, 20, .inl (kZ 12)))] H := hP
  have hD : va_D A [(h, .inr (1, [.int 0, .ref q1, .ref q2, .ref q3, .ref q4, .ref q5, .ref q6, .ref q7, .ref q8, .ref q9, .ref q10, .ref q11, .null, .int 0])), (q1, .inl (c_12, 8, .inl (kZ 1))), (q2, .inl (c_12, 8, .inl (kZ 2))), (q3, .inl (c_12, 8, .inl (kZ 3))), (q4, .inl (c_12, 8, .inl (kZ 4))), (q5, .inl (c_12, 8, .inl (kZ 5))), (q6, .inl (c_12, 8, .inl (kZ 6))), (q7, .inl (c_12, 8, .inl (kZ 7))), (q8, .inl (c_9, 10, .inl (kZ 8))), (q9, .inl (c_9, 10, .inl (kZ 9))), (q10, .inl (c_12, 10, .inl (kZ 10))), (q11, .inl (c_12, 200, .inl (kZ 11))), (q12, .inl (c_12, 20, .inl (kZ 12)))] := hD
  refine va_put (D := D) (ci := 1) (v := .ref q12) (ty := .array .int) (C := RX2) (T := TX2) (N := 14) hx hb hts in_X2 tyX2 tyX2_ok nmX2 hown hK hP hD hS 0 rfl rfl 12 (by decide) (hts _ q199) (fun _ h9 => h9) rfl (by decide +kernel) rfl rfl (Nat.le_of_ble_eq_true rfl) dX2_init_103 (fun H locs hP hD hS => ?_)
  have hP : va_P D vwCl [(h, .inr (1, [.int 0, .ref q1, .ref q2, .ref q3, .ref q4, .ref q5, .ref q6, .ref q7, .ref q8, .ref q9, .ref q10, .ref q11, .ref q12, .int 0])), (q1, .inl (c_12, 8, .inl (kZ 1))), (q2, .inl (c_12, 8, .inl (kZ 2))), (q3, .inl (c_12, 8, .inl (kZ 3))), (q4, .inl (c_12, 8, .inl (kZ 4))), (q5, .inl (c_12, 8, .inl (kZ 5))), (q6, .inl (c_12, 8, .inl (kZ 6))), (q7, .inl (c_12, 8, .inl (kZ 7))), (q8, .inl (c_9, 10, .inl (kZ 8))), (q9, .inl (c_9, 10, .inl (kZ 9))), (q10, .inl (c_12, 10, .inl (kZ 10))), (q11, .inl (c_12, 200, .inl (kZ 11))), (q12, .inl (c_12, 20, .inl (kZ 12)))] H := hP
  have hD : va_D A [(h, .inr (1, [.int 0, .ref q1, .ref q2, .ref q3, .ref q4, .ref q5, .ref q6, .ref q7, .ref q8, .ref q9, .ref q10, .ref q11, .ref q12, .int 0])), (q1, .inl (c_12, 8, .inl (kZ 1))), (q2, .inl (c_12, 8, .inl (kZ 2))), (q3, .inl (c_12, 8, .inl (kZ 3))), (q4, .inl (c_12, 8, .inl (kZ 4))), (q5, .inl (c_12, 8, .inl (kZ 5))), (q6, .inl (c_12, 8, .inl (kZ 6))), (q7, .inl (c_12, 8, .inl (kZ 7))), (q8, .inl (c_9, 10, .inl (kZ 8))), (q9, .inl (c_9, 10, .inl (kZ 9))), (q10, .inl (c_12, 10, .inl (kZ 10))), (q11, .inl (c_12, 200, .inl (kZ 11))), (q12, .inl (c_12, 20, .inl (kZ 12)))] := hD
  obtain ⟨ad, had⟩ : ∃ ad : Nat → Nat, ad = (fun f => match f with | 1 => q1 | 2 => q2 | 3 => q3 | 4 => q4 | 5 => q5 | 6 => q6 | 7 => q7 | 8 => q8 | 9 => q9 | 10 => q10 | 11 => q11 | 12 => q12 | _ => 0) := ⟨_, rfl⟩
  have X : mX p s m ([.ref h, .int x0] : List Value).toArray c cX2_init 2 D c_9 c_12 := ⟨hx, hb, hml, hown, hts, hK.sub [1, 0] rfl⟩
  have I : mI D c_9 c_12 h ad A s.heap kZ H locs := by
    rw [had]
    exact ⟨hP, hD, hS⟩
  exact W.vret hx hb hr (fun t ht hW => ⟨⟨kZ, rfl, ⟨nOk_zero nN0, rfl, fun i hi => absurd hi (Nat.not_lt_zero i), fun x _ => ⟨vB_f (sRd_zero nN0 x), vB_f (sWr_zero nN0 x)⟩⟩, _, _, ad, by rw [ht]; exact I.1, va_K.moved hW.alike X.2.2.2.2.2, I.2.1⟩, I.2.2.F ht⟩) I.2.2.2.2 dX2_init_106

set_option maxHeartbeats 4000000 in
set_option maxRecDepth 100000 in
theorem metX0_cell (l : Launch) (b L : Nat) (xs : Nat → Int32) (hL : L ≤ 257) : Met l yX0_cell (ws_ yX0_cell cX0_cell 2 (some .int)) ({ frames := 0, cells := 0, slots := 0, locals := 0 } : Room) (va_Pc [.ref b, .int (nI 0)] (fun U => va_X b L xs U U.heap)) (va_Qi (fun (_ : Int32) (_ : Unit) => True) (fun _ _ => True) (fun _ => False)) 0 0 (fun _ => False) := by
  refine Met.ofW (cc := cX0_cell) (maxL := 2) (ret := (some .int)) (by decide) rfl ?_
  intro p e s m args below meth c s₁ B hml hv
  obtain ⟨rfl, hX⟩ := hv
  have hx := B.exec
  have hb := B.bytes
  have hr := B.returns
  have hlocks := B.notSynchronized
  have hbl : b < s.heap.size := by
    obtain ⟨scr, h1, -⟩ := hX
    exact (Array.getElem?_eq_some_iff.mp h1).1
  have hS : va_S (fun _ => False) s.heap s.heap [] := va_S.rf
  have hl := lv_entry ([.ref b, .int (nI 0)]) (n := 2) (Nat.le_of_ble_eq_true rfl)
  rw [lg_entry_eq]
  generalize (lg_sl ([.ref b, .int (nI 0)]) ++ List.replicate (2 - (lg_sl ([.ref b, .int (nI 0)])).length) Slot.unset).toArray = ls at hl ⊢
  have hl : lv_has ls 2 [(0, .ref b), (1, .int (nI 0))] := hl
  refine lv_iload_n hx hb dX0_cell_0 rfl (lv_at hl 1 rfl) ?_
  refine lv_aload_n hx hb dX0_cell_1 rfl (lv_at hl 0 rfl) ?_
  refine va_slen hx hb hX hbl id hS dX0_cell_2 ?_
  refine lv_icmp_ge (tgt := 12) hx hb dX0_cell_3 (by decide) (fun b1 => ?_) (fun b1 => ?_)
  · refine lv_iconst (v := nI 0) hx hb dX0_cell_12 (by decide) ?_
    exact W.iret hx hb hr (fun t ht hW => ⟨⟨_, (), rfl, trivial, trivial⟩, hS.F ht⟩) hS.2.2 dX0_cell_13
  · have h0 : 0 < L := by
      rcases Nat.eq_zero_or_pos L with q | q
      · rw [q] at b1
        exact absurd (by decide) b1
      · exact q
    refine lv_aload_n hx hb dX0_cell_6 rfl (lv_at hl 0 rfl) ?_
    refine lv_iload_n hx hb dX0_cell_7 rfl (lv_at hl 1 rfl) ?_
    refine va_sld hx hb hX hbl id hS (vp_in_nI h0 (by omega)) dX0_cell_8 ?_
    refine lv_goto (tgt := 13) hx hb dX0_cell_9 (by decide) ?_
    exact W.iret hx hb hr (fun t ht hW => ⟨⟨_, (), rfl, trivial, trivial⟩, hS.F ht⟩) hS.2.2 dX0_cell_13
end
section
/-! THE CLAIM OUT OF ONE WALK OF THE LAW'S BODY. Your part is whole_start (and what it stands on); all else here is the same for every law, but numbers. -/
def R_law : String := "KahnNetLaw"
def lw_P (b : Addr) (xs : List Int32) (args : Array Value) (s : State) : Prop := args = #[.ref b] ∧ s.IntsAt b xs ∧ xs.length ≤ 257 ∧ (Jvm.Cond.and given_1 narrow_1).before args s = true
def lw_Q (_ : Array Value) (s : State) (o : Outcome) (t : State) : Prop := o = .returned (some (.int 1)) ∧ Framed s o t [] 600000 7290000
def lw_Z (below : List Frame) (a : Array Value) (s : State) : State → Prop := fun t => ∃ o, t.status = .running ∧ Ended t below o ∧ lw_Q a s o t
/-- the law's own end, with 1 on the stack, nothing written that was there before, its room as the claim has it -/
theorem lw_ret {p : Program} {l : Launch} {e : Env} {s : State} {m : MethodId} {below : List Frame} {meth : Method} {c : Code} {b : Nat} (hx : p.tables.exec = Jvm.exec) (hb : c.code = code) (hr : meth.sig.returnType = ret) (hlocks : meth.locks = false) {pc : Nat} {H : Heap} {ls : Array Slot} (hdg : decode code pc = .ok (.ireturn, 1)) : W p l e room_1 s m #[Value.ref b] below meth c H [] 600000 7290000 (lw_Z below #[Value.ref b] s) (F0 m pc ls [.int 1]) := by
  intro T hT X
  obtain ⟨fs, hret, hrun, hended, hW, hframe⟩ := X.leave (v := some (.int 1)) (hlocks := hlocks) (fun h => by rw [hr] at h; cases h)
  have hmeth' : T.vm.method? m = some meth := X.method'
  refine ⟨T.setFrames fs, ?_, .returned (some (.int 1)), hrun, hended, rfl, ⟨_, rfl⟩, hW, hframe⟩
  jvm_step X.here [X.here.top, hx, hb, hdg, hmeth', hr, ret, narrow_b1]
  (try refine ⟨rfl, ?_⟩); (try refine ⟨rfl, ?_⟩)
  first | (intro acts; rw [hret _ acts rfl rfl rfl]) | rw [hret _ _ rfl rfl rfl]
  exact Steps.refl _
/-- what holds at the law's entry: the machine, the code, the tables' words (any of lw_tbl by 'hts w (by decide +kernel)'), the script of L ints xs at the cell b, what the Statement gives of the start (any of its parts by flat_of_before) -/
def lw_At (p : Program) (s : State) (m : MethodId) (meth : Method) (c : Code) (b L : Nat) (xs : Nat → Int32) : Prop :=
  p.tables.exec = Jvm.exec ∧ c.code = code ∧ meth.sig.returnType = ret ∧ c.maxLocals = 4 ∧ s.vm.findClass R_law = some m.cls ∧ (∀ w ∈ lw_tbl, w.before #[Value.ref b] s = true) ∧ va_X b L xs s s.heap ∧ b < s.heap.size ∧ meth.locks = false ∧ (Jvm.Cond.and given_1 narrow_1).before #[Value.ref b] s = true

/-- both objects' cells -/
def lI (D : va_G) (c1 c2 c3 c4 : ClassId) (h : Nat) (ad : Nat → Nat) (h' : Nat) (ad' : Nat → Nat) (A : Nat → Prop) (H0 : Heap) (σ τ : KS) (H : Heap) (locs : List Loc) : Prop := va_P D vwCl (kW c1 c2 h ad σ ++ mW c3 c4 h' ad' τ) H ∧ va_D A (kW c1 c2 h ad σ ++ mW c3 c4 h' ad' τ) ∧ va_S A H0 H locs
section LC
variable {p : Program} {l : Launch} {e : Env} {R : Room} {s : State} {m : MethodId} {args : Array Value} {below : List Frame} {meth : Method} {c : Code} {H : Heap} {locs : List Loc} {cells slots : Nat} {Q : State → Prop}
variable {cc : ByteArray} {nL pc : Nat} {ls : Array Slot} {rest : List Value} {D : va_G} {c1 c2 c3 c4 : ClassId} {A : Nat → Prop} {h h' : Nat} {ad ad' : Nat → Nat} {σ τ : KS}
variable {y : MethodName} {cc' : ByteArray} {mL idx n : Nat} {ret : Option FieldType} {rm : Room} {As st0 : List Value} {post : Int32 → KS → Prop}
set_option maxRecDepth 100000 in
theorem law_ck (S : CallFix p m c cc nL s args lw_all R_law) (hK : va_K D vwCl [(c1, .byte), (c2, .int), (c3, .boolean), (c4, .int)] s) (I : lI D c1 c2 c3 c4 h ad h' ad' A s.heap σ τ H locs) (hA : ∀ q, s.heap.size ≤ q → A q)
    (hM : ∀ A' : Nat → Prop, Met l y (ws_ y cc' mL ret) rm (kP D c1 c2 h ad A' σ As) (va_Qi post (kB D c1 c2 h ad A') A') 0 0 A') (cw : CallW R s args R_law RX1 idx y cc' mL ret (ws_ y cc' mL ret) rm 0 0 n) (hn : As.length = n) (hsz : ls.size = nL) (hst : st0 = As.reverse ++ .ref h :: rest) (hrm : (rest.map fun v => v.category).sum ≤ 8) (hf : cells ≤ R.cells ∧ slots ≤ R.slots) (d : decode cc pc = .ok (.invokevirtual idx, 3))
    (kk : ∀ (r : Int32) (σ' : KS) (H1 : Heap) (locs1 : List Loc), post r σ' → lI D c1 c2 c3 c4 h ad h' ad' A s.heap σ' τ H1 locs1 → W p l e R s m args below meth c H1 locs1 cells slots Q (F0 m (pc + 3) ls (.int r :: rest))) : W p l e R s m args below meth c H locs cells slots Q (F0 m pc ls st0) := by
  obtain ⟨hP, hD, hS⟩ := I
  have hKc : va_K D vwCl [(c1, .byte), (c2, .int)] s := hK.sub [0, 1] rfl
  have hPc : va_P D vwCl (kW c1 c2 h ad σ) H := hP.sub [0, 1, 2, 3, 4, 5, 6, 7, 8, 9, 10, 11, 12, 13] rfl
  have hDc : va_D A (kW c1 c2 h ad σ) := hD.sub [0, 1, 2, 3, 4, 5, 6, 7, 8, 9, 10, 11, 12, 13] (by decide) rfl
  have hFc := va_free (wc := kW c1 c2 h ad σ) hD hS hA [0, 1, 2, 3, 4, 5, 6, 7, 8, 9, 10, 11, 12, 13] rfl
  refine va_calli (va_runV (As := As) (rest := rest) S (hM (va_A (kW c1 c2 h ad σ) H.size)) cw ⟨k_blind, va_recv hKc hPc (ci := 0) (q0 := 0) rfl rfl, fun U hU hW => ⟨rfl, by rw [hU]; exact hPc, va_K.moved hW.alike hKc, hDc.self⟩⟩ rfl hn hsz hst (lv_room hrm) d ⟨hf.1, hf.2⟩) hS (fun q _ h => hFc q h) hFc (fun r u t H1 locs1 ht hvm hw hB hz1 hk1 hS1 => ?_)
  obtain ⟨hP1, hK1, hD1⟩ := hB
  rw [ht] at hP1
  obtain ⟨hP2, hD2⟩ := va_join (wr := mW c3 c4 h' ad' τ) (w1 := kW c1 c2 h ad u) hP hD [0, 1, 2, 3, 4, 5, 6, 7, 8, 9, 10, 11, 12, 13] [14, 15, 16, 17, 18, 19, 20, 21, 22, 23, 24, 25, 26] rfl rfl (by decide) (by decide) hk1 hFc hP1 hD1
  exact kk r u H1 locs1 hw ⟨hP2.sub [13, 14, 15, 16, 17, 18, 19, 20, 21, 22, 23, 24, 25, 26, 0, 1, 2, 3, 4, 5, 6, 7, 8, 9, 10, 11, 12] rfl, hD2.sub [13, 14, 15, 16, 17, 18, 19, 20, 21, 22, 23, 24, 25, 26, 0, 1, 2, 3, 4, 5, 6, 7, 8, 9, 10, 11, 12] (by decide) rfl, hS1⟩
set_option maxRecDepth 100000 in
theorem law_cm (S : CallFix p m c cc nL s args lw_all R_law) (hK : va_K D vwCl [(c1, .byte), (c2, .int), (c3, .boolean), (c4, .int)] s) (I : lI D c1 c2 c3 c4 h ad h' ad' A s.heap σ τ H locs) (hA : ∀ q, s.heap.size ≤ q → A q)
    (hM : ∀ A' : Nat → Prop, Met l y (ws_ y cc' mL ret) rm (mP D c3 c4 h' ad' A' τ As) (va_Qi post (mB D c3 c4 h' ad' A') A') 0 0 A') (cw : CallW R s args R_law RX2 idx y cc' mL ret (ws_ y cc' mL ret) rm 0 0 n) (hn : As.length = n) (hsz : ls.size = nL) (hst : st0 = As.reverse ++ .ref h' :: rest) (hrm : (rest.map fun v => v.category).sum ≤ 8) (hf : cells ≤ R.cells ∧ slots ≤ R.slots) (d : decode cc pc = .ok (.invokevirtual idx, 3))
    (kk : ∀ (r : Int32) (τ' : KS) (H1 : Heap) (locs1 : List Loc), post r τ' → lI D c1 c2 c3 c4 h ad h' ad' A s.heap σ τ' H1 locs1 → W p l e R s m args below meth c H1 locs1 cells slots Q (F0 m (pc + 3) ls (.int r :: rest))) : W p l e R s m args below meth c H locs cells slots Q (F0 m pc ls st0) := by
  obtain ⟨hP, hD, hS⟩ := I
  have hKc : va_K D vwCl [(c3, .boolean), (c4, .int)] s := hK.sub [2, 3] rfl
  have hPc : va_P D vwCl (mW c3 c4 h' ad' τ) H := hP.sub [14, 15, 16, 17, 18, 19, 20, 21, 22, 23, 24, 25, 26] rfl
  have hDc : va_D A (mW c3 c4 h' ad' τ) := hD.sub [14, 15, 16, 17, 18, 19, 20, 21, 22, 23, 24, 25, 26] (by decide) rfl
  have hFc := va_free (wc := mW c3 c4 h' ad' τ) hD hS hA [14, 15, 16, 17, 18, 19, 20, 21, 22, 23, 24, 25, 26] rfl
  refine va_calli (va_runV (As := As) (rest := rest) S (hM (va_A (mW c3 c4 h' ad' τ) H.size)) cw ⟨m_blind, va_recv hKc hPc (ci := 1) (q0 := 0) rfl rfl, fun U hU hW => ⟨rfl, by rw [hU]; exact hPc, va_K.moved hW.alike hKc, hDc.self⟩⟩ rfl hn hsz hst (lv_room hrm) d ⟨hf.1, hf.2⟩) hS (fun q _ h => hFc q h) hFc (fun r u t H1 locs1 ht hvm hw hB hz1 hk1 hS1 => ?_)
  obtain ⟨hP1, hK1, hD1⟩ := hB
  rw [ht] at hP1
  obtain ⟨hP2, hD2⟩ := va_join (wr := kW c1 c2 h ad σ) (w1 := mW c3 c4 h' ad' u) hP hD [14, 15, 16, 17, 18, 19, 20, 21, 22, 23, 24, 25, 26] [0, 1, 2, 3, 4, 5, 6, 7, 8, 9, 10, 11, 12, 13] rfl rfl (by decide) (by decide) hk1 hFc hP1 hD1
  exact kk r u H1 locs1 hw ⟨hP2, hD2, hS1⟩
end LC
theorem lw_cond {L i : Nat} (hL : L ≤ 257) (hi : i ≤ 300) (h : ¬ nI L - nI 4 < nI i) : i + 4 ≤ L := by
  have h2 := Int32.not_lt.mp h
  rw [Int32.le_iff_toInt_le, nI_toInt (by omega), pk_sub_toInt (by omega) (by omega)] at h2
  omega
/-- the classes, known at the claim's start -/
theorem lw_classes {s0 : State} {b0 : Addr} (ht0 : ∀ w ∈ lw_tbl, w.before #[Value.ref b0] s0 = true) : ∃ D : va_G, va_K D vwCl [] s0 := by
  obtain ⟨c0_, iS0, hKn0⟩ := u_known (C := RX1) (T := TX1) (N := 16) (n := 16) ht0 (fun w h => lw_all_tbl (in_X1 w h)) (ht0 _ (lw_all_tbl q28))
  obtain ⟨c1_, iS1, hKn1⟩ := u_known (C := RX2) (T := TX2) (N := 14) (n := 14) ht0 (fun w h => lw_all_tbl (in_X2 w h)) (ht0 _ (lw_all_tbl q182))
  refine ⟨(fun k => if k = 0 then c0_ else c1_, fun k => if k = 0 then iS0 else iS1), fun k q hq => ?_, fun k q hk => by simp at hk⟩
  match k, hq with
  | 0, hq => cases hq; exact hKn0
  | 1, hq => cases hq; exact hKn1
  | k + 2, hq => simp [vwCl] at hq

theorem lcX1_source {R rm : Room} {s : State} {args : Array Value} (hts : ∀ w ∈ lw_all, w.before args s = true) (hrc : rm.cells = 0) (hrs : rm.slots = 0) (hR : rm.frames + 1 ≤ R.frames ∧ 8 + (7 + 11) + rm.locals ≤ R.locals) : CallW R s args R_law RX1 21 yX1_source cX1_source 7 (some .int) (ws_ yX1_source cX1_source 7 (some .int)) rm 0 0 3 := cwV 3 hts (lw_V q86 q87 q88 q25 q89) rfl hrc hrs (by decide +kernel) hR
theorem lcX1_process {R rm : Room} {s : State} {args : Array Value} (hts : ∀ w ∈ lw_all, w.before args s = true) (hrc : rm.cells = 0) (hrs : rm.slots = 0) (hR : rm.frames + 1 ≤ R.frames ∧ 8 + (10 + 11) + rm.locals ≤ R.locals) : CallW R s args R_law RX1 26 yX1_process cX1_process 10 (some .int) (ws_ yX1_process cX1_process 10 (some .int)) rm 0 0 3 := cwV 3 hts (lw_V q98 q99 q100 q25 q101) rfl hrc hrs (by decide +kernel) hR
theorem lcX1_clear {R rm : Room} {s : State} {args : Array Value} (hts : ∀ w ∈ lw_all, w.before args s = true) (hrc : rm.cells = 0) (hrs : rm.slots = 0) (hR : rm.frames + 1 ≤ R.frames ∧ 8 + (2 + 11) + rm.locals ≤ R.locals) : CallW R s args R_law RX1 30 yX1_clear cX1_clear 2 (some .int) (ws_ yX1_clear cX1_clear 2 (some .int)) rm 0 0 0 := cwV 0 hts (lw_V q106 q107 q108 q25 q109) rfl hrc hrs (by decide +kernel) hR
theorem lcX1_length {R rm : Room} {s : State} {args : Array Value} (hts : ∀ w ∈ lw_all, w.before args s = true) (hrc : rm.cells = 0) (hrs : rm.slots = 0) (hR : rm.frames + 1 ≤ R.frames ∧ 8 + (2 + 11) + rm.locals ≤ R.locals) : CallW R s args R_law RX1 35 yX1_length cX1_length 2 (some .int) (ws_ yX1_length cX1_length 2 (some .int)) rm 0 0 1 := cwV 1 hts (lw_V q110 q111 q112 q25 q113) rfl hrc hrs (by decide +kernel) hR
theorem lcX1_at {R rm : Room} {s : State} {args : Array Value} (hts : ∀ w ∈ lw_all, w.before args s = true) (hrc : rm.cells = 0) (hrs : rm.slots = 0) (hR : rm.frames + 1 ≤ R.frames ∧ 8 + (3 + 11) + rm.locals ≤ R.locals) : CallW R s args R_law RX1 40 yX1_at cX1_at 3 (some .int) (ws_ yX1_at cX1_at 3 (some .int)) rm 0 0 2 := cwV 2 hts (lw_V q162 q163 q164 q25 q165) rfl hrc hrs (by decide +kernel) hR
theorem lcX1_processes {R rm : Room} {s : State} {args : Array Value} (hts : ∀ w ∈ lw_all, w.before args s = true) (hrc : rm.cells = 0) (hrs : rm.slots = 0) (hR : rm.frames + 1 ≤ R.frames ∧ 8 + (1 + 11) + rm.locals ≤ R.locals) : CallW R s args R_law RX1 45 yX1_processes cX1_processes 1 (some .int) (ws_ yX1_processes cX1_processes 1 (some .int)) rm 0 0 0 := cwV 0 hts (lw_V q166 q167 q168 q25 q169) rfl hrc hrs (by decide +kernel) hR
theorem lcX1_total {R rm : Room} {s : State} {args : Array Value} (hts : ∀ w ∈ lw_all, w.before args s = true) (hrc : rm.cells = 0) (hrs : rm.slots = 0) (hR : rm.frames + 1 ≤ R.frames ∧ 8 + (3 + 11) + rm.locals ≤ R.locals) : CallW R s args R_law RX1 49 yX1_total cX1_total 3 (some .int) (ws_ yX1_total cX1_total 3 (some .int)) rm 0 0 0 := cwV 0 hts (lw_V q170 q171 q172 q25 q173) rfl hrc hrs (by decide +kernel) hR
theorem lcX1_firstDifference {R rm : Room} {s : State} {args : Array Value} (hts : ∀ w ∈ lw_all, w.before args s = true) (hrc : rm.cells = 0) (hrs : rm.slots = 0) (hR : rm.frames + 1 ≤ R.frames ∧ 8 + (4 + 11) + rm.locals ≤ R.locals) : CallW R s args R_law RX1 53 yX1_firstDifference cX1_firstDifference 4 (some .int) (ws_ yX1_firstDifference cX1_firstDifference 4 (some .int)) rm 0 0 2 := cwV 2 hts (lw_V q174 q175 q176 q25 q177) rfl hrc hrs (by decide +kernel) hR
theorem lcX2_source {R rm : Room} {s : State} {args : Array Value} (hts : ∀ w ∈ lw_all, w.before args s = true) (hrc : rm.cells = 0) (hrs : rm.slots = 0) (hR : rm.frames + 1 ≤ R.frames ∧ 8 + (4 + 11) + rm.locals ≤ R.locals) : CallW R s args R_law RX2 25 yX2_source cX2_source 4 (some .int) (ws_ yX2_source cX2_source 4 (some .int)) rm 0 0 3 := cwV 3 hts (lw_V q231 q232 q233 q26 q234) rfl hrc hrs (by decide +kernel) hR
theorem lcX2_process {R rm : Room} {s : State} {args : Array Value} (hts : ∀ w ∈ lw_all, w.before args s = true) (hrc : rm.cells = 0) (hrs : rm.slots = 0) (hR : rm.frames + 1 ≤ R.frames ∧ 8 + (8 + 11) + rm.locals ≤ R.locals) : CallW R s args R_law RX2 29 yX2_process cX2_process 8 (some .int) (ws_ yX2_process cX2_process 8 (some .int)) rm 0 0 3 := cwV 3 hts (lw_V q239 q240 q241 q26 q242) rfl hrc hrs (by decide +kernel) hR
theorem lcX2_clear {R rm : Room} {s : State} {args : Array Value} (hts : ∀ w ∈ lw_all, w.before args s = true) (hrc : rm.cells = 0) (hrs : rm.slots = 0) (hR : rm.frames + 1 ≤ R.frames ∧ 8 + (3 + 11) + rm.locals ≤ R.locals) : CallW R s args R_law RX2 34 yX2_clear cX2_clear 3 (some .int) (ws_ yX2_clear cX2_clear 3 (some .int)) rm 0 0 0 := cwV 0 hts (lw_V q247 q248 q249 q26 q250) rfl hrc hrs (by decide +kernel) hR
theorem lcX2_length {R rm : Room} {s : State} {args : Array Value} (hts : ∀ w ∈ lw_all, w.before args s = true) (hrc : rm.cells = 0) (hrs : rm.slots = 0) (hR : rm.frames + 1 ≤ R.frames ∧ 8 + (2 + 11) + rm.locals ≤ R.locals) : CallW R s args R_law RX2 39 yX2_length cX2_length 2 (some .int) (ws_ yX2_length cX2_length 2 (some .int)) rm 0 0 1 := cwV 1 hts (lw_V q251 q252 q253 q26 q254) rfl hrc hrs (by decide +kernel) hR
theorem lcX2_at {R rm : Room} {s : State} {args : Array Value} (hts : ∀ w ∈ lw_all, w.before args s = true) (hrc : rm.cells = 0) (hrs : rm.slots = 0) (hR : rm.frames + 1 ≤ R.frames ∧ 8 + (3 + 11) + rm.locals ≤ R.locals) : CallW R s args R_law RX2 44 yX2_at cX2_at 3 (some .int) (ws_ yX2_at cX2_at 3 (some .int)) rm 0 0 2 := cwV 2 hts (lw_V q283 q284 q285 q26 q286) rfl hrc hrs (by decide +kernel) hR
theorem lcX2_processes {R rm : Room} {s : State} {args : Array Value} (hts : ∀ w ∈ lw_all, w.before args s = true) (hrc : rm.cells = 0) (hrs : rm.slots = 0) (hR : rm.frames + 1 ≤ R.frames ∧ 8 + (1 + 11) + rm.locals ≤ R.locals) : CallW R s args R_law RX2 48 yX2_processes cX2_processes 1 (some .int) (ws_ yX2_processes cX2_processes 1 (some .int)) rm 0 0 0 := cwV 0 hts (lw_V q287 q288 q289 q26 q290) rfl hrc hrs (by decide +kernel) hR
theorem lcX2_total {R rm : Room} {s : State} {args : Array Value} (hts : ∀ w ∈ lw_all, w.before args s = true) (hrc : rm.cells = 0) (hrs : rm.slots = 0) (hR : rm.frames + 1 ≤ R.frames ∧ 8 + (3 + 11) + rm.locals ≤ R.locals) : CallW R s args R_law RX2 52 yX2_total cX2_total 3 (some .int) (ws_ yX2_total cX2_total 3 (some .int)) rm 0 0 0 := cwV 0 hts (lw_V q291 q292 q293 q26 q294) rfl hrc hrs (by decide +kernel) hR
theorem lcX2_firstDifference {R rm : Room} {s : State} {args : Array Value} (hts : ∀ w ∈ lw_all, w.before args s = true) (hrc : rm.cells = 0) (hrs : rm.slots = 0) (hR : rm.frames + 1 ≤ R.frames ∧ 8 + (4 + 11) + rm.locals ≤ R.locals) : CallW R s args R_law RX2 56 yX2_firstDifference cX2_firstDifference 4 (some .int) (ws_ yX2_firstDifference cX2_firstDifference 4 (some .int)) rm 0 0 2 := cwV 2 hts (lw_V q295 q296 q297 q26 q298) rfl hrc hrs (by decide +kernel) hR
end
section
set_option maxHeartbeats 4000000 in
set_option maxRecDepth 100000 in
theorem law_loop {p : Program} {l : Launch} {e : Env} {s : State} {m : MethodId} {below : List Frame} {meth : Method} {c : Code} {D : va_G} {c1 c2 c3 c4 : ClassId} {h h' : Nat} {ad ad' : Nat → Nat} {b L : Nat} {xs : Nat → Int32} (hL : L ≤ 257) (C0 : lw_At p s m meth c b L xs) (hK : va_K D vwCl [(c1, .byte), (c2, .int), (c3, .boolean), (c4, .int)] s) :
    ∀ (f i : Nat) (N : Net) (σ τ : KS), 300 - i < f → i ≤ 300 → kObj N σ → mNet N τ → ∀ (H : Heap) (locs : List Loc), lI D c1 c2 c3 c4 h ad h' ad' (fun q : Nat => s.heap.size ≤ q) s.heap σ τ H locs → ∀ (ls : Array Slot), lv_has ls 4 [(3, .int (nI i)), (2, .ref h'), (1, .ref h), (0, .ref b)] → W p l e room_1 s m #[Value.ref b] below meth c H locs 27 638 (lw_Z below #[Value.ref b] s) (F0 m 28 ls []) := by
  obtain ⟨hx, hb, hr, hml, hown, hts0, hX, hbl, hlocks, hgv⟩ := C0
  have hts : ∀ w ∈ lw_all, w.before #[Value.ref b] s = true := fun w h => hts0 w (lw_all_tbl h)
  have hA : ∀ q : Nat, s.heap.size ≤ q → (fun q : Nat => s.heap.size ≤ q) q := fun _ h => h
  have hbA : ¬ (fun q : Nat => s.heap.size ≤ q) b := Nat.not_le.mpr hbl
  have S : CallFix p m c cL_law 4 s #[Value.ref b] lw_all R_law := ⟨hx, hb, hml, hown, hts⟩
  intro f
  induction f with
  | zero =>
    intro i N σ τ h1
    exact absurd h1 (by omega)
  | succ f ih =>
    intro i N σ τ hf hi hO hM H locs I ls hl
    refine lv_iload_n hx hb dL_law_28 rfl (lv_at hl 0 rfl) ?_
    refine lv_aload_n hx hb dL_law_29 rfl (lv_at hl 3 rfl) ?_
    refine va_slen hx hb hX hbl hbA I.2.2 dL_law_30 ?_
    refine lv_iconst (v := nI 4) hx hb dL_law_31 (by decide) ?_
    refine lv_isub hx hb dL_law_32 ?_
    refine lv_icmp_gt (tgt := 308) hx hb dL_law_33 (by decide) (fun b1 => ?_) (fun b1 => ?_)
    · refine lv_iconst (v := 1) hx hb dL_law_308 (by decide) ?_
      refine va_forget (fun q hq => I.2.2.2.2 q hq) ?_
      refine W.widen (k := 600000) (n := 7290000) (Nat.le_of_ble_eq_true rfl) (Nat.le_of_ble_eq_true rfl) ?_
      exact lw_ret hx hb hr hlocks dL_law_309
    · have hi4 : i + 4 ≤ L := lw_cond hL hi b1
      refine lv_aload_n hx hb dL_law_36 rfl (lv_at hl 3 rfl) ?_
      refine lv_iload_n hx hb dL_law_37 rfl (lv_at hl 0 rfl) ?_
      refine va_sld hx hb hX hbl hbA I.2.2 (vp_in_nI (show i < L by omega) (by omega)) dL_law_38 ?_
      refine lv_bipush (v := nI 7) hx hb dL_law_39 (by decide) ?_
      refine lv_iand hx hb dL_law_41 ?_
      obtain ⟨j, hj, ej⟩ := pk_andE (xs (nI i).toNatClampNeg) (m := nI 7) 3 (by decide)
      refine kv_top ej ?_
      have hj8 : j = 0 ∨ j = 1 ∨ j = 2 ∨ j = 3 ∨ j = 4 ∨ j = 5 ∨ j = 6 ∨ j = 7 := by omega
      rcases hj8 with rfl | rfl | rfl | rfl | rfl | rfl | rfl | rfl
      · refine lv_tableIn (off := 46) (tgt := 88) hx hb dL_law_42 (by decide) (by decide) (by decide) (by decide) ?_
        refine lv_aload_n hx hb dL_law_88 rfl (lv_at hl 2 rfl) ?_
        refine lv_aload_n hx hb dL_law_89 rfl (lv_at hl 3 rfl) ?_
        refine lv_iload_n hx hb dL_law_90 rfl (lv_at hl 0 rfl) ?_
        refine lv_iconst (v := nI 1) hx hb dL_law_91 (by decide) ?_
        refine lv_iadd hx hb dL_law_92 ?_
        refine kv_top (nI_add _ _) ?_
        refine va_sld hx hb hX hbl hbA I.2.2 (vp_in_nI (show i + 1 < L by omega) (by omega)) dL_law_93 ?_
        refine kv_top (show xs (nI (i + 1)).toNatClampNeg = xs (i + 1) by rw [nI_clamp (by omega)]) ?_
        refine lv_aload_n hx hb dL_law_94 rfl (lv_at hl 3 rfl) ?_
        refine lv_iload_n hx hb dL_law_95 rfl (lv_at hl 0 rfl) ?_
        refine lv_iconst (v := nI 2) hx hb dL_law_96 (by decide) ?_
        refine lv_iadd hx hb dL_law_97 ?_
        refine kv_top (nI_add _ _) ?_
        refine va_sld hx hb hX hbl hbA I.2.2 (vp_in_nI (show i + 2 < L by omega) (by omega)) dL_law_98 ?_
        refine kv_top (show xs (nI (i + 2)).toNatClampNeg = xs (i + 2) by rw [nI_clamp (by omega)]) ?_
        refine lv_aload_n hx hb dL_law_99 rfl (lv_at hl 3 rfl) ?_
        refine lv_iload_n hx hb dL_law_100 rfl (lv_at hl 0 rfl) ?_
        refine lv_iconst (v := nI 3) hx hb dL_law_101 (by decide) ?_
        refine lv_iadd hx hb dL_law_102 ?_
        refine kv_top (nI_add _ _) ?_
        refine va_sld hx hb hX hbl hbA I.2.2 (vp_in_nI (show i + 3 < L by omega) (by omega)) dL_law_103 ?_
        refine kv_top (show xs (nI (i + 3)).toNatClampNeg = xs (i + 3) by rw [nI_clamp (by omega)]) ?_
        refine law_ck S hK I hA (rest := []) (fun A' => metX1_source l D c1 c2 h ad A' σ N hO (xs (i + 1)) (xs (i + 2)) (xs (i + 3))) (lcX1_source hts rfl rfl ⟨Nat.le_of_ble_eq_true rfl, Nat.le_of_ble_eq_true rfl⟩) rfl hl.1 rfl (Nat.le_of_ble_eq_true rfl) ⟨Nat.le_of_ble_eq_true rfl, Nat.le_of_ble_eq_true rfl⟩ dL_law_104 (fun r1 σ1 H locs hw1 I => ?_)
        refine lv_aload_n hx hb dL_law_107 rfl (lv_at hl 1 rfl) ?_
        refine lv_aload_n hx hb dL_law_108 rfl (lv_at hl 3 rfl) ?_
        refine lv_iload_n hx hb dL_law_109 rfl (lv_at hl 0 rfl) ?_
        refine lv_iconst (v := nI 1) hx hb dL_law_110 (by decide) ?_
        refine lv_iadd hx hb dL_law_111 ?_
        refine kv_top (nI_add _ _) ?_
        refine va_sld hx hb hX hbl hbA I.2.2 (vp_in_nI (show i + 1 < L by omega) (by omega)) dL_law_112 ?_
        refine kv_top (show xs (nI (i + 1)).toNatClampNeg = xs (i + 1) by rw [nI_clamp (by omega)]) ?_
        refine lv_aload_n hx hb dL_law_113 rfl (lv_at hl 3 rfl) ?_
        refine lv_iload_n hx hb dL_law_114 rfl (lv_at hl 0 rfl) ?_
        refine lv_iconst (v := nI 2) hx hb dL_law_115 (by decide) ?_
        refine lv_iadd hx hb dL_law_116 ?_
        refine kv_top (nI_add _ _) ?_
        refine va_sld hx hb hX hbl hbA I.2.2 (vp_in_nI (show i + 2 < L by omega) (by omega)) dL_law_117 ?_
        refine kv_top (show xs (nI (i + 2)).toNatClampNeg = xs (i + 2) by rw [nI_clamp (by omega)]) ?_
        refine lv_aload_n hx hb dL_law_118 rfl (lv_at hl 3 rfl) ?_
        refine lv_iload_n hx hb dL_law_119 rfl (lv_at hl 0 rfl) ?_
        refine lv_iconst (v := nI 3) hx hb dL_law_120 (by decide) ?_
        refine lv_iadd hx hb dL_law_121 ?_
        refine kv_top (nI_add _ _) ?_
        refine va_sld hx hb hX hbl hbA I.2.2 (vp_in_nI (show i + 3 < L by omega) (by omega)) dL_law_122 ?_
        refine kv_top (show xs (nI (i + 3)).toNatClampNeg = xs (i + 3) by rw [nI_clamp (by omega)]) ?_
        refine law_cm S hK I hA (rest := [.int r1]) (fun A' => metX2_source l D c3 c4 h' ad' A' τ N hM (xs (i + 1)) (xs (i + 2)) (xs (i + 3))) (lcX2_source hts rfl rfl ⟨Nat.le_of_ble_eq_true rfl, Nat.le_of_ble_eq_true rfl⟩) rfl hl.1 rfl (Nat.le_of_ble_eq_true rfl) ⟨Nat.le_of_ble_eq_true rfl, Nat.le_of_ble_eq_true rfl⟩ dL_law_123 (fun r2 τ1 H locs hw2 I => ?_)
        obtain ⟨N1, ho1, hs1⟩ := hw1
        obtain ⟨N2, ho2, hs2⟩ := hw2
        obtain ⟨er, eN⟩ := sSrc_eq hs1 hs2
        subst eN
        refine lv_icmp_eq (tgt := 302) hx hb dL_law_126 (by decide) (fun b2 => ?_) (fun b2 => ?_)
        · refine lv_iinc (v := nI (i + 4)) (lv' := [(3, .int (nI (i + 4))), (2, .ref h'), (1, .ref h), (0, .ref b)]) hx hb dL_law_302 hl (k := 0) rfl (nI_add i 4) (by decide) rfl (fun ls hl => ?_)
          refine lv_goto (tgt := 28) hx hb dL_law_305 (by decide) ?_
          exact ih (i + 4) N1 σ1 τ1 (by omega) (by omega) ho1 ho2 H locs I ls hl
        · exact absurd er b2
      · refine lv_tableIn (off := 89) (tgt := 131) hx hb dL_law_42 (by decide) (by decide) (by decide) (by decide) ?_
        refine lv_aload_n hx hb dL_law_131 rfl (lv_at hl 2 rfl) ?_
        refine lv_aload_n hx hb dL_law_132 rfl (lv_at hl 3 rfl) ?_
        refine lv_iload_n hx hb dL_law_133 rfl (lv_at hl 0 rfl) ?_
        refine lv_iconst (v := nI 1) hx hb dL_law_134 (by decide) ?_
        refine lv_iadd hx hb dL_law_135 ?_
        refine kv_top (nI_add _ _) ?_
        refine va_sld hx hb hX hbl hbA I.2.2 (vp_in_nI (show i + 1 < L by omega) (by omega)) dL_law_136 ?_
        refine kv_top (show xs (nI (i + 1)).toNatClampNeg = xs (i + 1) by rw [nI_clamp (by omega)]) ?_
        refine lv_aload_n hx hb dL_law_137 rfl (lv_at hl 3 rfl) ?_
        refine lv_iload_n hx hb dL_law_138 rfl (lv_at hl 0 rfl) ?_
        refine lv_iconst (v := nI 2) hx hb dL_law_139 (by decide) ?_
        refine lv_iadd hx hb dL_law_140 ?_
        refine kv_top (nI_add _ _) ?_
        refine va_sld hx hb hX hbl hbA I.2.2 (vp_in_nI (show i + 2 < L by omega) (by omega)) dL_law_141 ?_
        refine kv_top (show xs (nI (i + 2)).toNatClampNeg = xs (i + 2) by rw [nI_clamp (by omega)]) ?_
        refine lv_aload_n hx hb dL_law_142 rfl (lv_at hl 3 rfl) ?_
        refine lv_iload_n hx hb dL_law_143 rfl (lv_at hl 0 rfl) ?_
        refine lv_iconst (v := nI 3) hx hb dL_law_144 (by decide) ?_
        refine lv_iadd hx hb dL_law_145 ?_
        refine kv_top (nI_add _ _) ?_
        refine va_sld hx hb hX hbl hbA I.2.2 (vp_in_nI (show i + 3 < L by omega) (by omega)) dL_law_146 ?_
        refine kv_top (show xs (nI (i + 3)).toNatClampNeg = xs (i + 3) by rw [nI_clamp (by omega)]) ?_
        refine law_ck S hK I hA (rest := []) (fun A' => metX1_process l D c1 c2 h ad A' σ N hO (xs (i + 1)) (xs (i + 2)) (xs (i + 3))) (lcX1_process hts rfl rfl ⟨Nat.le_of_ble_eq_true rfl, Nat.le_of_ble_eq_true rfl⟩) rfl hl.1 rfl (Nat.le_of_ble_eq_true rfl) ⟨Nat.le_of_ble_eq_true rfl, Nat.le_of_ble_eq_true rfl⟩ dL_law_147 (fun r1 σ1 H locs hw1 I => ?_)
        refine lv_aload_n hx hb dL_law_150 rfl (lv_at hl 1 rfl) ?_
        refine lv_aload_n hx hb dL_law_151 rfl (lv_at hl 3 rfl) ?_
        refine lv_iload_n hx hb dL_law_152 rfl (lv_at hl 0 rfl) ?_
        refine lv_iconst (v := nI 1) hx hb dL_law_153 (by decide) ?_
        refine lv_iadd hx hb dL_law_154 ?_
        refine kv_top (nI_add _ _) ?_
        refine va_sld hx hb hX hbl hbA I.2.2 (vp_in_nI (show i + 1 < L by omega) (by omega)) dL_law_155 ?_
        refine kv_top (show xs (nI (i + 1)).toNatClampNeg = xs (i + 1) by rw [nI_clamp (by omega)]) ?_
        refine lv_aload_n hx hb dL_law_156 rfl (lv_at hl 3 rfl) ?_
        refine lv_iload_n hx hb dL_law_157 rfl (lv_at hl 0 rfl) ?_
        refine lv_iconst (v := nI 2) hx hb dL_law_158 (by decide) ?_
        refine lv_iadd hx hb dL_law_159 ?_
        refine kv_top (nI_add _ _) ?_
        refine va_sld hx hb hX hbl hbA I.2.2 (vp_in_nI (show i + 2 < L by omega) (by omega)) dL_law_160 ?_
        refine kv_top (show xs (nI (i + 2)).toNatClampNeg = xs (i + 2) by rw [nI_clamp (by omega)]) ?_
        refine lv_aload_n hx hb dL_law_161 rfl (lv_at hl 3 rfl) ?_
        refine lv_iload_n hx hb dL_law_162 rfl (lv_at hl 0 rfl) ?_
        refine lv_iconst (v := nI 3) hx hb dL_law_163 (by decide) ?_
        refine lv_iadd hx hb dL_law_164 ?_
        refine kv_top (nI_add _ _) ?_
        refine va_sld hx hb hX hbl hbA I.2.2 (vp_in_nI (show i + 3 < L by omega) (by omega)) dL_law_165 ?_
        refine kv_top (show xs (nI (i + 3)).toNatClampNeg = xs (i + 3) by rw [nI_clamp (by omega)]) ?_
        refine law_cm S hK I hA (rest := [.int r1]) (fun A' => metX2_process l D c3 c4 h' ad' A' τ N hM (xs (i + 1)) (xs (i + 2)) (xs (i + 3))) (lcX2_process hts rfl rfl ⟨Nat.le_of_ble_eq_true rfl, Nat.le_of_ble_eq_true rfl⟩) rfl hl.1 rfl (Nat.le_of_ble_eq_true rfl) ⟨Nat.le_of_ble_eq_true rfl, Nat.le_of_ble_eq_true rfl⟩ dL_law_166 (fun r2 τ1 H locs hw2 I => ?_)
        obtain ⟨N1, ho1, hs1⟩ := hw1
        obtain ⟨N2, ho2, hs2⟩ := hw2
        obtain ⟨er, eN⟩ := sPrc_eq hs1 hs2
        subst eN
        refine lv_icmp_eq (tgt := 302) hx hb dL_law_169 (by decide) (fun b2 => ?_) (fun b2 => ?_)
        · refine lv_iinc (v := nI (i + 4)) (lv' := [(3, .int (nI (i + 4))), (2, .ref h'), (1, .ref h), (0, .ref b)]) hx hb dL_law_302 hl (k := 0) rfl (nI_add i 4) (by decide) rfl (fun ls hl => ?_)
          refine lv_goto (tgt := 28) hx hb dL_law_305 (by decide) ?_
          exact ih (i + 4) N1 σ1 τ1 (by omega) (by omega) ho1 ho2 H locs I ls hl
        · exact absurd er b2
      · refine lv_tableIn (off := 132) (tgt := 174) hx hb dL_law_42 (by decide) (by decide) (by decide) (by decide) ?_
        refine lv_aload_n hx hb dL_law_174 rfl (lv_at hl 2 rfl) ?_
        refine law_ck S hK I hA (rest := []) (fun A' => metX1_clear l D c1 c2 h ad A' σ N hO ) (lcX1_clear hts rfl rfl ⟨Nat.le_of_ble_eq_true rfl, Nat.le_of_ble_eq_true rfl⟩) rfl hl.1 rfl (Nat.le_of_ble_eq_true rfl) ⟨Nat.le_of_ble_eq_true rfl, Nat.le_of_ble_eq_true rfl⟩ dL_law_175 (fun r1 σ1 H locs hw1 I => ?_)
        refine lv_aload_n hx hb dL_law_178 rfl (lv_at hl 1 rfl) ?_
        refine law_cm S hK I hA (rest := [.int r1]) (fun A' => metX2_clear l D c3 c4 h' ad' A' τ N hM ) (lcX2_clear hts rfl rfl ⟨Nat.le_of_ble_eq_true rfl, Nat.le_of_ble_eq_true rfl⟩) rfl hl.1 rfl (Nat.le_of_ble_eq_true rfl) ⟨Nat.le_of_ble_eq_true rfl, Nat.le_of_ble_eq_true rfl⟩ dL_law_179 (fun r2 τ1 H locs hw2 I => ?_)
        have er : r1 = r2 := hw1.2.trans hw2.2.symm
        refine lv_icmp_eq (tgt := 302) hx hb dL_law_182 (by decide) (fun b2 => ?_) (fun b2 => ?_)
        · refine lv_iinc (v := nI (i + 4)) (lv' := [(3, .int (nI (i + 4))), (2, .ref h'), (1, .ref h), (0, .ref b)]) hx hb dL_law_302 hl (k := 0) rfl (nI_add i 4) (by decide) rfl (fun ls hl => ?_)
          refine lv_goto (tgt := 28) hx hb dL_law_305 (by decide) ?_
          exact ih (i + 4) (0, N.2) σ1 τ1 (by omega) (by omega) hw1.1 hw2.1 H locs I ls hl
        · exact absurd er b2
      · refine lv_tableIn (off := 145) (tgt := 187) hx hb dL_law_42 (by decide) (by decide) (by decide) (by decide) ?_
        refine lv_aload_n hx hb dL_law_187 rfl (lv_at hl 2 rfl) ?_
        refine lv_aload_n hx hb dL_law_188 rfl (lv_at hl 3 rfl) ?_
        refine lv_iload_n hx hb dL_law_189 rfl (lv_at hl 0 rfl) ?_
        refine lv_iconst (v := nI 1) hx hb dL_law_190 (by decide) ?_
        refine lv_iadd hx hb dL_law_191 ?_
        refine kv_top (nI_add _ _) ?_
        refine va_sld hx hb hX hbl hbA I.2.2 (vp_in_nI (show i + 1 < L by omega) (by omega)) dL_law_192 ?_
        refine kv_top (show xs (nI (i + 1)).toNatClampNeg = xs (i + 1) by rw [nI_clamp (by omega)]) ?_
        refine law_ck S hK I hA (rest := []) (fun A' => metX1_length l D c1 c2 h ad A' σ N hO (xs (i + 1))) (lcX1_length hts rfl rfl ⟨Nat.le_of_ble_eq_true rfl, Nat.le_of_ble_eq_true rfl⟩) rfl hl.1 rfl (Nat.le_of_ble_eq_true rfl) ⟨Nat.le_of_ble_eq_true rfl, Nat.le_of_ble_eq_true rfl⟩ dL_law_193 (fun r1 σ1 H locs hw1 I => ?_)
        refine lv_aload_n hx hb dL_law_196 rfl (lv_at hl 1 rfl) ?_
        refine lv_aload_n hx hb dL_law_197 rfl (lv_at hl 3 rfl) ?_
        refine lv_iload_n hx hb dL_law_198 rfl (lv_at hl 0 rfl) ?_
        refine lv_iconst (v := nI 1) hx hb dL_law_199 (by decide) ?_
        refine lv_iadd hx hb dL_law_200 ?_
        refine kv_top (nI_add _ _) ?_
        refine va_sld hx hb hX hbl hbA I.2.2 (vp_in_nI (show i + 1 < L by omega) (by omega)) dL_law_201 ?_
        refine kv_top (show xs (nI (i + 1)).toNatClampNeg = xs (i + 1) by rw [nI_clamp (by omega)]) ?_
        refine law_cm S hK I hA (rest := [.int r1]) (fun A' => metX2_length l D c3 c4 h' ad' A' τ N hM (xs (i + 1))) (lcX2_length hts rfl rfl ⟨Nat.le_of_ble_eq_true rfl, Nat.le_of_ble_eq_true rfl⟩) rfl hl.1 rfl (Nat.le_of_ble_eq_true rfl) ⟨Nat.le_of_ble_eq_true rfl, Nat.le_of_ble_eq_true rfl⟩ dL_law_202 (fun r2 τ1 H locs hw2 I => ?_)
        have er : r1 = r2 := sLen_eq hw1.2 hw2.2
        refine lv_icmp_eq (tgt := 302) hx hb dL_law_205 (by decide) (fun b2 => ?_) (fun b2 => ?_)
        · refine lv_iinc (v := nI (i + 4)) (lv' := [(3, .int (nI (i + 4))), (2, .ref h'), (1, .ref h), (0, .ref b)]) hx hb dL_law_302 hl (k := 0) rfl (nI_add i 4) (by decide) rfl (fun ls hl => ?_)
          refine lv_goto (tgt := 28) hx hb dL_law_305 (by decide) ?_
          exact ih (i + 4) N σ1 τ1 (by omega) (by omega) hw1.1 hw2.1 H locs I ls hl
        · exact absurd er b2
      · refine lv_tableIn (off := 168) (tgt := 210) hx hb dL_law_42 (by decide) (by decide) (by decide) (by decide) ?_
        refine lv_aload_n hx hb dL_law_210 rfl (lv_at hl 2 rfl) ?_
        refine lv_aload_n hx hb dL_law_211 rfl (lv_at hl 3 rfl) ?_
        refine lv_iload_n hx hb dL_law_212 rfl (lv_at hl 0 rfl) ?_
        refine lv_iconst (v := nI 1) hx hb dL_law_213 (by decide) ?_
        refine lv_iadd hx hb dL_law_214 ?_
        refine kv_top (nI_add _ _) ?_
        refine va_sld hx hb hX hbl hbA I.2.2 (vp_in_nI (show i + 1 < L by omega) (by omega)) dL_law_215 ?_
        refine kv_top (show xs (nI (i + 1)).toNatClampNeg = xs (i + 1) by rw [nI_clamp (by omega)]) ?_
        refine lv_aload_n hx hb dL_law_216 rfl (lv_at hl 3 rfl) ?_
        refine lv_iload_n hx hb dL_law_217 rfl (lv_at hl 0 rfl) ?_
        refine lv_iconst (v := nI 2) hx hb dL_law_218 (by decide) ?_
        refine lv_iadd hx hb dL_law_219 ?_
        refine kv_top (nI_add _ _) ?_
        refine va_sld hx hb hX hbl hbA I.2.2 (vp_in_nI (show i + 2 < L by omega) (by omega)) dL_law_220 ?_
        refine kv_top (show xs (nI (i + 2)).toNatClampNeg = xs (i + 2) by rw [nI_clamp (by omega)]) ?_
        refine law_ck S hK I hA (rest := []) (fun A' => metX1_at l D c1 c2 h ad A' σ N hO (xs (i + 1)) (xs (i + 2))) (lcX1_at hts rfl rfl ⟨Nat.le_of_ble_eq_true rfl, Nat.le_of_ble_eq_true rfl⟩) rfl hl.1 rfl (Nat.le_of_ble_eq_true rfl) ⟨Nat.le_of_ble_eq_true rfl, Nat.le_of_ble_eq_true rfl⟩ dL_law_221 (fun r1 σ1 H locs hw1 I => ?_)
        refine lv_aload_n hx hb dL_law_224 rfl (lv_at hl 1 rfl) ?_
        refine lv_aload_n hx hb dL_law_225 rfl (lv_at hl 3 rfl) ?_
        refine lv_iload_n hx hb dL_law_226 rfl (lv_at hl 0 rfl) ?_
        refine lv_iconst (v := nI 1) hx hb dL_law_227 (by decide) ?_
        refine lv_iadd hx hb dL_law_228 ?_
        refine kv_top (nI_add _ _) ?_
        refine va_sld hx hb hX hbl hbA I.2.2 (vp_in_nI (show i + 1 < L by omega) (by omega)) dL_law_229 ?_
        refine kv_top (show xs (nI (i + 1)).toNatClampNeg = xs (i + 1) by rw [nI_clamp (by omega)]) ?_
        refine lv_aload_n hx hb dL_law_230 rfl (lv_at hl 3 rfl) ?_
        refine lv_iload_n hx hb dL_law_231 rfl (lv_at hl 0 rfl) ?_
        refine lv_iconst (v := nI 2) hx hb dL_law_232 (by decide) ?_
        refine lv_iadd hx hb dL_law_233 ?_
        refine kv_top (nI_add _ _) ?_
        refine va_sld hx hb hX hbl hbA I.2.2 (vp_in_nI (show i + 2 < L by omega) (by omega)) dL_law_234 ?_
        refine kv_top (show xs (nI (i + 2)).toNatClampNeg = xs (i + 2) by rw [nI_clamp (by omega)]) ?_
        refine law_cm S hK I hA (rest := [.int r1]) (fun A' => metX2_at l D c3 c4 h' ad' A' τ N hM (xs (i + 1)) (xs (i + 2))) (lcX2_at hts rfl rfl ⟨Nat.le_of_ble_eq_true rfl, Nat.le_of_ble_eq_true rfl⟩) rfl hl.1 rfl (Nat.le_of_ble_eq_true rfl) ⟨Nat.le_of_ble_eq_true rfl, Nat.le_of_ble_eq_true rfl⟩ dL_law_235 (fun r2 τ1 H locs hw2 I => ?_)
        have er : r1 = r2 := sAt_eq hw1.2 hw2.2
        refine lv_icmp_eq (tgt := 302) hx hb dL_law_238 (by decide) (fun b2 => ?_) (fun b2 => ?_)
        · refine lv_iinc (v := nI (i + 4)) (lv' := [(3, .int (nI (i + 4))), (2, .ref h'), (1, .ref h), (0, .ref b)]) hx hb dL_law_302 hl (k := 0) rfl (nI_add i 4) (by decide) rfl (fun ls hl => ?_)
          refine lv_goto (tgt := 28) hx hb dL_law_305 (by decide) ?_
          exact ih (i + 4) N σ1 τ1 (by omega) (by omega) hw1.1 hw2.1 H locs I ls hl
        · exact absurd er b2
      · refine lv_tableIn (off := 201) (tgt := 243) hx hb dL_law_42 (by decide) (by decide) (by decide) (by decide) ?_
        refine lv_aload_n hx hb dL_law_243 rfl (lv_at hl 2 rfl) ?_
        refine law_ck S hK I hA (rest := []) (fun A' => metX1_processes l D c1 c2 h ad A' σ N hO ) (lcX1_processes hts rfl rfl ⟨Nat.le_of_ble_eq_true rfl, Nat.le_of_ble_eq_true rfl⟩) rfl hl.1 rfl (Nat.le_of_ble_eq_true rfl) ⟨Nat.le_of_ble_eq_true rfl, Nat.le_of_ble_eq_true rfl⟩ dL_law_244 (fun r1 σ1 H locs hw1 I => ?_)
        refine lv_aload_n hx hb dL_law_247 rfl (lv_at hl 1 rfl) ?_
        refine law_cm S hK I hA (rest := [.int r1]) (fun A' => metX2_processes l D c3 c4 h' ad' A' τ N hM ) (lcX2_processes hts rfl rfl ⟨Nat.le_of_ble_eq_true rfl, Nat.le_of_ble_eq_true rfl⟩) rfl hl.1 rfl (Nat.le_of_ble_eq_true rfl) ⟨Nat.le_of_ble_eq_true rfl, Nat.le_of_ble_eq_true rfl⟩ dL_law_248 (fun r2 τ1 H locs hw2 I => ?_)
        have er : r1 = r2 := hw1.2.trans hw2.2.symm
        refine lv_icmp_eq (tgt := 302) hx hb dL_law_251 (by decide) (fun b2 => ?_) (fun b2 => ?_)
        · refine lv_iinc (v := nI (i + 4)) (lv' := [(3, .int (nI (i + 4))), (2, .ref h'), (1, .ref h), (0, .ref b)]) hx hb dL_law_302 hl (k := 0) rfl (nI_add i 4) (by decide) rfl (fun ls hl => ?_)
          refine lv_goto (tgt := 28) hx hb dL_law_305 (by decide) ?_
          exact ih (i + 4) N σ1 τ1 (by omega) (by omega) hw1.1 hw2.1 H locs I ls hl
        · exact absurd er b2
      · refine lv_tableIn (off := 214) (tgt := 256) hx hb dL_law_42 (by decide) (by decide) (by decide) (by decide) ?_
        refine lv_aload_n hx hb dL_law_256 rfl (lv_at hl 2 rfl) ?_
        refine law_ck S hK I hA (rest := []) (fun A' => metX1_total l D c1 c2 h ad A' σ N hO ) (lcX1_total hts rfl rfl ⟨Nat.le_of_ble_eq_true rfl, Nat.le_of_ble_eq_true rfl⟩) rfl hl.1 rfl (Nat.le_of_ble_eq_true rfl) ⟨Nat.le_of_ble_eq_true rfl, Nat.le_of_ble_eq_true rfl⟩ dL_law_257 (fun r1 σ1 H locs hw1 I => ?_)
        refine lv_aload_n hx hb dL_law_260 rfl (lv_at hl 1 rfl) ?_
        refine law_cm S hK I hA (rest := [.int r1]) (fun A' => metX2_total l D c3 c4 h' ad' A' τ N hM ) (lcX2_total hts rfl rfl ⟨Nat.le_of_ble_eq_true rfl, Nat.le_of_ble_eq_true rfl⟩) rfl hl.1 rfl (Nat.le_of_ble_eq_true rfl) ⟨Nat.le_of_ble_eq_true rfl, Nat.le_of_ble_eq_true rfl⟩ dL_law_261 (fun r2 τ1 H locs hw2 I => ?_)
        have er : r1 = r2 := sTot_eq hw1.2 hw2.2
        refine lv_icmp_eq (tgt := 302) hx hb dL_law_264 (by decide) (fun b2 => ?_) (fun b2 => ?_)
        · refine lv_iinc (v := nI (i + 4)) (lv' := [(3, .int (nI (i + 4))), (2, .ref h'), (1, .ref h), (0, .ref b)]) hx hb dL_law_302 hl (k := 0) rfl (nI_add i 4) (by decide) rfl (fun ls hl => ?_)
          refine lv_goto (tgt := 28) hx hb dL_law_305 (by decide) ?_
          exact ih (i + 4) N σ1 τ1 (by omega) (by omega) hw1.1 hw2.1 H locs I ls hl
        · exact absurd er b2
      · refine lv_tableIn (off := 227) (tgt := 269) hx hb dL_law_42 (by decide) (by decide) (by decide) (by decide) ?_
        refine lv_aload_n hx hb dL_law_269 rfl (lv_at hl 2 rfl) ?_
        refine lv_aload_n hx hb dL_law_270 rfl (lv_at hl 3 rfl) ?_
        refine lv_iload_n hx hb dL_law_271 rfl (lv_at hl 0 rfl) ?_
        refine lv_iconst (v := nI 1) hx hb dL_law_272 (by decide) ?_
        refine lv_iadd hx hb dL_law_273 ?_
        refine kv_top (nI_add _ _) ?_
        refine va_sld hx hb hX hbl hbA I.2.2 (vp_in_nI (show i + 1 < L by omega) (by omega)) dL_law_274 ?_
        refine kv_top (show xs (nI (i + 1)).toNatClampNeg = xs (i + 1) by rw [nI_clamp (by omega)]) ?_
        refine lv_aload_n hx hb dL_law_275 rfl (lv_at hl 3 rfl) ?_
        refine lv_iload_n hx hb dL_law_276 rfl (lv_at hl 0 rfl) ?_
        refine lv_iconst (v := nI 2) hx hb dL_law_277 (by decide) ?_
        refine lv_iadd hx hb dL_law_278 ?_
        refine kv_top (nI_add _ _) ?_
        refine va_sld hx hb hX hbl hbA I.2.2 (vp_in_nI (show i + 2 < L by omega) (by omega)) dL_law_279 ?_
        refine kv_top (show xs (nI (i + 2)).toNatClampNeg = xs (i + 2) by rw [nI_clamp (by omega)]) ?_
        refine law_ck S hK I hA (rest := []) (fun A' => metX1_firstDifference l D c1 c2 h ad A' σ N hO (xs (i + 1)) (xs (i + 2))) (lcX1_firstDifference hts rfl rfl ⟨Nat.le_of_ble_eq_true rfl, Nat.le_of_ble_eq_true rfl⟩) rfl hl.1 rfl (Nat.le_of_ble_eq_true rfl) ⟨Nat.le_of_ble_eq_true rfl, Nat.le_of_ble_eq_true rfl⟩ dL_law_280 (fun r1 σ1 H locs hw1 I => ?_)
        refine lv_aload_n hx hb dL_law_283 rfl (lv_at hl 1 rfl) ?_
        refine lv_aload_n hx hb dL_law_284 rfl (lv_at hl 3 rfl) ?_
        refine lv_iload_n hx hb dL_law_285 rfl (lv_at hl 0 rfl) ?_
        refine lv_iconst (v := nI 1) hx hb dL_law_286 (by decide) ?_
        refine lv_iadd hx hb dL_law_287 ?_
        refine kv_top (nI_add _ _) ?_
        refine va_sld hx hb hX hbl hbA I.2.2 (vp_in_nI (show i + 1 < L by omega) (by omega)) dL_law_288 ?_
        refine kv_top (show xs (nI (i + 1)).toNatClampNeg = xs (i + 1) by rw [nI_clamp (by omega)]) ?_
        refine lv_aload_n hx hb dL_law_289 rfl (lv_at hl 3 rfl) ?_
        refine lv_iload_n hx hb dL_law_290 rfl (lv_at hl 0 rfl) ?_
        refine lv_iconst (v := nI 2) hx hb dL_law_291 (by decide) ?_
        refine lv_iadd hx hb dL_law_292 ?_
        refine kv_top (nI_add _ _) ?_
        refine va_sld hx hb hX hbl hbA I.2.2 (vp_in_nI (show i + 2 < L by omega) (by omega)) dL_law_293 ?_
        refine kv_top (show xs (nI (i + 2)).toNatClampNeg = xs (i + 2) by rw [nI_clamp (by omega)]) ?_
        refine law_cm S hK I hA (rest := [.int r1]) (fun A' => metX2_firstDifference l D c3 c4 h' ad' A' τ N hM (xs (i + 1)) (xs (i + 2))) (lcX2_firstDifference hts rfl rfl ⟨Nat.le_of_ble_eq_true rfl, Nat.le_of_ble_eq_true rfl⟩) rfl hl.1 rfl (Nat.le_of_ble_eq_true rfl) ⟨Nat.le_of_ble_eq_true rfl, Nat.le_of_ble_eq_true rfl⟩ dL_law_294 (fun r2 τ1 H locs hw2 I => ?_)
        have er : r1 = r2 := sDif_eq hw1.2 hw2.2
        refine lv_icmp_eq (tgt := 302) hx hb dL_law_297 (by decide) (fun b2 => ?_) (fun b2 => ?_)
        · refine lv_iinc (v := nI (i + 4)) (lv' := [(3, .int (nI (i + 4))), (2, .ref h'), (1, .ref h), (0, .ref b)]) hx hb dL_law_302 hl (k := 0) rfl (nI_add i 4) (by decide) rfl (fun ls hl => ?_)
          refine lv_goto (tgt := 28) hx hb dL_law_305 (by decide) ?_
          exact ih (i + 4) N σ1 τ1 (by omega) (by omega) hw1.1 hw2.1 H locs I ls hl
        · exact absurd er b2
end
section
set_option maxHeartbeats 8000000 in
set_option maxRecDepth 100000 in
theorem whole_start {p : Program} {e : Env} {s : State} {m : MethodId} {below : List Frame} {meth : Method} {c : Code} (l : Launch) {b L : Nat} {xs : Nat → Int32} (hL : L ≤ 257) (C0 : lw_At p s m meth c b L xs) : W p l e room_1 s m #[Value.ref b] below meth c s.heap [] 0 0 (lw_Z below #[Value.ref b] s) (entryFrame m ([Value.ref b] : List Value).toArray 4) := by
  have C1 := C0
  obtain ⟨hx, hb, hr, hml, hown, hts0, hX, hbl, hlocks, hgv⟩ := C0
  have hts : ∀ w ∈ lw_all, w.before #[Value.ref b] s = true := fun w h => hts0 w (lw_all_tbl h)
  obtain ⟨D, hK⟩ := lw_classes hts0
  obtain ⟨A, hAe⟩ : ∃ A : Nat → Prop, A = (fun q : Nat => s.heap.size ≤ q) := ⟨_, rfl⟩
  have hA : ∀ q : Nat, s.heap.size ≤ q → A q := fun q h => by rw [hAe]; exact h
  have hbA : ¬ A b := by rw [hAe]; exact Nat.not_le.mpr hbl
  have S : CallFix p m c cL_law 4 s #[Value.ref b] lw_all R_law := ⟨hx, hb, hml, hown, hts⟩
  have hP : va_P D vwCl [] s.heap := fun k q hk => by simp at hk
  have hD : va_D A [] := ⟨fun i j p q hi => by simp at hi, fun k q hk => by simp at hk⟩
  have hS : va_S A s.heap s.heap [] := va_S.rf
  have hl := lv_entry ([Value.ref b]) (n := 4) (Nat.le_of_ble_eq_true rfl)
  rw [lg_entry_eq]
  generalize (lg_sl ([Value.ref b]) ++ List.replicate (4 - (lg_sl ([Value.ref b])).length) Slot.unset).toArray = ls at hl ⊢
  have hl : lv_has ls 4 [(0, .ref b)] := hl
  refine va_new (ci := 0) (fs := [.int 0, .int 0, .null, .null, .null, .null, .null, .null, .null, .int 0, .null, .null, .null, .null, .null, .null]) (C := RX1) (T := TX1) (N := 16) hx hb hts in_X1 tyX1 tyX1_ok hown (hts _ q27) (hts _ q28) (hts _ q25) hK hP hD hS hA rfl (fun j hj => by
      have hj2 : j = 0 ∨ j = 1 ∨ j = 2 ∨ j = 3 ∨ j = 4 ∨ j = 5 ∨ j = 6 ∨ j = 7 ∨ j = 8 ∨ j = 9 ∨ j = 10 ∨ j = 11 ∨ j = 12 ∨ j = 13 ∨ j = 14 ∨ j = 15 := by omega
      rcases hj2 with rfl | rfl | rfl | rfl | rfl | rfl | rfl | rfl | rfl | rfl | rfl | rfl | rfl | rfl | rfl | rfl <;> rfl) (Nat.le_of_ble_eq_true rfl) (Nat.le_of_ble_eq_true rfl) dL_law_0 (fun o1 H hP hD hS => ?_)
  have hP : va_P D vwCl ([(o1, .inr (0, [.int 0, .int 0, .null, .null, .null, .null, .null, .null, .null, .int 0, .null, .null, .null, .null, .null, .null]))]) H := hP
  have hD : va_D A ([(o1, .inr (0, [.int 0, .int 0, .null, .null, .null, .null, .null, .null, .null, .int 0, .null, .null, .null, .null, .null, .null]))]) := hD
  refine W.widen (k := 1) (n := 16) (Nat.le_of_ble_eq_true rfl) (Nat.le_of_ble_eq_true rfl) ?_
  refine lv_dup hx hb dL_law_3 rfl ?_
  refine lv_aload_n hx hb dL_law_4 rfl (lv_at hl 0 rfl) ?_
  refine lv_iconst (v := nI 0) hx hb dL_law_5 (by decide) ?_
  refine va_calli (va_runS (As := [.ref b, .int (nI 0)]) (rest := [.ref o1, .ref o1]) S (metX0_cell l b L xs hL) (va_cwS 2 hts (lw_S q178 q179 q24 q180) rfl rfl rfl (by decide +kernel) ⟨Nat.le_of_ble_eq_true rfl, Nat.le_of_ble_eq_true rfl⟩) ⟨fun a U g mk q => ⟨q.1, q.2.moved (u := U) (U := U.calling g mk a) (Vm.Alike.refl U.vm)⟩, fun U hU hW => ⟨rfl, by show va_X b L xs U U.heap; rw [hU]; exact (hX.kept (hS.2.1 b hbl hbA)).moved hW.alike⟩⟩ rfl rfl hl.1 rfl (lv_room (Nat.le_of_ble_eq_true rfl)) dL_law_6 ⟨Nat.le_of_ble_eq_true rfl, Nat.le_of_ble_eq_true rfl⟩) hS (fun q _ h => h.elim) (fun q h => h.elim) (fun r1 u t H1 locs ht hvm hw hB hz1 hk1 hS => ?_)
  have hP := hP.kept (H1 := H1) (fun k q hk => hk1 q.1 ((hP k q hk).lt) id)
  generalize H1 = H at hP hS ⊢
  have hPc := hP.sub (ws' := [(o1, .inr (0, [.int 0, .int 0, .null, .null, .null, .null, .null, .null, .null, .int 0, .null, .null, .null, .null, .null, .null]))]) [0] rfl
  have hDc := hD.sub (ws' := [(o1, .inr (0, [.int 0, .int 0, .null, .null, .null, .null, .null, .null, .null, .int 0, .null, .null, .null, .null, .null, .null]))]) [0] (by decide) rfl
  have hKc := hK.sub (tys' := []) [] rfl
  have hFc := va_free (wc := [(o1, .inr (0, [.int 0, .int 0, .null, .null, .null, .null, .null, .null, .null, .int 0, .null, .null, .null, .null, .null, .null]))]) hD hS hA [0] rfl
  refine va_callv (va_runI (As := [.int r1]) (rest := [.ref o1]) S (metX1_init l D o1 H.size r1) (cwI 1 hts (lw_meth q31) rfl rfl rfl (hts _ q25) (hts _ q29) (hts _ q30) rfl (by decide +kernel) ⟨Nat.le_of_ble_eq_true rfl, Nat.le_of_ble_eq_true rfl⟩) ⟨fun a U g mk q => by obtain ⟨q0, q1, qP, qK, qD⟩ := q; exact ⟨q0, q1, qP, va_K.moved (u := U) (U := U.calling g mk a) (Vm.Alike.refl U.vm) qK, qD⟩, fun U hU hW => ⟨rfl, by rw [hU], by rw [hU]; exact hPc, va_K.moved hW.alike hKc, hDc.weaken (fun _ _ _ _ => trivial)⟩⟩ rfl rfl hl.1 rfl (lv_room (Nat.le_of_ble_eq_true rfl)) dL_law_9 ⟨Nat.le_of_ble_eq_true rfl, Nat.le_of_ble_eq_true rfl⟩) hS (fun q _ h => hFc q h) hFc (fun u t H1 locs ht hvm hw1 hB hz1 hk1 hS => ?_)
  refine W.widen (k := 14) (n := 318) (Nat.le_of_ble_eq_true rfl) (Nat.le_of_ble_eq_true rfl) ?_
  obtain ⟨c1, c2, ad, hP1, hK1, hD1⟩ := hB
  rw [ht] at hP1
  have hK1 := va_K.moved hvm.symm hK1
  obtain ⟨hP, hD⟩ := va_join (wr := []) (w1 := kW c1 c2 o1 ad u) hP hD [0] [] rfl rfl (by decide) (by decide) hk1 hFc hP1 hD1
  have hK := (hK.sub (tys' := []) [] rfl).app hK1
  obtain ⟨σ, rfl⟩ : ∃ z, z = u := ⟨_, rfl⟩
  generalize H1 = H at hP hS ⊢
  have hP : va_P D vwCl (kW c1 c2 o1 ad σ) H := hP
  have hD : va_D A (kW c1 c2 o1 ad σ) := hD
  have hK : va_K D vwCl [(c1, .byte), (c2, .int)] s := hK
  refine lv_astore_n (lv' := [(1, .ref o1), (0, .ref b)]) hx hb dL_law_12 rfl hl (by decide) rfl (fun ls hl => ?_)
  refine va_new (ci := 1) (fs := [.int 0, .null, .null, .null, .null, .null, .null, .null, .null, .null, .null, .null, .null, .int 0]) (C := RX2) (T := TX2) (N := 14) hx hb hts in_X2 tyX2 tyX2_ok hown (hts _ q181) (hts _ q182) (hts _ q26) hK hP hD hS hA rfl (fun j hj => by
      have hj2 : j = 0 ∨ j = 1 ∨ j = 2 ∨ j = 3 ∨ j = 4 ∨ j = 5 ∨ j = 6 ∨ j = 7 ∨ j = 8 ∨ j = 9 ∨ j = 10 ∨ j = 11 ∨ j = 12 ∨ j = 13 := by omega
      rcases hj2 with rfl | rfl | rfl | rfl | rfl | rfl | rfl | rfl | rfl | rfl | rfl | rfl | rfl | rfl <;> rfl) (Nat.le_of_ble_eq_true rfl) (Nat.le_of_ble_eq_true rfl) dL_law_13 (fun o2 H hP hD hS => ?_)
  have hP : va_P D vwCl (kW c1 c2 o1 ad σ ++ [(o2, .inr (1, [.int 0, .null, .null, .null, .null, .null, .null, .null, .null, .null, .null, .null, .null, .int 0]))]) H := hP
  have hD : va_D A (kW c1 c2 o1 ad σ ++ [(o2, .inr (1, [.int 0, .null, .null, .null, .null, .null, .null, .null, .null, .null, .null, .null, .null, .int 0]))]) := hD
  refine W.widen (k := 15) (n := 332) (Nat.le_of_ble_eq_true rfl) (Nat.le_of_ble_eq_true rfl) ?_
  refine lv_dup hx hb dL_law_16 rfl ?_
  refine lv_aload_n hx hb dL_law_17 rfl (lv_at hl 1 rfl) ?_
  refine lv_iconst (v := nI 0) hx hb dL_law_18 (by decide) ?_
  refine va_calli (va_runS (As := [.ref b, .int (nI 0)]) (rest := [.ref o2, .ref o2]) S (metX0_cell l b L xs hL) (va_cwS 2 hts (lw_S q178 q179 q24 q180) rfl rfl rfl (by decide +kernel) ⟨Nat.le_of_ble_eq_true rfl, Nat.le_of_ble_eq_true rfl⟩) ⟨fun a U g mk q => ⟨q.1, q.2.moved (u := U) (U := U.calling g mk a) (Vm.Alike.refl U.vm)⟩, fun U hU hW => ⟨rfl, by show va_X b L xs U U.heap; rw [hU]; exact (hX.kept (hS.2.1 b hbl hbA)).moved hW.alike⟩⟩ rfl rfl hl.1 rfl (lv_room (Nat.le_of_ble_eq_true rfl)) dL_law_19 ⟨Nat.le_of_ble_eq_true rfl, Nat.le_of_ble_eq_true rfl⟩) hS (fun q _ h => h.elim) (fun q h => h.elim) (fun r2 u t H1 locs ht hvm hw hB hz1 hk1 hS => ?_)
  have hP := hP.kept (H1 := H1) (fun k q hk => hk1 q.1 ((hP k q hk).lt) id)
  generalize H1 = H at hP hS ⊢
  have hPc := hP.sub (ws' := [(o2, .inr (1, [.int 0, .null, .null, .null, .null, .null, .null, .null, .null, .null, .null, .null, .null, .int 0]))]) [14] rfl
  have hDc := hD.sub (ws' := [(o2, .inr (1, [.int 0, .null, .null, .null, .null, .null, .null, .null, .null, .null, .null, .null, .null, .int 0]))]) [14] (by decide) rfl
  have hKc := hK.sub (tys' := []) [] rfl
  have hFc := va_free (wc := [(o2, .inr (1, [.int 0, .null, .null, .null, .null, .null, .null, .null, .null, .null, .null, .null, .null, .int 0]))]) hD hS hA [14] rfl
  refine va_callv (va_runI (As := [.int r2]) (rest := [.ref o2]) S (metX2_init l D o2 H.size r2) (cwI 1 hts (lw_meth q185) rfl rfl rfl (hts _ q26) (hts _ q183) (hts _ q184) rfl (by decide +kernel) ⟨Nat.le_of_ble_eq_true rfl, Nat.le_of_ble_eq_true rfl⟩) ⟨fun a U g mk q => by obtain ⟨q0, q1, qP, qK, qD⟩ := q; exact ⟨q0, q1, qP, va_K.moved (u := U) (U := U.calling g mk a) (Vm.Alike.refl U.vm) qK, qD⟩, fun U hU hW => ⟨rfl, by rw [hU], by rw [hU]; exact hPc, va_K.moved hW.alike hKc, hDc.weaken (fun _ _ _ _ => trivial)⟩⟩ rfl rfl hl.1 rfl (lv_room (Nat.le_of_ble_eq_true rfl)) dL_law_22 ⟨Nat.le_of_ble_eq_true rfl, Nat.le_of_ble_eq_true rfl⟩) hS (fun q _ h => hFc q h) hFc (fun u t H1 locs ht hvm hw2 hB hz1 hk1 hS => ?_)
  refine W.widen (k := 27) (n := 638) (Nat.le_of_ble_eq_true rfl) (Nat.le_of_ble_eq_true rfl) ?_
  obtain ⟨c3, c4, ad2, hP1, hK1, hD1⟩ := hB
  rw [ht] at hP1
  have hK1 := va_K.moved hvm.symm hK1
  obtain ⟨hP, hD⟩ := va_join (wr := kW c1 c2 o1 ad σ) (w1 := mW c3 c4 o2 ad2 u) hP hD [14] [0, 1, 2, 3, 4, 5, 6, 7, 8, 9, 10, 11, 12, 13] rfl rfl (by decide) (by decide) hk1 hFc hP1 hD1
  have hK := (hK.sub (tys' := [(c1, .byte), (c2, .int)]) [0, 1] rfl).app hK1
  obtain ⟨τ, rfl⟩ : ∃ z, z = u := ⟨_, rfl⟩
  generalize H1 = H at hP hS ⊢
  refine lv_astore_n (lv' := [(2, .ref o2), (1, .ref o1), (0, .ref b)]) hx hb dL_law_25 rfl hl (by decide) rfl (fun ls hl => ?_)
  refine lv_iconst (v := nI 1) hx hb dL_law_26 (by decide) ?_
  refine lv_istore_n (lv' := [(3, .int (nI 1)), (2, .ref o2), (1, .ref o1), (0, .ref b)]) hx hb dL_law_27 rfl hl (by decide) rfl (fun ls hl => ?_)
  rw [hAe] at hD hS
  exact law_loop hL C1 hK 301 1 nN0 σ τ (by omega) (by omega) hw1 hw2 H locs ⟨hP, hD, hS⟩ ls hl
set_option maxHeartbeats 4000000 in
theorem lw_walk (l : Launch) (b : Addr) (xs : List Int32) : MetFree l x (headSpec (Jvm.Cond.code x code maxLocals ret :: tables_1) room_1) (lw_P b xs) (fun _ _ _ _ _ => True) lw_Q := by
  refine MetFree.of_bodyS (code := code) (maxLocals := maxLocals) (ret := ret) (by decide) ?_ ?_
  · intro args s m h hn
    obtain ⟨meth, c, h1, h2, h3, h4, h5, h6, -, -⟩ := Cond.code_spec hn (atoms_spec (ws := Jvm.Cond.code x code maxLocals ret :: tables_1) h _ List.mem_cons_self)
    exact ⟨meth, c, h1, h2, h3, h4, h5, h6⟩
  · intro p e s m args below meth c s₁ B hml0 hP _
    obtain ⟨rfl, hx, hbd, hgv⟩ := hP
    obtain ⟨scr, harrAt, hlist, hof, hsmall⟩ := hx
    obtain ⟨hcb, hkn, -, -⟩ := State.arrayAt?_spec harrAt
    have hown : s.vm.findClass R_law = some m.cls := findClass_of_methodNamed B.named
    have hts0 : ∀ c ∈ (Jvm.Cond.code x code maxLocals ret :: tables_1), c.before #[Value.ref b] s = true := atoms_spec (ws := Jvm.Cond.code x code maxLocals ret :: tables_1) B.pre
    have hts : ∀ w ∈ lw_tbl, w.before #[Value.ref b] s = true := k2_hts_sels lw_privs (fun w hw => hts0 w (List.mem_cons_of_mem _ hw)) lw_privs_ok
    have hml : c.maxLocals = 4 := B.maxLocals_eq (hts0 _ List.mem_cons_self)
    have X₀ : Stand p l e room_1 s m #[Value.ref b] below meth c s₁ [] 0 0 := Stand.of_body B
    have hh0 : s₁.heap = s.heap := by rw [B.state]; rfl
    have hsz : scr.slots.size = xs.length := by rw [← Array.length_toList, hlist, List.length_map]
    have hval : ∀ j : Nat, j < xs.length → scr.slots[j]? = some (.int (xs.getD j 0)) := fun j hj => by
      rw [← Array.getElem?_toList, hlist]
      simp [hj]
    have hbl : b < s.heap.size := (Array.getElem?_eq_some_iff.mp hcb).1
    have hX : va_X b xs.length (fun j => xs.getD j 0) s s.heap := ⟨scr, hcb, hof, hkn, hsz, hval⟩
    have K : W p l e room_1 s m #[Value.ref b] below meth c s₁.heap [] 0 0 (lw_Z below #[Value.ref b] s) (entryFrame m ([Value.ref b] : List Value).toArray 4) := by
      rw [hh0]
      exact whole_start l hbd ⟨B.exec, B.bytes, B.returns, hml, hown, hts, hX, hbl, B.notSynchronized, hgv⟩
    obtain ⟨t, a1, o, b1, b2, b3⟩ := K s₁ rfl X₀
    exact ⟨t, o, a1, b1, b2, b3⟩
theorem lw_pre_spec {args : Array Value} {s : State} (h : (Jvm.Cond.and given_1 narrow_1).before args s = true) (hr : rest_1_c.before args s = true) : ∃ (b : Addr) (xs : List Int32), lw_P b xs args s := by
  have hs := flat_of_before _ h
  have hq := flat_of_before _ hr
  have hc : (Cond.count 1).before args s = true := hs _ (by decide +kernel)
  have harr : (Cond.arrayOf (.arg 0) .int).before args s = true := hs _ (by decide +kernel)
  have hle : (Cond.le (.length (.arg 0)) (.int 257)).before args s = true := hs _ (by decide +kernel)
  have hlen : (Cond.isInt (.length (.arg 0))).before args s = true := hq _ (by decide +kernel)
  have hall : (Cond.all (.arg 0) (.isInt (.elem (.arg 0) (.index 0)))).before args s = true := hq _ (by decide +kernel)
  obtain ⟨b, xs, hb, hx⟩ := State.ints_of_pre rfl harr hlen hall
  have hsm : xs.length < 2 ^ 31 := hx.choose_spec.2.2.2
  have hev : (Term.length (.arg 0)).eval args s none [] s = some (.int xs.length.toInt32) := hx.length_eval hb
  have hv := Cond.le_ints hev (show (Term.int 257).eval args s none [] s = some (.int 257) from rfl)
  have hd : xs.length.toInt32 ≤ 257 := by
    simpa [Cond.before, Cond.holds, hv] using hle
  have hN : xs.length ≤ 257 := (Int32.ofNat_le_ofNat hsm (by decide)).mp (show Int32.ofNat xs.length ≤ Int32.ofNat 257 from hd)
  exact ⟨b, xs, Cond.one_arg hc (show args[0]? = some (.ref b) from hb), hx, hN, h⟩
theorem lw_comes (l : Launch) : Comes l x (Jvm.Cond.code x code maxLocals ret :: tables_1) room_1 (fun tb e args s => Calls_1 tb e args s ∧ rest_1 tb e args s ∧ Pre_1 tb e args s)
    (fun _ _ args s o t => lw_Q args s o t) := by
  intro p e ha hc hk s m args below hf hfit hheap happ hpre
  obtain ⟨b, xs, hP⟩ := lw_pre_spec hpre.2.2 hpre.2.1
  obtain ⟨k, o, h1, h2, h3, hQ⟩ := lw_walk l b xs p e ha hc hk s m args below hf ((Spec.applies_iff_loose hf).mp happ).1 hP trivial
  exact ⟨k, o, h1, h2, h3, hQ⟩
theorem lw_frame {s t : State} {o : Outcome} {args : Array Value} (h : Framed s o t [] 600000 7290000) :
    Framed s o t (fieldLocs frame_1_writes args s ++ arrayLocs frame_1_arrays args s ++ staticLocs frame_1_statics s) 600000 7290000 := h
theorem lw_limb (L : Cond) (hL : ∀ (args : Array Value) (s t : State), L.after args s (.returned (some (.int 1))) t = true) :
    ArmFor flags0 classFile x code maxLocals ret World_1 tables_1 room_1 Calls_1 rest_1 Pre_1
      (fun tb e a s o t => postC L tb e a s o t ∧ Framed s o t (fieldLocs frame_1_writes a s ++ arrayLocs frame_1_arrays a s ++ staticLocs frame_1_statics s) 600000 7290000) := by
  intro l _ _ _ p e ha hc hk s m args below hf hfit hheap happ hpre
  obtain ⟨k, o, h1, h2, h3, rfl, hF⟩ := lw_comes l p e ha hc hk s m args below hf hfit hheap happ hpre
  exact ⟨k, _, h1, h2, h3, hL args s _, lw_frame hF⟩
theorem i_vc : Claimed_1_1 ∧ Claimed_1_2 := ⟨lw_limb limb_1_1 (fun args s t => by simp [limb_1_1, Cond.after, Cond.holds, Cond.value]), lw_limb limb_1_2 (fun args s t => Cond.after_iff.mpr (by
  first | (rw [show limb_1_2 = Cond.eq .result (.int 1) from rfl, Cond.eq_ints (x := 1) (y := 1) rfl rfl]; simp; done) | (simp [limb_1_2, Cond.value, Term.eval]; done)))⟩
end
